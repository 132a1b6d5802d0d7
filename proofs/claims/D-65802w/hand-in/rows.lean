section
/-! PART A of the skeleton (a starting text), then the words, names of methods and fields (printed by gen01.py) -/
/-- a private method of a class that the tables say can be made, by its rows of tables_1 -/
def lw_okq (q : MethodName × Nat) : Prop := (q.1.cls ≠ "java/lang/invoke/MethodHandle" ∧ q.1.cls ≠ "java/lang/invoke/VarHandle") ∧ Cond.instantiable q.1.cls q.2 ∈ tables_1 ∧ Cond.privateMethod q.1 ∈ tables_1 ∧ Cond.instanceMethod q.1 ∈ tables_1
theorem lw_p0 : lw_okq (⟨"java/lang/Throwable", "fillInStackTrace", "(I)Ljava/lang/Throwable;"⟩, 6) := ⟨⟨by decide +kernel, by decide +kernel⟩, List.mem_of_getElem? (i := 96) (by decide +kernel), List.mem_of_getElem? (i := 94) (by decide +kernel), List.mem_of_getElem? (i := 95) (by decide +kernel)⟩
theorem lw_p1 : lw_okq (⟨"KeccakLanes", "put", "(IJ)V"⟩, 3) := ⟨⟨by decide +kernel, by decide +kernel⟩, List.mem_of_getElem? (i := 10) (by decide +kernel), List.mem_of_getElem? (i := 128) (by decide +kernel), List.mem_of_getElem? (i := 129) (by decide +kernel)⟩
theorem lw_p2 : lw_okq (⟨"KeccakLanes", "move", "(II)V"⟩, 3) := ⟨⟨by decide +kernel, by decide +kernel⟩, List.mem_of_getElem? (i := 10) (by decide +kernel), List.mem_of_getElem? (i := 155) (by decide +kernel), List.mem_of_getElem? (i := 156) (by decide +kernel)⟩
theorem lw_p3 : lw_okq (⟨"KeccakLanesModel", "out", "(I)Z"⟩, 7) := ⟨⟨by decide +kernel, by decide +kernel⟩, List.mem_of_getElem? (i := 181) (by decide +kernel), List.mem_of_getElem? (i := 222) (by decide +kernel), List.mem_of_getElem? (i := 223) (by decide +kernel)⟩
theorem lw_p4 : lw_okq (⟨"KeccakLanesModel", "fail", "(I)I"⟩, 7) := ⟨⟨by decide +kernel, by decide +kernel⟩, List.mem_of_getElem? (i := 181) (by decide +kernel), List.mem_of_getElem? (i := 230) (by decide +kernel), List.mem_of_getElem? (i := 231) (by decide +kernel)⟩
theorem lw_p5 : lw_okq (⟨"KeccakLanesModel", "get", "(I)V"⟩, 7) := ⟨⟨by decide +kernel, by decide +kernel⟩, List.mem_of_getElem? (i := 181) (by decide +kernel), List.mem_of_getElem? (i := 234) (by decide +kernel), List.mem_of_getElem? (i := 235) (by decide +kernel)⟩
theorem lw_p6 : lw_okq (⟨"KeccakLanesModel", "taken", "(II)V"⟩, 7) := ⟨⟨by decide +kernel, by decide +kernel⟩, List.mem_of_getElem? (i := 181) (by decide +kernel), List.mem_of_getElem? (i := 238) (by decide +kernel), List.mem_of_getElem? (i := 239) (by decide +kernel)⟩
theorem lw_p7 : lw_okq (⟨"KeccakLanesModel", "permute", "()V"⟩, 7) := ⟨⟨by decide +kernel, by decide +kernel⟩, List.mem_of_getElem? (i := 181) (by decide +kernel), List.mem_of_getElem? (i := 242) (by decide +kernel), List.mem_of_getElem? (i := 243) (by decide +kernel)⟩
theorem lw_p8 : lw_okq (⟨"KeccakLanesModel", "put", "(I)V"⟩, 7) := ⟨⟨by decide +kernel, by decide +kernel⟩, List.mem_of_getElem? (i := 181) (by decide +kernel), List.mem_of_getElem? (i := 250) (by decide +kernel), List.mem_of_getElem? (i := 251) (by decide +kernel)⟩
def lw_privs_1 : List (MethodName × Nat) := [(⟨"java/lang/Throwable", "fillInStackTrace", "(I)Ljava/lang/Throwable;"⟩, 6), (⟨"KeccakLanes", "put", "(IJ)V"⟩, 3), (⟨"KeccakLanes", "move", "(II)V"⟩, 3), (⟨"KeccakLanesModel", "out", "(I)Z"⟩, 7), (⟨"KeccakLanesModel", "fail", "(I)I"⟩, 7), (⟨"KeccakLanesModel", "get", "(I)V"⟩, 7), (⟨"KeccakLanesModel", "taken", "(II)V"⟩, 7), (⟨"KeccakLanesModel", "permute", "()V"⟩, 7), (⟨"KeccakLanesModel", "put", "(I)V"⟩, 7)]
theorem lw_r1 : ∀ q ∈ lw_privs_1, lw_okq q := List.forall_mem_cons.mpr ⟨lw_p0, List.forall_mem_cons.mpr ⟨lw_p1, List.forall_mem_cons.mpr ⟨lw_p2, List.forall_mem_cons.mpr ⟨lw_p3, List.forall_mem_cons.mpr ⟨lw_p4, List.forall_mem_cons.mpr ⟨lw_p5, List.forall_mem_cons.mpr ⟨lw_p6, List.forall_mem_cons.mpr ⟨lw_p7, List.forall_mem_cons.mpr ⟨lw_p8, fun _ h => absurd h List.not_mem_nil⟩⟩⟩⟩⟩⟩⟩⟩⟩
def lw_privs : List (MethodName × Nat) := lw_privs_1
def lw_tbl : List Cond := k2_sels lw_privs ++ tables_1
theorem lw_privs_ok : ∀ q ∈ lw_privs, lw_okq q := lw_r1
def kc_ok (w : Cond) : Bool := (w.onTables && w.keeps) || (match w with | .arrayClass _ => true | _ => false)
/-- the words that stay true while the tables warm: one list for every method -/
def kc_tbl : List Cond := lw_tbl.filter kc_ok
theorem kc_tbl_lw {w : Cond} (h : w ∈ kc_tbl) : w ∈ lw_tbl := (List.mem_filter.mp h).1
theorem kc_mem {w : Cond} (i : Nat) (h : tables_1[i]? = some w) (hk : kc_ok w = true) : w ∈ kc_tbl := List.mem_filter.mpr ⟨List.mem_append_right _ (List.mem_of_getElem? h), hk⟩
theorem kc_mems {w : Cond} (i : Nat) (h : (k2_sels lw_privs)[i]? = some w) (hk : kc_ok w = true) : w ∈ kc_tbl := List.mem_filter.mpr ⟨List.mem_append_left _ (List.mem_of_getElem? h), hk⟩
theorem kc_lwm {w : Cond} (i : Nat) (h : tables_1[i]? = some w) : w ∈ lw_tbl := List.mem_append_right _ (List.mem_of_getElem? h)
theorem kc_good {w : Cond} (h : w ∈ kc_tbl) : (w.onTables && w.keeps) = true ∨ ∃ ty, w = .arrayClass ty := by
  have h2 := (List.mem_filter.mp h).2
  simp only [kc_ok, Bool.or_eq_true] at h2
  rcases h2 with h2 | h2
  · exact Or.inl h2
  · right
    cases w <;> first | exact ⟨_, rfl⟩ | (exact absurd h2 (by simp))
theorem kc_gi {ws : List Cond} (h : ∀ w ∈ ws, w ∈ kc_tbl) : GoodIn kc_tbl ws := fun w hw => ⟨h w hw, kc_good (h w hw)⟩
theorem kc_inC {c : Cond} (h : c ∈ kc_tbl) : ∀ w ∈ c :: kc_tbl, w ∈ kc_tbl := fun w hw => by
  rcases List.mem_cons.mp hw with rfl | hw
  · exact h
  · exact hw
theorem kc_inV {own C : String} {idx : Nat} {y : MethodName} {c : Cond} (h1 : Cond.methodLink own idx y ∈ kc_tbl) (h2 : Cond.instanceMethod y ∈ kc_tbl) (h3 : Cond.selects C y y ∈ kc_tbl) (h4 : Cond.initialized C ∈ kc_tbl) (h5 : c ∈ kc_tbl) : GoodIn kc_tbl (wsV own idx C y (c :: kc_tbl)) := kc_gi fun w hw => by
  simp only [wsV, List.cons_append, List.nil_append, List.mem_cons] at hw
  rcases hw with rfl | rfl | rfl | rfl | rfl | hw
  · exact h1
  · exact h2
  · exact h3
  · exact h4
  · exact h5
  · exact hw
theorem kc_inS {own : String} {idx : Nat} {y : MethodName} {c : Cond} (h1 : Cond.methodLink own idx y ∈ kc_tbl) (h2 : Cond.static y ∈ kc_tbl) (h4 : Cond.initialized y.cls ∈ kc_tbl) (h5 : c ∈ kc_tbl) : GoodIn kc_tbl (va_wsS own idx y (c :: kc_tbl)) := kc_gi fun w hw => by
  simp only [va_wsS, List.cons_append, List.nil_append, List.mem_cons] at hw
  rcases hw with rfl | rfl | rfl | rfl | hw
  · exact h1
  · exact h2
  · exact h4
  · exact h5
  · exact hw
theorem kw_0 : Cond.initialized "KeccakLanesLaw" ∈ kc_tbl := kc_mem 0 (by decide +kernel) (by decide +kernel)
theorem kw_1 : Cond.initialized "KeccakLanes" ∈ kc_tbl := kc_mem 1 (by decide +kernel) (by decide +kernel)
theorem kw_2 : Cond.initialized "KeccakLanes$Mixer" ∈ kc_tbl := kc_mem 2 (by decide +kernel) (by decide +kernel)
theorem kw_3 : Cond.initialized "KeccakLanesModel" ∈ kc_tbl := kc_mem 3 (by decide +kernel) (by decide +kernel)
theorem kw_4 : Cond.initialized "java/lang/Throwable" ∈ kc_tbl := kc_mem 4 (by decide +kernel) (by decide +kernel)
theorem kw_5 : Cond.initialized "java/lang/Exception" ∈ kc_tbl := kc_mem 5 (by decide +kernel) (by decide +kernel)
theorem kw_6 : Cond.initialized "java/lang/RuntimeException" ∈ kc_tbl := kc_mem 6 (by decide +kernel) (by decide +kernel)
theorem kw_7 : Cond.initialized "java/lang/IllegalArgumentException" ∈ kc_tbl := kc_mem 7 (by decide +kernel) (by decide +kernel)
theorem kw_8 : Cond.initialized "java/lang/Long" ∈ kc_tbl := kc_mem 8 (by decide +kernel) (by decide +kernel)
theorem kw_9 : Cond.classLink "KeccakLanesLaw" 8 "KeccakLanes" ∈ kc_tbl := kc_mem 9 (by decide +kernel) (by decide +kernel)
theorem kw_10 : Cond.instantiable "KeccakLanes" 3 ∈ kc_tbl := kc_mem 10 (by decide +kernel) (by decide +kernel)
theorem kw_11 : Cond.methodLink "KeccakLanesLaw" 37 ⟨"KeccakLanes", "<init>", "()V"⟩ ∈ kc_tbl := kc_mem 11 (by decide +kernel) (by decide +kernel)
theorem kw_12 : Cond.instanceMethod ⟨"KeccakLanes", "<init>", "()V"⟩ ∈ kc_tbl := kc_mem 12 (by decide +kernel) (by decide +kernel)
theorem kw_13 : Cond.code ⟨"KeccakLanes", "<init>", "()V"⟩ prog_1_method_1_code 1 none ∈ kc_tbl := kc_mem 13 (by decide +kernel) (by decide +kernel)
theorem kw_14 : Cond.methodLink "KeccakLanes" 1 ⟨"java/lang/Object", "<init>", "()V"⟩ ∈ kc_tbl := kc_mem 14 (by decide +kernel) (by decide +kernel)
theorem kw_15 : Cond.instanceMethod ⟨"java/lang/Object", "<init>", "()V"⟩ ∈ kc_tbl := kc_mem 15 (by decide +kernel) (by decide +kernel)
theorem kw_16 : Cond.code ⟨"java/lang/Object", "<init>", "()V"⟩ object_method_1_code 1 none ∈ kc_tbl := kc_mem 16 (by decide +kernel) (by decide +kernel)
theorem kw_17 : Cond.classLink "KeccakLanes" 7 "KeccakLanes$Mixer" ∈ kc_tbl := kc_mem 17 (by decide +kernel) (by decide +kernel)
theorem kw_18 : Cond.instantiable "KeccakLanes$Mixer" 4 ∈ kc_tbl := kc_mem 18 (by decide +kernel) (by decide +kernel)
theorem kw_19 : Cond.methodLink "KeccakLanes" 9 ⟨"KeccakLanes$Mixer", "<init>", "()V"⟩ ∈ kc_tbl := kc_mem 19 (by decide +kernel) (by decide +kernel)
theorem kw_20 : Cond.instanceMethod ⟨"KeccakLanes$Mixer", "<init>", "()V"⟩ ∈ kc_tbl := kc_mem 20 (by decide +kernel) (by decide +kernel)
theorem kw_21 : Cond.code ⟨"KeccakLanes$Mixer", "<init>", "()V"⟩ prog_2_method_1_code 6 none ∈ kc_tbl := kc_mem 21 (by decide +kernel) (by decide +kernel)
theorem kw_22 : Cond.methodLink "KeccakLanes$Mixer" 1 ⟨"java/lang/Object", "<init>", "()V"⟩ ∈ kc_tbl := kc_mem 22 (by decide +kernel) (by decide +kernel)
theorem kw_23 : Cond.fieldLink "KeccakLanes$Mixer" 7 "KeccakLanes$Mixer" "rounds" "[J" ∈ kc_tbl := kc_mem 23 (by decide +kernel) (by decide +kernel)
theorem kw_24 : Cond.fieldLink "KeccakLanes$Mixer" 13 "KeccakLanes$Mixer" "turns" "[I" ∈ kc_tbl := kc_mem 24 (by decide +kernel) (by decide +kernel)
theorem kw_25 : Cond.fieldLink "KeccakLanes$Mixer" 17 "KeccakLanes$Mixer" "next" "[J" ∈ kc_tbl := kc_mem 25 (by decide +kernel) (by decide +kernel)
theorem kw_26 : Cond.fieldLink "KeccakLanes$Mixer" 20 "KeccakLanes$Mixer" "sides" "[J" ∈ kc_tbl := kc_mem 26 (by decide +kernel) (by decide +kernel)
theorem kw_27 : Cond.laysFinal "KeccakLanes$Mixer" "KeccakLanes$Mixer" "rounds" "[J" ∈ kc_tbl := kc_mem 27 (by decide +kernel) (by decide +kernel)
theorem kw_28 : Cond.soleField "KeccakLanes$Mixer" "rounds" ∈ kc_tbl := kc_mem 28 (by decide +kernel) (by decide +kernel)
theorem kw_29 : Cond.laysFinal "KeccakLanes$Mixer" "KeccakLanes$Mixer" "turns" "[I" ∈ kc_tbl := kc_mem 29 (by decide +kernel) (by decide +kernel)
theorem kw_30 : Cond.soleField "KeccakLanes$Mixer" "turns" ∈ kc_tbl := kc_mem 30 (by decide +kernel) (by decide +kernel)
theorem kw_31 : Cond.laysFinal "KeccakLanes$Mixer" "KeccakLanes$Mixer" "next" "[J" ∈ kc_tbl := kc_mem 31 (by decide +kernel) (by decide +kernel)
theorem kw_32 : Cond.soleField "KeccakLanes$Mixer" "next" ∈ kc_tbl := kc_mem 32 (by decide +kernel) (by decide +kernel)
theorem kw_33 : Cond.laysFinal "KeccakLanes$Mixer" "KeccakLanes$Mixer" "sides" "[J" ∈ kc_tbl := kc_mem 33 (by decide +kernel) (by decide +kernel)
theorem kw_34 : Cond.soleField "KeccakLanes$Mixer" "sides" ∈ kc_tbl := kc_mem 34 (by decide +kernel) (by decide +kernel)
theorem kw_35 : Cond.superclass "KeccakLanes$Mixer" "java/lang/Object" ∈ kc_tbl := kc_mem 35 (by decide +kernel) (by decide +kernel)
theorem kw_36 : Cond.arrayClass .long ∈ kc_tbl := kc_mem 36 (by decide +kernel) (by decide +kernel)
theorem kw_37 : Cond.arrayClass .int ∈ kc_tbl := kc_mem 37 (by decide +kernel) (by decide +kernel)
theorem kw_38 : Cond.fieldLink "KeccakLanes" 10 "KeccakLanes" "mixer" "LKeccakLanes$Mixer;" ∈ kc_tbl := kc_mem 38 (by decide +kernel) (by decide +kernel)
theorem kw_39 : Cond.fieldLink "KeccakLanes" 16 "KeccakLanes" "lanes" "[J" ∈ kc_tbl := kc_mem 39 (by decide +kernel) (by decide +kernel)
theorem kw_40 : Cond.fieldLink "KeccakLanes" 20 "KeccakLanes" "places" "[I" ∈ kc_tbl := kc_mem 40 (by decide +kernel) (by decide +kernel)
theorem kw_41 : Cond.laysFinal "KeccakLanes" "KeccakLanes" "mixer" "LKeccakLanes$Mixer;" ∈ kc_tbl := kc_mem 41 (by decide +kernel) (by decide +kernel)
theorem kw_42 : Cond.soleField "KeccakLanes" "mixer" ∈ kc_tbl := kc_mem 42 (by decide +kernel) (by decide +kernel)
theorem kw_43 : Cond.laysFinal "KeccakLanes" "KeccakLanes" "lanes" "[J" ∈ kc_tbl := kc_mem 43 (by decide +kernel) (by decide +kernel)
theorem kw_44 : Cond.soleField "KeccakLanes" "lanes" ∈ kc_tbl := kc_mem 44 (by decide +kernel) (by decide +kernel)
theorem kw_45 : Cond.laysFinal "KeccakLanes" "KeccakLanes" "places" "[I" ∈ kc_tbl := kc_mem 45 (by decide +kernel) (by decide +kernel)
theorem kw_46 : Cond.soleField "KeccakLanes" "places" ∈ kc_tbl := kc_mem 46 (by decide +kernel) (by decide +kernel)
theorem kw_47 : Cond.superclass "KeccakLanes" "java/lang/Object" ∈ kc_tbl := kc_mem 47 (by decide +kernel) (by decide +kernel)
theorem kw_48 : Cond.methodLink "KeccakLanesLaw" 41 ⟨"KeccakLanesLaw", "clear", "(LKeccakLanes;I)I"⟩ ∈ kc_tbl := kc_mem 48 (by decide +kernel) (by decide +kernel)
theorem kw_49 : Cond.static ⟨"KeccakLanesLaw", "clear", "(LKeccakLanes;I)I"⟩ ∈ kc_tbl := kc_mem 49 (by decide +kernel) (by decide +kernel)
theorem kw_50 : Cond.codeWith ⟨"KeccakLanesLaw", "clear", "(LKeccakLanes;I)I"⟩ method_3_code 3 (some .int) [(0, 5, 8, 13)] ∈ kc_tbl := kc_mem 50 (by decide +kernel) (by decide +kernel)
theorem kw_51 : Cond.classLink "KeccakLanesLaw" 13 "java/lang/IllegalArgumentException" ∈ kc_tbl := kc_mem 51 (by decide +kernel) (by decide +kernel)
theorem kw_52 : Cond.methodLink "KeccakLanesLaw" 7 ⟨"KeccakLanes", "clear", "(I)V"⟩ ∈ kc_tbl := kc_mem 52 (by decide +kernel) (by decide +kernel)
theorem kw_53 : Cond.instanceMethod ⟨"KeccakLanes", "clear", "(I)V"⟩ ∈ kc_tbl := kc_mem 53 (by decide +kernel) (by decide +kernel)
theorem kw_54 : Cond.selects "KeccakLanes" ⟨"KeccakLanes", "clear", "(I)V"⟩ ⟨"KeccakLanes", "clear", "(I)V"⟩ ∈ kc_tbl := kc_mem 54 (by decide +kernel) (by decide +kernel)
theorem kw_55 : Cond.code ⟨"KeccakLanes", "clear", "(I)V"⟩ prog_1_method_4_code 3 none ∈ kc_tbl := kc_mem 55 (by decide +kernel) (by decide +kernel)
theorem kw_56 : Cond.methodLink "KeccakLanes" 33 ⟨"KeccakLanes", "in", "(II)V"⟩ ∈ kc_tbl := kc_mem 56 (by decide +kernel) (by decide +kernel)
theorem kw_57 : Cond.static ⟨"KeccakLanes", "in", "(II)V"⟩ ∈ kc_tbl := kc_mem 57 (by decide +kernel) (by decide +kernel)
theorem kw_58 : Cond.code ⟨"KeccakLanes", "in", "(II)V"⟩ prog_1_method_2_code 2 none ∈ kc_tbl := kc_mem 58 (by decide +kernel) (by decide +kernel)
theorem kw_59 : Cond.classLink "KeccakLanes" 24 "java/lang/IllegalArgumentException" ∈ kc_tbl := kc_mem 59 (by decide +kernel) (by decide +kernel)
theorem kw_60 : Cond.instantiable "java/lang/IllegalArgumentException" 6 ∈ kc_tbl := kc_mem 60 (by decide +kernel) (by decide +kernel)
theorem kw_61 : Cond.castable "java/lang/IllegalArgumentException" "java/lang/IllegalArgumentException" ∈ lw_tbl := kc_lwm 61 (by decide +kernel)
theorem kw_62 : Cond.declares ⟨"java/lang/RuntimeException", "<init>", "()V"⟩ ∈ lw_tbl := kc_lwm 62 (by decide +kernel)
theorem kw_63 : Cond.declares ⟨"java/lang/RuntimeException", "<init>", "(Ljava/lang/String;)V"⟩ ∈ lw_tbl := kc_lwm 63 (by decide +kernel)
theorem kw_64 : Cond.declares ⟨"java/lang/Exception", "<init>", "()V"⟩ ∈ lw_tbl := kc_lwm 64 (by decide +kernel)
theorem kw_65 : Cond.declares ⟨"java/lang/Exception", "<init>", "(Ljava/lang/String;)V"⟩ ∈ lw_tbl := kc_lwm 65 (by decide +kernel)
theorem kw_66 : Cond.declares ⟨"java/lang/Throwable", "<init>", "()V"⟩ ∈ lw_tbl := kc_lwm 66 (by decide +kernel)
theorem kw_67 : Cond.declares ⟨"java/lang/Throwable", "<init>", "(Ljava/lang/String;)V"⟩ ∈ lw_tbl := kc_lwm 67 (by decide +kernel)
theorem kw_68 : Cond.selects "java/lang/IllegalArgumentException" ⟨"java/lang/Throwable", "fillInStackTrace", "(I)Ljava/lang/Throwable;"⟩ ⟨"java/lang/Throwable", "fillInStackTrace", "(I)Ljava/lang/Throwable;"⟩ ∈ kc_tbl := kc_mem 68 (by decide +kernel) (by decide +kernel)
theorem kw_69 : Cond.selects "java/lang/IllegalArgumentException" ⟨"java/lang/Throwable", "fillInStackTrace", "()Ljava/lang/Throwable;"⟩ ⟨"java/lang/Throwable", "fillInStackTrace", "()Ljava/lang/Throwable;"⟩ ∈ kc_tbl := kc_mem 69 (by decide +kernel) (by decide +kernel)
theorem kw_70 : Cond.lays "java/lang/IllegalArgumentException" "java/lang/Throwable" "cause" "Ljava/lang/Throwable;" ∈ kc_tbl := kc_mem 70 (by decide +kernel) (by decide +kernel)
theorem kw_71 : Cond.lays "java/lang/Throwable" "java/lang/Throwable" "cause" "Ljava/lang/Throwable;" ∈ kc_tbl := kc_mem 71 (by decide +kernel) (by decide +kernel)
theorem kw_72 : Cond.lays "java/lang/IllegalArgumentException" "java/lang/Throwable" "stackTrace" "[Ljava/lang/StackTraceElement;" ∈ kc_tbl := kc_mem 72 (by decide +kernel) (by decide +kernel)
theorem kw_73 : Cond.lays "java/lang/Throwable" "java/lang/Throwable" "stackTrace" "[Ljava/lang/StackTraceElement;" ∈ kc_tbl := kc_mem 73 (by decide +kernel) (by decide +kernel)
theorem kw_74 : Cond.lays "java/lang/IllegalArgumentException" "java/lang/Throwable" "suppressedExceptions" "Ljava/util/List;" ∈ kc_tbl := kc_mem 74 (by decide +kernel) (by decide +kernel)
theorem kw_75 : Cond.lays "java/lang/Throwable" "java/lang/Throwable" "suppressedExceptions" "Ljava/util/List;" ∈ kc_tbl := kc_mem 75 (by decide +kernel) (by decide +kernel)
theorem kw_76 : Cond.lays "java/lang/IllegalArgumentException" "java/lang/Throwable" "detailMessage" "Ljava/lang/String;" ∈ kc_tbl := kc_mem 76 (by decide +kernel) (by decide +kernel)
theorem kw_77 : Cond.lays "java/lang/Throwable" "java/lang/Throwable" "detailMessage" "Ljava/lang/String;" ∈ kc_tbl := kc_mem 77 (by decide +kernel) (by decide +kernel)
theorem kw_78 : Cond.lays "java/lang/IllegalArgumentException" "java/lang/Throwable" "backtrace" "Ljava/lang/Object;" ∈ kc_tbl := kc_mem 78 (by decide +kernel) (by decide +kernel)
theorem kw_79 : Cond.lays "java/lang/Throwable" "java/lang/Throwable" "backtrace" "Ljava/lang/Object;" ∈ kc_tbl := kc_mem 79 (by decide +kernel) (by decide +kernel)
theorem kw_80 : Cond.fieldLink "java/lang/Throwable" 198 "java/lang/Throwable" "backtrace" "Ljava/lang/Object;" ∈ kc_tbl := kc_mem 80 (by decide +kernel) (by decide +kernel)
theorem kw_81 : Cond.superclass "java/lang/Throwable" "java/lang/Object" ∈ kc_tbl := kc_mem 81 (by decide +kernel) (by decide +kernel)
theorem kw_82 : Cond.instanceMethod ⟨"java/lang/Throwable", "<init>", "()V"⟩ ∈ kc_tbl := kc_mem 82 (by decide +kernel) (by decide +kernel)
theorem kw_83 : Cond.code ⟨"java/lang/Throwable", "<init>", "()V"⟩ prog_9_method_1_code 1 none ∈ kc_tbl := kc_mem 83 (by decide +kernel) (by decide +kernel)
theorem kw_84 : Cond.methodLink "java/lang/Throwable" 1 ⟨"java/lang/Object", "<init>", "()V"⟩ ∈ kc_tbl := kc_mem 84 (by decide +kernel) (by decide +kernel)
theorem kw_85 : Cond.fieldLink "java/lang/Throwable" 13 "java/lang/Throwable" "UNASSIGNED_STACK" "[Ljava/lang/StackTraceElement;" ∈ kc_tbl := kc_mem 85 (by decide +kernel) (by decide +kernel)
theorem kw_86 : Cond.laysStatic "java/lang/Throwable" "UNASSIGNED_STACK" "[Ljava/lang/StackTraceElement;" ∈ lw_tbl := kc_lwm 86 (by decide +kernel)
theorem kw_87 : Cond.fieldLink "java/lang/Throwable" 20 "java/lang/Throwable" "SUPPRESSED_SENTINEL" "Ljava/util/List;" ∈ kc_tbl := kc_mem 87 (by decide +kernel) (by decide +kernel)
theorem kw_88 : Cond.laysStatic "java/lang/Throwable" "SUPPRESSED_SENTINEL" "Ljava/util/List;" ∈ lw_tbl := kc_lwm 88 (by decide +kernel)
theorem kw_89 : Cond.methodLink "java/lang/Throwable" 27 ⟨"java/lang/Throwable", "fillInStackTrace", "()Ljava/lang/Throwable;"⟩ ∈ kc_tbl := kc_mem 89 (by decide +kernel) (by decide +kernel)
theorem kw_90 : Cond.instanceMethod ⟨"java/lang/Throwable", "fillInStackTrace", "()Ljava/lang/Throwable;"⟩ ∈ kc_tbl := kc_mem 90 (by decide +kernel) (by decide +kernel)
theorem kw_91 : Cond.sameMethod "java/lang/Throwable" "java/lang/Throwable" "fillInStackTrace" "()Ljava/lang/Throwable;" ∈ kc_tbl := kc_mem 91 (by decide +kernel) (by decide +kernel)
theorem kw_92 : Cond.codeSync ⟨"java/lang/Throwable", "fillInStackTrace", "()Ljava/lang/Throwable;"⟩ prog_9_method_18_code 1 (some (.object "java/lang/Throwable")) ∈ kc_tbl := kc_mem 92 (by decide +kernel) (by decide +kernel)
theorem kw_93 : Cond.methodLink "java/lang/Throwable" 202 ⟨"java/lang/Throwable", "fillInStackTrace", "(I)Ljava/lang/Throwable;"⟩ ∈ kc_tbl := kc_mem 93 (by decide +kernel) (by decide +kernel)
theorem kw_94 : Cond.privateMethod ⟨"java/lang/Throwable", "fillInStackTrace", "(I)Ljava/lang/Throwable;"⟩ ∈ lw_tbl := kc_lwm 94 (by decide +kernel)
theorem kw_95 : Cond.instanceMethod ⟨"java/lang/Throwable", "fillInStackTrace", "(I)Ljava/lang/Throwable;"⟩ ∈ kc_tbl := kc_mem 95 (by decide +kernel) (by decide +kernel)
theorem kw_96 : Cond.instantiable "java/lang/Throwable" 6 ∈ kc_tbl := kc_mem 96 (by decide +kernel) (by decide +kernel)
theorem kw_97 : Cond.native ⟨"java/lang/Throwable", "fillInStackTrace", "(I)Ljava/lang/Throwable;"⟩ ∈ kc_tbl := kc_mem 97 (by decide +kernel) (by decide +kernel)
theorem kw_98 : Cond.methodLink "KeccakLanes" 26 ⟨"java/lang/IllegalArgumentException", "<init>", "()V"⟩ ∈ kc_tbl := kc_mem 98 (by decide +kernel) (by decide +kernel)
theorem kw_99 : Cond.instanceMethod ⟨"java/lang/IllegalArgumentException", "<init>", "()V"⟩ ∈ kc_tbl := kc_mem 99 (by decide +kernel) (by decide +kernel)
theorem kw_100 : Cond.code ⟨"java/lang/IllegalArgumentException", "<init>", "()V"⟩ prog_6_method_1_code 1 none ∈ kc_tbl := kc_mem 100 (by decide +kernel) (by decide +kernel)
theorem kw_101 : Cond.methodLink "java/lang/IllegalArgumentException" 1 ⟨"java/lang/RuntimeException", "<init>", "()V"⟩ ∈ kc_tbl := kc_mem 101 (by decide +kernel) (by decide +kernel)
theorem kw_102 : Cond.instanceMethod ⟨"java/lang/RuntimeException", "<init>", "()V"⟩ ∈ kc_tbl := kc_mem 102 (by decide +kernel) (by decide +kernel)
theorem kw_103 : Cond.code ⟨"java/lang/RuntimeException", "<init>", "()V"⟩ prog_8_method_1_code 1 none ∈ kc_tbl := kc_mem 103 (by decide +kernel) (by decide +kernel)
theorem kw_104 : Cond.methodLink "java/lang/RuntimeException" 1 ⟨"java/lang/Exception", "<init>", "()V"⟩ ∈ kc_tbl := kc_mem 104 (by decide +kernel) (by decide +kernel)
theorem kw_105 : Cond.instanceMethod ⟨"java/lang/Exception", "<init>", "()V"⟩ ∈ kc_tbl := kc_mem 105 (by decide +kernel) (by decide +kernel)
theorem kw_106 : Cond.code ⟨"java/lang/Exception", "<init>", "()V"⟩ prog_5_method_1_code 1 none ∈ kc_tbl := kc_mem 106 (by decide +kernel) (by decide +kernel)
theorem kw_107 : Cond.methodLink "java/lang/Exception" 1 ⟨"java/lang/Throwable", "<init>", "()V"⟩ ∈ kc_tbl := kc_mem 107 (by decide +kernel) (by decide +kernel)
theorem kw_108 : Cond.fieldLink "java/lang/Throwable" 198 "java/lang/Throwable" "backtrace" "Ljava/lang/Object;" ∈ kc_tbl := kc_mem 108 (by decide +kernel) (by decide +kernel)
theorem kw_109 : Cond.fieldLink "java/lang/Throwable" 7 "java/lang/Throwable" "cause" "Ljava/lang/Throwable;" ∈ kc_tbl := kc_mem 109 (by decide +kernel) (by decide +kernel)
theorem kw_110 : Cond.fieldLink "java/lang/Throwable" 17 "java/lang/Throwable" "stackTrace" "[Ljava/lang/StackTraceElement;" ∈ kc_tbl := kc_mem 110 (by decide +kernel) (by decide +kernel)
theorem kw_111 : Cond.fieldLink "java/lang/Throwable" 24 "java/lang/Throwable" "suppressedExceptions" "Ljava/util/List;" ∈ kc_tbl := kc_mem 111 (by decide +kernel) (by decide +kernel)
theorem kw_112 : Cond.soleField "java/lang/Throwable" "backtrace" ∈ kc_tbl := kc_mem 112 (by decide +kernel) (by decide +kernel)
theorem kw_113 : Cond.soleField "java/lang/Throwable" "detailMessage" ∈ kc_tbl := kc_mem 113 (by decide +kernel) (by decide +kernel)
theorem kw_114 : Cond.soleField "java/lang/Throwable" "cause" ∈ kc_tbl := kc_mem 114 (by decide +kernel) (by decide +kernel)
theorem kw_115 : Cond.soleField "java/lang/Throwable" "stackTrace" ∈ kc_tbl := kc_mem 115 (by decide +kernel) (by decide +kernel)
theorem kw_116 : Cond.lays "java/lang/IllegalArgumentException" "java/lang/Throwable" "depth" "I" ∈ kc_tbl := kc_mem 116 (by decide +kernel) (by decide +kernel)
theorem kw_117 : Cond.soleField "java/lang/Throwable" "depth" ∈ kc_tbl := kc_mem 117 (by decide +kernel) (by decide +kernel)
theorem kw_118 : Cond.soleField "java/lang/Throwable" "suppressedExceptions" ∈ kc_tbl := kc_mem 118 (by decide +kernel) (by decide +kernel)
theorem kw_119 : Cond.superclass "java/lang/IllegalArgumentException" "java/lang/RuntimeException" ∈ kc_tbl := kc_mem 119 (by decide +kernel) (by decide +kernel)
theorem kw_120 : Cond.methodLink "KeccakLanesLaw" 53 ⟨"KeccakLanesLaw", "take", "(LKeccakLanes;IJI[J)I"⟩ ∈ kc_tbl := kc_mem 120 (by decide +kernel) (by decide +kernel)
theorem kw_121 : Cond.static ⟨"KeccakLanesLaw", "take", "(LKeccakLanes;IJI[J)I"⟩ ∈ kc_tbl := kc_mem 121 (by decide +kernel) (by decide +kernel)
theorem kw_122 : Cond.codeWith ⟨"KeccakLanesLaw", "take", "(LKeccakLanes;IJI[J)I"⟩ method_4_code 7 (some .int) [(0, 13, 16, 13)] ∈ kc_tbl := kc_mem 122 (by decide +kernel) (by decide +kernel)
theorem kw_123 : Cond.methodLink "KeccakLanesLaw" 15 ⟨"KeccakLanes", "take", "(IJI)I"⟩ ∈ kc_tbl := kc_mem 123 (by decide +kernel) (by decide +kernel)
theorem kw_124 : Cond.instanceMethod ⟨"KeccakLanes", "take", "(IJI)I"⟩ ∈ kc_tbl := kc_mem 124 (by decide +kernel) (by decide +kernel)
theorem kw_125 : Cond.selects "KeccakLanes" ⟨"KeccakLanes", "take", "(IJI)I"⟩ ⟨"KeccakLanes", "take", "(IJI)I"⟩ ∈ kc_tbl := kc_mem 125 (by decide +kernel) (by decide +kernel)
theorem kw_126 : Cond.code ⟨"KeccakLanes", "take", "(IJI)I"⟩ prog_1_method_5_code 6 (some .int) ∈ kc_tbl := kc_mem 126 (by decide +kernel) (by decide +kernel)
theorem kw_127 : Cond.methodLink "KeccakLanes" 37 ⟨"KeccakLanes", "put", "(IJ)V"⟩ ∈ kc_tbl := kc_mem 127 (by decide +kernel) (by decide +kernel)
theorem kw_128 : Cond.privateMethod ⟨"KeccakLanes", "put", "(IJ)V"⟩ ∈ lw_tbl := kc_lwm 128 (by decide +kernel)
theorem kw_129 : Cond.instanceMethod ⟨"KeccakLanes", "put", "(IJ)V"⟩ ∈ kc_tbl := kc_mem 129 (by decide +kernel) (by decide +kernel)
theorem kw_130 : Cond.code ⟨"KeccakLanes", "put", "(IJ)V"⟩ prog_1_method_3_code 4 none ∈ kc_tbl := kc_mem 130 (by decide +kernel) (by decide +kernel)
theorem kw_131 : Cond.constantLong "KeccakLanes" 27 (255) ∈ kc_tbl := kc_mem 131 (by decide +kernel) (by decide +kernel)
theorem kw_132 : Cond.methodLink "KeccakLanes" 29 ⟨"KeccakLanes$Mixer", "mix", "([JI)V"⟩ ∈ kc_tbl := kc_mem 132 (by decide +kernel) (by decide +kernel)
theorem kw_133 : Cond.instanceMethod ⟨"KeccakLanes$Mixer", "mix", "([JI)V"⟩ ∈ kc_tbl := kc_mem 133 (by decide +kernel) (by decide +kernel)
theorem kw_134 : Cond.selects "KeccakLanes$Mixer" ⟨"KeccakLanes$Mixer", "mix", "([JI)V"⟩ ⟨"KeccakLanes$Mixer", "mix", "([JI)V"⟩ ∈ kc_tbl := kc_mem 134 (by decide +kernel) (by decide +kernel)
theorem kw_135 : Cond.code ⟨"KeccakLanes$Mixer", "mix", "([JI)V"⟩ prog_2_method_3_code 8 none ∈ kc_tbl := kc_mem 135 (by decide +kernel) (by decide +kernel)
theorem kw_136 : Cond.methodLink "KeccakLanes$Mixer" 23 ⟨"KeccakLanes$Mixer", "turn", "(JI)J"⟩ ∈ kc_tbl := kc_mem 136 (by decide +kernel) (by decide +kernel)
theorem kw_137 : Cond.static ⟨"KeccakLanes$Mixer", "turn", "(JI)J"⟩ ∈ kc_tbl := kc_mem 137 (by decide +kernel) (by decide +kernel)
theorem kw_138 : Cond.code ⟨"KeccakLanes$Mixer", "turn", "(JI)J"⟩ prog_2_method_2_code 3 (some .long) ∈ kc_tbl := kc_mem 138 (by decide +kernel) (by decide +kernel)
theorem kw_139 : Cond.constantLong "KeccakLanes$Mixer" 27 (-1) ∈ kc_tbl := kc_mem 139 (by decide +kernel) (by decide +kernel)
theorem kw_140 : Cond.methodLink "KeccakLanesLaw" 57 ⟨"KeccakLanesLaw", "fill", "(LKeccakLanes;IIII[J)I"⟩ ∈ kc_tbl := kc_mem 140 (by decide +kernel) (by decide +kernel)
theorem kw_141 : Cond.static ⟨"KeccakLanesLaw", "fill", "(LKeccakLanes;IIII[J)I"⟩ ∈ kc_tbl := kc_mem 141 (by decide +kernel) (by decide +kernel)
theorem kw_142 : Cond.codeWith ⟨"KeccakLanesLaw", "fill", "(LKeccakLanes;IIII[J)I"⟩ method_5_code 7 (some .int) [(0, 14, 17, 13)] ∈ kc_tbl := kc_mem 142 (by decide +kernel) (by decide +kernel)
theorem kw_143 : Cond.methodLink "KeccakLanesLaw" 19 ⟨"KeccakLanes", "fill", "(IIII)I"⟩ ∈ kc_tbl := kc_mem 143 (by decide +kernel) (by decide +kernel)
theorem kw_144 : Cond.instanceMethod ⟨"KeccakLanes", "fill", "(IIII)I"⟩ ∈ kc_tbl := kc_mem 144 (by decide +kernel) (by decide +kernel)
theorem kw_145 : Cond.selects "KeccakLanes" ⟨"KeccakLanes", "fill", "(IIII)I"⟩ ⟨"KeccakLanes", "fill", "(IIII)I"⟩ ∈ kc_tbl := kc_mem 145 (by decide +kernel) (by decide +kernel)
theorem kw_146 : Cond.code ⟨"KeccakLanes", "fill", "(IIII)I"⟩ prog_1_method_6_code 6 (some .int) ∈ kc_tbl := kc_mem 146 (by decide +kernel) (by decide +kernel)
theorem kw_147 : Cond.methodLink "KeccakLanesLaw" 61 ⟨"KeccakLanesLaw", "copy", "(LKeccakLanes;II)I"⟩ ∈ kc_tbl := kc_mem 147 (by decide +kernel) (by decide +kernel)
theorem kw_148 : Cond.static ⟨"KeccakLanesLaw", "copy", "(LKeccakLanes;II)I"⟩ ∈ kc_tbl := kc_mem 148 (by decide +kernel) (by decide +kernel)
theorem kw_149 : Cond.codeWith ⟨"KeccakLanesLaw", "copy", "(LKeccakLanes;II)I"⟩ method_6_code 4 (some .int) [(0, 6, 9, 13)] ∈ kc_tbl := kc_mem 149 (by decide +kernel) (by decide +kernel)
theorem kw_150 : Cond.methodLink "KeccakLanesLaw" 23 ⟨"KeccakLanes", "copy", "(II)V"⟩ ∈ kc_tbl := kc_mem 150 (by decide +kernel) (by decide +kernel)
theorem kw_151 : Cond.instanceMethod ⟨"KeccakLanes", "copy", "(II)V"⟩ ∈ kc_tbl := kc_mem 151 (by decide +kernel) (by decide +kernel)
theorem kw_152 : Cond.selects "KeccakLanes" ⟨"KeccakLanes", "copy", "(II)V"⟩ ⟨"KeccakLanes", "copy", "(II)V"⟩ ∈ kc_tbl := kc_mem 152 (by decide +kernel) (by decide +kernel)
theorem kw_153 : Cond.code ⟨"KeccakLanes", "copy", "(II)V"⟩ prog_1_method_8_code 3 none ∈ kc_tbl := kc_mem 153 (by decide +kernel) (by decide +kernel)
theorem kw_154 : Cond.methodLink "KeccakLanes" 41 ⟨"KeccakLanes", "move", "(II)V"⟩ ∈ kc_tbl := kc_mem 154 (by decide +kernel) (by decide +kernel)
theorem kw_155 : Cond.privateMethod ⟨"KeccakLanes", "move", "(II)V"⟩ ∈ lw_tbl := kc_lwm 155 (by decide +kernel)
theorem kw_156 : Cond.instanceMethod ⟨"KeccakLanes", "move", "(II)V"⟩ ∈ kc_tbl := kc_mem 156 (by decide +kernel) (by decide +kernel)
theorem kw_157 : Cond.code ⟨"KeccakLanes", "move", "(II)V"⟩ prog_1_method_7_code 4 none ∈ kc_tbl := kc_mem 157 (by decide +kernel) (by decide +kernel)
theorem kw_158 : Cond.methodLink "KeccakLanesLaw" 65 ⟨"KeccakLanesLaw", "mix", "(LKeccakLanes;I)I"⟩ ∈ kc_tbl := kc_mem 158 (by decide +kernel) (by decide +kernel)
theorem kw_159 : Cond.static ⟨"KeccakLanesLaw", "mix", "(LKeccakLanes;I)I"⟩ ∈ kc_tbl := kc_mem 159 (by decide +kernel) (by decide +kernel)
theorem kw_160 : Cond.codeWith ⟨"KeccakLanesLaw", "mix", "(LKeccakLanes;I)I"⟩ method_7_code 3 (some .int) [(0, 5, 8, 13)] ∈ kc_tbl := kc_mem 160 (by decide +kernel) (by decide +kernel)
theorem kw_161 : Cond.methodLink "KeccakLanesLaw" 27 ⟨"KeccakLanes", "mix", "(I)V"⟩ ∈ kc_tbl := kc_mem 161 (by decide +kernel) (by decide +kernel)
theorem kw_162 : Cond.instanceMethod ⟨"KeccakLanes", "mix", "(I)V"⟩ ∈ kc_tbl := kc_mem 162 (by decide +kernel) (by decide +kernel)
theorem kw_163 : Cond.selects "KeccakLanes" ⟨"KeccakLanes", "mix", "(I)V"⟩ ⟨"KeccakLanes", "mix", "(I)V"⟩ ∈ kc_tbl := kc_mem 163 (by decide +kernel) (by decide +kernel)
theorem kw_164 : Cond.code ⟨"KeccakLanes", "mix", "(I)V"⟩ prog_1_method_9_code 2 none ∈ kc_tbl := kc_mem 164 (by decide +kernel) (by decide +kernel)
theorem kw_165 : Cond.methodLink "KeccakLanesLaw" 68 ⟨"KeccakLanesLaw", "lane", "(LKeccakLanes;II[J)I"⟩ ∈ kc_tbl := kc_mem 165 (by decide +kernel) (by decide +kernel)
theorem kw_166 : Cond.static ⟨"KeccakLanesLaw", "lane", "(LKeccakLanes;II[J)I"⟩ ∈ kc_tbl := kc_mem 166 (by decide +kernel) (by decide +kernel)
theorem kw_167 : Cond.codeWith ⟨"KeccakLanesLaw", "lane", "(LKeccakLanes;II[J)I"⟩ method_8_code 5 (some .int) [(0, 9, 12, 13)] ∈ kc_tbl := kc_mem 167 (by decide +kernel) (by decide +kernel)
theorem kw_168 : Cond.methodLink "KeccakLanesLaw" 30 ⟨"KeccakLanes", "lane", "(II)J"⟩ ∈ kc_tbl := kc_mem 168 (by decide +kernel) (by decide +kernel)
theorem kw_169 : Cond.instanceMethod ⟨"KeccakLanes", "lane", "(II)J"⟩ ∈ kc_tbl := kc_mem 169 (by decide +kernel) (by decide +kernel)
theorem kw_170 : Cond.selects "KeccakLanes" ⟨"KeccakLanes", "lane", "(II)J"⟩ ⟨"KeccakLanes", "lane", "(II)J"⟩ ∈ kc_tbl := kc_mem 170 (by decide +kernel) (by decide +kernel)
theorem kw_171 : Cond.code ⟨"KeccakLanes", "lane", "(II)J"⟩ prog_1_method_10_code 3 (some .long) ∈ kc_tbl := kc_mem 171 (by decide +kernel) (by decide +kernel)
theorem kw_172 : Cond.methodLink "KeccakLanesLaw" 72 ⟨"KeccakLanesLaw", "digest", "(LKeccakLanes;II[J)I"⟩ ∈ kc_tbl := kc_mem 172 (by decide +kernel) (by decide +kernel)
theorem kw_173 : Cond.static ⟨"KeccakLanesLaw", "digest", "(LKeccakLanes;II[J)I"⟩ ∈ kc_tbl := kc_mem 173 (by decide +kernel) (by decide +kernel)
theorem kw_174 : Cond.codeWith ⟨"KeccakLanesLaw", "digest", "(LKeccakLanes;II[J)I"⟩ method_9_code 5 (some .int) [(0, 9, 12, 13)] ∈ kc_tbl := kc_mem 174 (by decide +kernel) (by decide +kernel)
theorem kw_175 : Cond.methodLink "KeccakLanesLaw" 34 ⟨"KeccakLanes", "digest", "(II)J"⟩ ∈ kc_tbl := kc_mem 175 (by decide +kernel) (by decide +kernel)
theorem kw_176 : Cond.instanceMethod ⟨"KeccakLanes", "digest", "(II)J"⟩ ∈ kc_tbl := kc_mem 176 (by decide +kernel) (by decide +kernel)
theorem kw_177 : Cond.selects "KeccakLanes" ⟨"KeccakLanes", "digest", "(II)J"⟩ ⟨"KeccakLanes", "digest", "(II)J"⟩ ∈ kc_tbl := kc_mem 177 (by decide +kernel) (by decide +kernel)
theorem kw_178 : Cond.code ⟨"KeccakLanes", "digest", "(II)J"⟩ prog_1_method_11_code 7 (some .long) ∈ kc_tbl := kc_mem 178 (by decide +kernel) (by decide +kernel)
theorem kw_179 : Cond.constantLong "KeccakLanes" 44 (-9223372036854775808) ∈ kc_tbl := kc_mem 179 (by decide +kernel) (by decide +kernel)
theorem kw_180 : Cond.classLink "KeccakLanesLaw" 38 "KeccakLanesModel" ∈ kc_tbl := kc_mem 180 (by decide +kernel) (by decide +kernel)
theorem kw_181 : Cond.instantiable "KeccakLanesModel" 7 ∈ kc_tbl := kc_mem 181 (by decide +kernel) (by decide +kernel)
theorem kw_182 : Cond.methodLink "KeccakLanesLaw" 40 ⟨"KeccakLanesModel", "<init>", "()V"⟩ ∈ kc_tbl := kc_mem 182 (by decide +kernel) (by decide +kernel)
theorem kw_183 : Cond.instanceMethod ⟨"KeccakLanesModel", "<init>", "()V"⟩ ∈ kc_tbl := kc_mem 183 (by decide +kernel) (by decide +kernel)
theorem kw_184 : Cond.code ⟨"KeccakLanesModel", "<init>", "()V"⟩ prog_4_method_3_code 2 none ∈ kc_tbl := kc_mem 184 (by decide +kernel) (by decide +kernel)
theorem kw_185 : Cond.methodLink "KeccakLanesModel" 24 ⟨"java/lang/Object", "<init>", "()V"⟩ ∈ kc_tbl := kc_mem 185 (by decide +kernel) (by decide +kernel)
theorem kw_186 : Cond.classLink "KeccakLanesModel" 30 "[[J" ∈ kc_tbl := kc_mem 186 (by decide +kernel) (by decide +kernel)
theorem kw_187 : Cond.arrayOver (.array .long) ∈ lw_tbl := kc_lwm 187 (by decide +kernel)
theorem kw_188 : Cond.methodLink "KeccakLanesModel" 39 ⟨"KeccakLanesModel", "constant", "(I)J"⟩ ∈ kc_tbl := kc_mem 188 (by decide +kernel) (by decide +kernel)
theorem kw_189 : Cond.static ⟨"KeccakLanesModel", "constant", "(I)J"⟩ ∈ kc_tbl := kc_mem 189 (by decide +kernel) (by decide +kernel)
theorem kw_190 : Cond.code ⟨"KeccakLanesModel", "constant", "(I)J"⟩ prog_4_method_1_code 7 (some .long) ∈ kc_tbl := kc_mem 190 (by decide +kernel) (by decide +kernel)
theorem kw_191 : Cond.fieldLink "KeccakLanesModel" 43 "KeccakLanesModel" "failed" "I" ∈ kc_tbl := kc_mem 191 (by decide +kernel) (by decide +kernel)
theorem kw_192 : Cond.fieldLink "KeccakLanesModel" 32 "KeccakLanesModel" "states" "[[J" ∈ kc_tbl := kc_mem 192 (by decide +kernel) (by decide +kernel)
theorem kw_193 : Cond.fieldLink "KeccakLanesModel" 35 "KeccakLanesModel" "places" "[I" ∈ kc_tbl := kc_mem 193 (by decide +kernel) (by decide +kernel)
theorem kw_194 : Cond.fieldLink "KeccakLanesModel" 7 "KeccakLanesModel" "lanes" "[J" ∈ kc_tbl := kc_mem 194 (by decide +kernel) (by decide +kernel)
theorem kw_195 : Cond.fieldLink "KeccakLanesModel" 1 "KeccakLanesModel" "column" "[J" ∈ kc_tbl := kc_mem 195 (by decide +kernel) (by decide +kernel)
theorem kw_196 : Cond.fieldLink "KeccakLanesModel" 16 "KeccakLanesModel" "moved" "[J" ∈ kc_tbl := kc_mem 196 (by decide +kernel) (by decide +kernel)
theorem kw_197 : Cond.fieldLink "KeccakLanesModel" 21 "KeccakLanesModel" "constants" "[J" ∈ kc_tbl := kc_mem 197 (by decide +kernel) (by decide +kernel)
theorem kw_198 : Cond.lays "KeccakLanesModel" "KeccakLanesModel" "failed" "I" ∈ kc_tbl := kc_mem 198 (by decide +kernel) (by decide +kernel)
theorem kw_199 : Cond.soleField "KeccakLanesModel" "failed" ∈ kc_tbl := kc_mem 199 (by decide +kernel) (by decide +kernel)
theorem kw_200 : Cond.laysFinal "KeccakLanesModel" "KeccakLanesModel" "states" "[[J" ∈ kc_tbl := kc_mem 200 (by decide +kernel) (by decide +kernel)
theorem kw_201 : Cond.soleField "KeccakLanesModel" "states" ∈ kc_tbl := kc_mem 201 (by decide +kernel) (by decide +kernel)
theorem kw_202 : Cond.laysFinal "KeccakLanesModel" "KeccakLanesModel" "places" "[I" ∈ kc_tbl := kc_mem 202 (by decide +kernel) (by decide +kernel)
theorem kw_203 : Cond.soleField "KeccakLanesModel" "places" ∈ kc_tbl := kc_mem 203 (by decide +kernel) (by decide +kernel)
theorem kw_204 : Cond.laysFinal "KeccakLanesModel" "KeccakLanesModel" "lanes" "[J" ∈ kc_tbl := kc_mem 204 (by decide +kernel) (by decide +kernel)
theorem kw_205 : Cond.soleField "KeccakLanesModel" "lanes" ∈ kc_tbl := kc_mem 205 (by decide +kernel) (by decide +kernel)
theorem kw_206 : Cond.laysFinal "KeccakLanesModel" "KeccakLanesModel" "column" "[J" ∈ kc_tbl := kc_mem 206 (by decide +kernel) (by decide +kernel)
theorem kw_207 : Cond.soleField "KeccakLanesModel" "column" ∈ kc_tbl := kc_mem 207 (by decide +kernel) (by decide +kernel)
theorem kw_208 : Cond.laysFinal "KeccakLanesModel" "KeccakLanesModel" "moved" "[J" ∈ kc_tbl := kc_mem 208 (by decide +kernel) (by decide +kernel)
theorem kw_209 : Cond.soleField "KeccakLanesModel" "moved" ∈ kc_tbl := kc_mem 209 (by decide +kernel) (by decide +kernel)
theorem kw_210 : Cond.laysFinal "KeccakLanesModel" "KeccakLanesModel" "constants" "[J" ∈ kc_tbl := kc_mem 210 (by decide +kernel) (by decide +kernel)
theorem kw_211 : Cond.soleField "KeccakLanesModel" "constants" ∈ kc_tbl := kc_mem 211 (by decide +kernel) (by decide +kernel)
theorem kw_212 : Cond.superclass "KeccakLanesModel" "java/lang/Object" ∈ kc_tbl := kc_mem 212 (by decide +kernel) (by decide +kernel)
theorem kw_213 : Cond.methodLink "KeccakLanesLaw" 47 ⟨"KeccakLanesModel", "thrown", "()I"⟩ ∈ kc_tbl := kc_mem 213 (by decide +kernel) (by decide +kernel)
theorem kw_214 : Cond.instanceMethod ⟨"KeccakLanesModel", "thrown", "()I"⟩ ∈ kc_tbl := kc_mem 214 (by decide +kernel) (by decide +kernel)
theorem kw_215 : Cond.selects "KeccakLanesModel" ⟨"KeccakLanesModel", "thrown", "()I"⟩ ⟨"KeccakLanesModel", "thrown", "()I"⟩ ∈ kc_tbl := kc_mem 215 (by decide +kernel) (by decide +kernel)
theorem kw_216 : Cond.code ⟨"KeccakLanesModel", "thrown", "()I"⟩ prog_4_method_4_code 1 (some .int) ∈ kc_tbl := kc_mem 216 (by decide +kernel) (by decide +kernel)
theorem kw_217 : Cond.methodLink "KeccakLanesLaw" 46 ⟨"KeccakLanesModel", "clear", "(I)V"⟩ ∈ kc_tbl := kc_mem 217 (by decide +kernel) (by decide +kernel)
theorem kw_218 : Cond.instanceMethod ⟨"KeccakLanesModel", "clear", "(I)V"⟩ ∈ kc_tbl := kc_mem 218 (by decide +kernel) (by decide +kernel)
theorem kw_219 : Cond.selects "KeccakLanesModel" ⟨"KeccakLanesModel", "clear", "(I)V"⟩ ⟨"KeccakLanesModel", "clear", "(I)V"⟩ ∈ kc_tbl := kc_mem 219 (by decide +kernel) (by decide +kernel)
theorem kw_220 : Cond.code ⟨"KeccakLanesModel", "clear", "(I)V"⟩ prog_4_method_9_code 3 none ∈ kc_tbl := kc_mem 220 (by decide +kernel) (by decide +kernel)
theorem kw_221 : Cond.methodLink "KeccakLanesModel" 47 ⟨"KeccakLanesModel", "out", "(I)Z"⟩ ∈ kc_tbl := kc_mem 221 (by decide +kernel) (by decide +kernel)
theorem kw_222 : Cond.privateMethod ⟨"KeccakLanesModel", "out", "(I)Z"⟩ ∈ lw_tbl := kc_lwm 222 (by decide +kernel)
theorem kw_223 : Cond.instanceMethod ⟨"KeccakLanesModel", "out", "(I)Z"⟩ ∈ kc_tbl := kc_mem 223 (by decide +kernel) (by decide +kernel)
theorem kw_224 : Cond.code ⟨"KeccakLanesModel", "out", "(I)Z"⟩ prog_4_method_6_code 2 (some .boolean) ∈ kc_tbl := kc_mem 224 (by decide +kernel) (by decide +kernel)
theorem kw_225 : Cond.methodLink "KeccakLanesLaw" 56 ⟨"KeccakLanesModel", "take", "(IJI)I"⟩ ∈ kc_tbl := kc_mem 225 (by decide +kernel) (by decide +kernel)
theorem kw_226 : Cond.instanceMethod ⟨"KeccakLanesModel", "take", "(IJI)I"⟩ ∈ kc_tbl := kc_mem 226 (by decide +kernel) (by decide +kernel)
theorem kw_227 : Cond.selects "KeccakLanesModel" ⟨"KeccakLanesModel", "take", "(IJI)I"⟩ ⟨"KeccakLanesModel", "take", "(IJI)I"⟩ ∈ kc_tbl := kc_mem 227 (by decide +kernel) (by decide +kernel)
theorem kw_228 : Cond.code ⟨"KeccakLanesModel", "take", "(IJI)I"⟩ prog_4_method_11_code 6 (some .int) ∈ kc_tbl := kc_mem 228 (by decide +kernel) (by decide +kernel)
theorem kw_229 : Cond.methodLink "KeccakLanesModel" 54 ⟨"KeccakLanesModel", "fail", "(I)I"⟩ ∈ kc_tbl := kc_mem 229 (by decide +kernel) (by decide +kernel)
theorem kw_230 : Cond.privateMethod ⟨"KeccakLanesModel", "fail", "(I)I"⟩ ∈ lw_tbl := kc_lwm 230 (by decide +kernel)
theorem kw_231 : Cond.instanceMethod ⟨"KeccakLanesModel", "fail", "(I)I"⟩ ∈ kc_tbl := kc_mem 231 (by decide +kernel) (by decide +kernel)
theorem kw_232 : Cond.code ⟨"KeccakLanesModel", "fail", "(I)I"⟩ prog_4_method_5_code 2 (some .int) ∈ kc_tbl := kc_mem 232 (by decide +kernel) (by decide +kernel)
theorem kw_233 : Cond.methodLink "KeccakLanesModel" 58 ⟨"KeccakLanesModel", "get", "(I)V"⟩ ∈ kc_tbl := kc_mem 233 (by decide +kernel) (by decide +kernel)
theorem kw_234 : Cond.privateMethod ⟨"KeccakLanesModel", "get", "(I)V"⟩ ∈ lw_tbl := kc_lwm 234 (by decide +kernel)
theorem kw_235 : Cond.instanceMethod ⟨"KeccakLanesModel", "get", "(I)V"⟩ ∈ kc_tbl := kc_mem 235 (by decide +kernel) (by decide +kernel)
theorem kw_236 : Cond.code ⟨"KeccakLanesModel", "get", "(I)V"⟩ prog_4_method_7_code 3 none ∈ kc_tbl := kc_mem 236 (by decide +kernel) (by decide +kernel)
theorem kw_237 : Cond.methodLink "KeccakLanesModel" 62 ⟨"KeccakLanesModel", "taken", "(II)V"⟩ ∈ kc_tbl := kc_mem 237 (by decide +kernel) (by decide +kernel)
theorem kw_238 : Cond.privateMethod ⟨"KeccakLanesModel", "taken", "(II)V"⟩ ∈ lw_tbl := kc_lwm 238 (by decide +kernel)
theorem kw_239 : Cond.instanceMethod ⟨"KeccakLanesModel", "taken", "(II)V"⟩ ∈ kc_tbl := kc_mem 239 (by decide +kernel) (by decide +kernel)
theorem kw_240 : Cond.code ⟨"KeccakLanesModel", "taken", "(II)V"⟩ prog_4_method_10_code 4 none ∈ kc_tbl := kc_mem 240 (by decide +kernel) (by decide +kernel)
theorem kw_241 : Cond.methodLink "KeccakLanesModel" 51 ⟨"KeccakLanesModel", "permute", "()V"⟩ ∈ kc_tbl := kc_mem 241 (by decide +kernel) (by decide +kernel)
theorem kw_242 : Cond.privateMethod ⟨"KeccakLanesModel", "permute", "()V"⟩ ∈ lw_tbl := kc_lwm 242 (by decide +kernel)
theorem kw_243 : Cond.instanceMethod ⟨"KeccakLanesModel", "permute", "()V"⟩ ∈ kc_tbl := kc_mem 243 (by decide +kernel) (by decide +kernel)
theorem kw_244 : Cond.code ⟨"KeccakLanesModel", "permute", "()V"⟩ prog_4_method_2_code 6 none ∈ kc_tbl := kc_mem 244 (by decide +kernel) (by decide +kernel)
theorem kw_245 : Cond.methodLink "KeccakLanesModel" 10 ⟨"java/lang/Long", "rotateLeft", "(JI)J"⟩ ∈ kc_tbl := kc_mem 245 (by decide +kernel) (by decide +kernel)
theorem kw_246 : Cond.static ⟨"java/lang/Long", "rotateLeft", "(JI)J"⟩ ∈ kc_tbl := kc_mem 246 (by decide +kernel) (by decide +kernel)
theorem kw_247 : Cond.code ⟨"java/lang/Long", "rotateLeft", "(JI)J"⟩ prog_7_method_51_code 3 (some .long) ∈ kc_tbl := kc_mem 247 (by decide +kernel) (by decide +kernel)
theorem kw_248 : Cond.constantLong "KeccakLanesModel" 19 (-1) ∈ kc_tbl := kc_mem 248 (by decide +kernel) (by decide +kernel)
theorem kw_249 : Cond.methodLink "KeccakLanesModel" 66 ⟨"KeccakLanesModel", "put", "(I)V"⟩ ∈ kc_tbl := kc_mem 249 (by decide +kernel) (by decide +kernel)
theorem kw_250 : Cond.privateMethod ⟨"KeccakLanesModel", "put", "(I)V"⟩ ∈ lw_tbl := kc_lwm 250 (by decide +kernel)
theorem kw_251 : Cond.instanceMethod ⟨"KeccakLanesModel", "put", "(I)V"⟩ ∈ kc_tbl := kc_mem 251 (by decide +kernel) (by decide +kernel)
theorem kw_252 : Cond.code ⟨"KeccakLanesModel", "put", "(I)V"⟩ prog_4_method_8_code 3 none ∈ kc_tbl := kc_mem 252 (by decide +kernel) (by decide +kernel)
theorem kw_253 : Cond.methodLink "KeccakLanesLaw" 60 ⟨"KeccakLanesModel", "fill", "(IIII)I"⟩ ∈ kc_tbl := kc_mem 253 (by decide +kernel) (by decide +kernel)
theorem kw_254 : Cond.instanceMethod ⟨"KeccakLanesModel", "fill", "(IIII)I"⟩ ∈ kc_tbl := kc_mem 254 (by decide +kernel) (by decide +kernel)
theorem kw_255 : Cond.selects "KeccakLanesModel" ⟨"KeccakLanesModel", "fill", "(IIII)I"⟩ ⟨"KeccakLanesModel", "fill", "(IIII)I"⟩ ∈ kc_tbl := kc_mem 255 (by decide +kernel) (by decide +kernel)
theorem kw_256 : Cond.code ⟨"KeccakLanesModel", "fill", "(IIII)I"⟩ prog_4_method_12_code 6 (some .int) ∈ kc_tbl := kc_mem 256 (by decide +kernel) (by decide +kernel)
theorem kw_257 : Cond.methodLink "KeccakLanesLaw" 64 ⟨"KeccakLanesModel", "copy", "(II)V"⟩ ∈ kc_tbl := kc_mem 257 (by decide +kernel) (by decide +kernel)
theorem kw_258 : Cond.instanceMethod ⟨"KeccakLanesModel", "copy", "(II)V"⟩ ∈ kc_tbl := kc_mem 258 (by decide +kernel) (by decide +kernel)
theorem kw_259 : Cond.selects "KeccakLanesModel" ⟨"KeccakLanesModel", "copy", "(II)V"⟩ ⟨"KeccakLanesModel", "copy", "(II)V"⟩ ∈ kc_tbl := kc_mem 259 (by decide +kernel) (by decide +kernel)
theorem kw_260 : Cond.code ⟨"KeccakLanesModel", "copy", "(II)V"⟩ prog_4_method_13_code 3 none ∈ kc_tbl := kc_mem 260 (by decide +kernel) (by decide +kernel)
theorem kw_261 : Cond.methodLink "KeccakLanesLaw" 67 ⟨"KeccakLanesModel", "mix", "(I)V"⟩ ∈ kc_tbl := kc_mem 261 (by decide +kernel) (by decide +kernel)
theorem kw_262 : Cond.instanceMethod ⟨"KeccakLanesModel", "mix", "(I)V"⟩ ∈ kc_tbl := kc_mem 262 (by decide +kernel) (by decide +kernel)
theorem kw_263 : Cond.selects "KeccakLanesModel" ⟨"KeccakLanesModel", "mix", "(I)V"⟩ ⟨"KeccakLanesModel", "mix", "(I)V"⟩ ∈ kc_tbl := kc_mem 263 (by decide +kernel) (by decide +kernel)
theorem kw_264 : Cond.code ⟨"KeccakLanesModel", "mix", "(I)V"⟩ prog_4_method_14_code 2 none ∈ kc_tbl := kc_mem 264 (by decide +kernel) (by decide +kernel)
theorem kw_265 : Cond.methodLink "KeccakLanesLaw" 71 ⟨"KeccakLanesModel", "lane", "(II)J"⟩ ∈ kc_tbl := kc_mem 265 (by decide +kernel) (by decide +kernel)
theorem kw_266 : Cond.instanceMethod ⟨"KeccakLanesModel", "lane", "(II)J"⟩ ∈ kc_tbl := kc_mem 266 (by decide +kernel) (by decide +kernel)
theorem kw_267 : Cond.selects "KeccakLanesModel" ⟨"KeccakLanesModel", "lane", "(II)J"⟩ ⟨"KeccakLanesModel", "lane", "(II)J"⟩ ∈ kc_tbl := kc_mem 267 (by decide +kernel) (by decide +kernel)
theorem kw_268 : Cond.code ⟨"KeccakLanesModel", "lane", "(II)J"⟩ prog_4_method_15_code 3 (some .long) ∈ kc_tbl := kc_mem 268 (by decide +kernel) (by decide +kernel)
theorem kw_269 : Cond.methodLink "KeccakLanesLaw" 74 ⟨"KeccakLanesModel", "digest", "(II)J"⟩ ∈ kc_tbl := kc_mem 269 (by decide +kernel) (by decide +kernel)
theorem kw_270 : Cond.instanceMethod ⟨"KeccakLanesModel", "digest", "(II)J"⟩ ∈ kc_tbl := kc_mem 270 (by decide +kernel) (by decide +kernel)
theorem kw_271 : Cond.selects "KeccakLanesModel" ⟨"KeccakLanesModel", "digest", "(II)J"⟩ ⟨"KeccakLanesModel", "digest", "(II)J"⟩ ∈ kc_tbl := kc_mem 271 (by decide +kernel) (by decide +kernel)
theorem kw_272 : Cond.code ⟨"KeccakLanesModel", "digest", "(II)J"⟩ prog_4_method_16_code 7 (some .long) ∈ kc_tbl := kc_mem 272 (by decide +kernel) (by decide +kernel)
theorem kw_273 : Cond.constantLong "KeccakLanesModel" 69 (-9223372036854775808) ∈ kc_tbl := kc_mem 273 (by decide +kernel) (by decide +kernel)
theorem kw_274 : Cond.constantLong "KeccakLanesModel" 71 (255) ∈ kc_tbl := kc_mem 274 (by decide +kernel) (by decide +kernel)
theorem kw_275 : Cond.constantLong "KeccakLanesLaw" 51 (4294967295) ∈ kc_tbl := kc_mem 275 (by decide +kernel) (by decide +kernel)
theorem kw_276 : Cond.sameMethod "java/lang/Throwable" "java/lang/Throwable" "fillInStackTrace" "(I)Ljava/lang/Throwable;" ∈ kc_tbl := kc_mem 276 (by decide +kernel) (by decide +kernel)
theorem ks_0 : Cond.selects "java/lang/Throwable" ⟨"java/lang/Throwable", "fillInStackTrace", "(I)Ljava/lang/Throwable;"⟩ ⟨"java/lang/Throwable", "fillInStackTrace", "(I)Ljava/lang/Throwable;"⟩ ∈ kc_tbl := kc_mems 0 (by decide +kernel) (by decide +kernel)
theorem ks_1 : Cond.selects "KeccakLanes" ⟨"KeccakLanes", "put", "(IJ)V"⟩ ⟨"KeccakLanes", "put", "(IJ)V"⟩ ∈ kc_tbl := kc_mems 1 (by decide +kernel) (by decide +kernel)
theorem ks_2 : Cond.selects "KeccakLanes" ⟨"KeccakLanes", "move", "(II)V"⟩ ⟨"KeccakLanes", "move", "(II)V"⟩ ∈ kc_tbl := kc_mems 2 (by decide +kernel) (by decide +kernel)
theorem ks_3 : Cond.selects "KeccakLanesModel" ⟨"KeccakLanesModel", "out", "(I)Z"⟩ ⟨"KeccakLanesModel", "out", "(I)Z"⟩ ∈ kc_tbl := kc_mems 3 (by decide +kernel) (by decide +kernel)
theorem ks_4 : Cond.selects "KeccakLanesModel" ⟨"KeccakLanesModel", "fail", "(I)I"⟩ ⟨"KeccakLanesModel", "fail", "(I)I"⟩ ∈ kc_tbl := kc_mems 4 (by decide +kernel) (by decide +kernel)
theorem ks_5 : Cond.selects "KeccakLanesModel" ⟨"KeccakLanesModel", "get", "(I)V"⟩ ⟨"KeccakLanesModel", "get", "(I)V"⟩ ∈ kc_tbl := kc_mems 5 (by decide +kernel) (by decide +kernel)
theorem ks_6 : Cond.selects "KeccakLanesModel" ⟨"KeccakLanesModel", "taken", "(II)V"⟩ ⟨"KeccakLanesModel", "taken", "(II)V"⟩ ∈ kc_tbl := kc_mems 6 (by decide +kernel) (by decide +kernel)
theorem ks_7 : Cond.selects "KeccakLanesModel" ⟨"KeccakLanesModel", "permute", "()V"⟩ ⟨"KeccakLanesModel", "permute", "()V"⟩ ∈ kc_tbl := kc_mems 7 (by decide +kernel) (by decide +kernel)
theorem ks_8 : Cond.selects "KeccakLanesModel" ⟨"KeccakLanesModel", "put", "(I)V"⟩ ⟨"KeccakLanesModel", "put", "(I)V"⟩ ∈ kc_tbl := kc_mems 8 (by decide +kernel) (by decide +kernel)
def R_K : String := "KeccakLanes"
def R_X : String := "KeccakLanes$Mixer"
def R_M : String := "KeccakLanesModel"
def R_L : String := "KeccakLanesLaw"
def R_J : String := "java/lang/Long"
def R_E : String := "java/lang/IllegalArgumentException"
def y_K_init : MethodName := ⟨"KeccakLanes", "<init>", "()V"⟩
abbrev b_K_init : ByteArray := prog_1_method_1_code
def w_K_init : List Cond := .code y_K_init b_K_init 1 none :: kc_tbl
def y_X_init : MethodName := ⟨"KeccakLanes$Mixer", "<init>", "()V"⟩
abbrev b_X_init : ByteArray := prog_2_method_1_code
def w_X_init : List Cond := .code y_X_init b_X_init 6 none :: kc_tbl
def y_L_clear : MethodName := ⟨"KeccakLanesLaw", "clear", "(LKeccakLanes;I)I"⟩
abbrev b_L_clear : ByteArray := method_3_code
def w_L_clear : List Cond := .codeWith y_L_clear b_L_clear 3 (some .int) [(0, 5, 8, 13)] :: kc_tbl
def y_K_clear : MethodName := ⟨"KeccakLanes", "clear", "(I)V"⟩
abbrev b_K_clear : ByteArray := prog_1_method_4_code
def w_K_clear : List Cond := .code y_K_clear b_K_clear 3 none :: kc_tbl
def y_K_in : MethodName := ⟨"KeccakLanes", "in", "(II)V"⟩
abbrev b_K_in : ByteArray := prog_1_method_2_code
def w_K_in : List Cond := .code y_K_in b_K_in 2 none :: kc_tbl
def y_L_take : MethodName := ⟨"KeccakLanesLaw", "take", "(LKeccakLanes;IJI[J)I"⟩
abbrev b_L_take : ByteArray := method_4_code
def w_L_take : List Cond := .codeWith y_L_take b_L_take 7 (some .int) [(0, 13, 16, 13)] :: kc_tbl
def y_K_take : MethodName := ⟨"KeccakLanes", "take", "(IJI)I"⟩
abbrev b_K_take : ByteArray := prog_1_method_5_code
def w_K_take : List Cond := .code y_K_take b_K_take 6 (some .int) :: kc_tbl
def y_K_put : MethodName := ⟨"KeccakLanes", "put", "(IJ)V"⟩
abbrev b_K_put : ByteArray := prog_1_method_3_code
def w_K_put : List Cond := .code y_K_put b_K_put 4 none :: kc_tbl
def y_X_mix : MethodName := ⟨"KeccakLanes$Mixer", "mix", "([JI)V"⟩
abbrev b_X_mix : ByteArray := prog_2_method_3_code
def w_X_mix : List Cond := .code y_X_mix b_X_mix 8 none :: kc_tbl
def y_X_turn : MethodName := ⟨"KeccakLanes$Mixer", "turn", "(JI)J"⟩
abbrev b_X_turn : ByteArray := prog_2_method_2_code
def w_X_turn : List Cond := .code y_X_turn b_X_turn 3 (some .long) :: kc_tbl
def y_L_fill : MethodName := ⟨"KeccakLanesLaw", "fill", "(LKeccakLanes;IIII[J)I"⟩
abbrev b_L_fill : ByteArray := method_5_code
def w_L_fill : List Cond := .codeWith y_L_fill b_L_fill 7 (some .int) [(0, 14, 17, 13)] :: kc_tbl
def y_K_fill : MethodName := ⟨"KeccakLanes", "fill", "(IIII)I"⟩
abbrev b_K_fill : ByteArray := prog_1_method_6_code
def w_K_fill : List Cond := .code y_K_fill b_K_fill 6 (some .int) :: kc_tbl
def y_L_copy : MethodName := ⟨"KeccakLanesLaw", "copy", "(LKeccakLanes;II)I"⟩
abbrev b_L_copy : ByteArray := method_6_code
def w_L_copy : List Cond := .codeWith y_L_copy b_L_copy 4 (some .int) [(0, 6, 9, 13)] :: kc_tbl
def y_K_copy : MethodName := ⟨"KeccakLanes", "copy", "(II)V"⟩
abbrev b_K_copy : ByteArray := prog_1_method_8_code
def w_K_copy : List Cond := .code y_K_copy b_K_copy 3 none :: kc_tbl
def y_K_move : MethodName := ⟨"KeccakLanes", "move", "(II)V"⟩
abbrev b_K_move : ByteArray := prog_1_method_7_code
def w_K_move : List Cond := .code y_K_move b_K_move 4 none :: kc_tbl
def y_L_mix : MethodName := ⟨"KeccakLanesLaw", "mix", "(LKeccakLanes;I)I"⟩
abbrev b_L_mix : ByteArray := method_7_code
def w_L_mix : List Cond := .codeWith y_L_mix b_L_mix 3 (some .int) [(0, 5, 8, 13)] :: kc_tbl
def y_K_mix : MethodName := ⟨"KeccakLanes", "mix", "(I)V"⟩
abbrev b_K_mix : ByteArray := prog_1_method_9_code
def w_K_mix : List Cond := .code y_K_mix b_K_mix 2 none :: kc_tbl
def y_L_lane : MethodName := ⟨"KeccakLanesLaw", "lane", "(LKeccakLanes;II[J)I"⟩
abbrev b_L_lane : ByteArray := method_8_code
def w_L_lane : List Cond := .codeWith y_L_lane b_L_lane 5 (some .int) [(0, 9, 12, 13)] :: kc_tbl
def y_K_lane : MethodName := ⟨"KeccakLanes", "lane", "(II)J"⟩
abbrev b_K_lane : ByteArray := prog_1_method_10_code
def w_K_lane : List Cond := .code y_K_lane b_K_lane 3 (some .long) :: kc_tbl
def y_L_digest : MethodName := ⟨"KeccakLanesLaw", "digest", "(LKeccakLanes;II[J)I"⟩
abbrev b_L_digest : ByteArray := method_9_code
def w_L_digest : List Cond := .codeWith y_L_digest b_L_digest 5 (some .int) [(0, 9, 12, 13)] :: kc_tbl
def y_K_digest : MethodName := ⟨"KeccakLanes", "digest", "(II)J"⟩
abbrev b_K_digest : ByteArray := prog_1_method_11_code
def w_K_digest : List Cond := .code y_K_digest b_K_digest 7 (some .long) :: kc_tbl
def y_M_init : MethodName := ⟨"KeccakLanesModel", "<init>", "()V"⟩
abbrev b_M_init : ByteArray := prog_4_method_3_code
def w_M_init : List Cond := .code y_M_init b_M_init 2 none :: kc_tbl
def y_M_constant : MethodName := ⟨"KeccakLanesModel", "constant", "(I)J"⟩
abbrev b_M_constant : ByteArray := prog_4_method_1_code
def w_M_constant : List Cond := .code y_M_constant b_M_constant 7 (some .long) :: kc_tbl
def y_M_thrown : MethodName := ⟨"KeccakLanesModel", "thrown", "()I"⟩
abbrev b_M_thrown : ByteArray := prog_4_method_4_code
def w_M_thrown : List Cond := .code y_M_thrown b_M_thrown 1 (some .int) :: kc_tbl
def y_M_clear : MethodName := ⟨"KeccakLanesModel", "clear", "(I)V"⟩
abbrev b_M_clear : ByteArray := prog_4_method_9_code
def w_M_clear : List Cond := .code y_M_clear b_M_clear 3 none :: kc_tbl
def y_M_out : MethodName := ⟨"KeccakLanesModel", "out", "(I)Z"⟩
abbrev b_M_out : ByteArray := prog_4_method_6_code
def w_M_out : List Cond := .code y_M_out b_M_out 2 (some .boolean) :: kc_tbl
def y_M_take : MethodName := ⟨"KeccakLanesModel", "take", "(IJI)I"⟩
abbrev b_M_take : ByteArray := prog_4_method_11_code
def w_M_take : List Cond := .code y_M_take b_M_take 6 (some .int) :: kc_tbl
def y_M_fail : MethodName := ⟨"KeccakLanesModel", "fail", "(I)I"⟩
abbrev b_M_fail : ByteArray := prog_4_method_5_code
def w_M_fail : List Cond := .code y_M_fail b_M_fail 2 (some .int) :: kc_tbl
def y_M_get : MethodName := ⟨"KeccakLanesModel", "get", "(I)V"⟩
abbrev b_M_get : ByteArray := prog_4_method_7_code
def w_M_get : List Cond := .code y_M_get b_M_get 3 none :: kc_tbl
def y_M_taken : MethodName := ⟨"KeccakLanesModel", "taken", "(II)V"⟩
abbrev b_M_taken : ByteArray := prog_4_method_10_code
def w_M_taken : List Cond := .code y_M_taken b_M_taken 4 none :: kc_tbl
def y_M_permute : MethodName := ⟨"KeccakLanesModel", "permute", "()V"⟩
abbrev b_M_permute : ByteArray := prog_4_method_2_code
def w_M_permute : List Cond := .code y_M_permute b_M_permute 6 none :: kc_tbl
def y_J_rotateLeft : MethodName := ⟨"java/lang/Long", "rotateLeft", "(JI)J"⟩
abbrev b_J_rotateLeft : ByteArray := prog_7_method_51_code
def w_J_rotateLeft : List Cond := .code y_J_rotateLeft b_J_rotateLeft 3 (some .long) :: kc_tbl
def y_M_put : MethodName := ⟨"KeccakLanesModel", "put", "(I)V"⟩
abbrev b_M_put : ByteArray := prog_4_method_8_code
def w_M_put : List Cond := .code y_M_put b_M_put 3 none :: kc_tbl
def y_M_fill : MethodName := ⟨"KeccakLanesModel", "fill", "(IIII)I"⟩
abbrev b_M_fill : ByteArray := prog_4_method_12_code
def w_M_fill : List Cond := .code y_M_fill b_M_fill 6 (some .int) :: kc_tbl
def y_M_copy : MethodName := ⟨"KeccakLanesModel", "copy", "(II)V"⟩
abbrev b_M_copy : ByteArray := prog_4_method_13_code
def w_M_copy : List Cond := .code y_M_copy b_M_copy 3 none :: kc_tbl
def y_M_mix : MethodName := ⟨"KeccakLanesModel", "mix", "(I)V"⟩
abbrev b_M_mix : ByteArray := prog_4_method_14_code
def w_M_mix : List Cond := .code y_M_mix b_M_mix 2 none :: kc_tbl
def y_M_lane : MethodName := ⟨"KeccakLanesModel", "lane", "(II)J"⟩
abbrev b_M_lane : ByteArray := prog_4_method_15_code
def w_M_lane : List Cond := .code y_M_lane b_M_lane 3 (some .long) :: kc_tbl
def y_M_digest : MethodName := ⟨"KeccakLanesModel", "digest", "(II)J"⟩
abbrev b_M_digest : ByteArray := prog_4_method_16_code
def w_M_digest : List Cond := .code y_M_digest b_M_digest 7 (some .long) :: kc_tbl
def F_K : u_T := fun k => match k with
  | 0 => ("KeccakLanes", "mixer", "LKeccakLanes$Mixer;", true)
  | 1 => ("KeccakLanes", "lanes", "[J", true)
  | _ => ("KeccakLanes", "places", "[I", true)
def t_K : Nat → FieldType := fun k => match k with
  | 0 => .object "KeccakLanes$Mixer"
  | 1 => .array .long
  | _ => .array .int
theorem n_K : ∀ a, a < 3 → ∀ b, b < 3 → a ≠ b → (F_K a).2.1 ≠ (F_K b).2.1 := by decide +kernel
theorem t_K_ok : ∀ k, k < 3 → parseFieldDescriptor (F_K k).2.2.1 = some (t_K k) := by decide +kernel
theorem u_K_in : ∀ w ∈ u_ws R_K F_K 3, w ∈ kc_tbl := fun w hw => by
  have hw : w ∈ [Cond.laysFinal "KeccakLanes" "KeccakLanes" "mixer" "LKeccakLanes$Mixer;", Cond.laysFinal "KeccakLanes" "KeccakLanes" "lanes" "[J", Cond.laysFinal "KeccakLanes" "KeccakLanes" "places" "[I"] := hw
  simp only [List.mem_cons] at hw
  rcases hw with rfl | rfl | rfl | h
  · exact kw_41
  · exact kw_43
  · exact kw_45
  · exact absurd h List.not_mem_nil
def F_X : u_T := fun k => match k with
  | 0 => ("KeccakLanes$Mixer", "rounds", "[J", true)
  | 1 => ("KeccakLanes$Mixer", "turns", "[I", true)
  | 2 => ("KeccakLanes$Mixer", "next", "[J", true)
  | _ => ("KeccakLanes$Mixer", "sides", "[J", true)
def t_X : Nat → FieldType := fun k => match k with
  | 0 => .array .long
  | 1 => .array .int
  | 2 => .array .long
  | _ => .array .long
theorem n_X : ∀ a, a < 4 → ∀ b, b < 4 → a ≠ b → (F_X a).2.1 ≠ (F_X b).2.1 := by decide +kernel
theorem t_X_ok : ∀ k, k < 4 → parseFieldDescriptor (F_X k).2.2.1 = some (t_X k) := by decide +kernel
theorem u_X_in : ∀ w ∈ u_ws R_X F_X 4, w ∈ kc_tbl := fun w hw => by
  have hw : w ∈ [Cond.laysFinal "KeccakLanes$Mixer" "KeccakLanes$Mixer" "rounds" "[J", Cond.laysFinal "KeccakLanes$Mixer" "KeccakLanes$Mixer" "turns" "[I", Cond.laysFinal "KeccakLanes$Mixer" "KeccakLanes$Mixer" "next" "[J", Cond.laysFinal "KeccakLanes$Mixer" "KeccakLanes$Mixer" "sides" "[J"] := hw
  simp only [List.mem_cons] at hw
  rcases hw with rfl | rfl | rfl | rfl | h
  · exact kw_27
  · exact kw_29
  · exact kw_31
  · exact kw_33
  · exact absurd h List.not_mem_nil
def F_M : u_T := fun k => match k with
  | 0 => ("KeccakLanesModel", "failed", "I", false)
  | 1 => ("KeccakLanesModel", "states", "[[J", true)
  | 2 => ("KeccakLanesModel", "places", "[I", true)
  | 3 => ("KeccakLanesModel", "lanes", "[J", true)
  | 4 => ("KeccakLanesModel", "column", "[J", true)
  | 5 => ("KeccakLanesModel", "moved", "[J", true)
  | _ => ("KeccakLanesModel", "constants", "[J", true)
def t_M : Nat → FieldType := fun k => match k with
  | 0 => .int
  | 1 => .array (.array .long)
  | 2 => .array .int
  | 3 => .array .long
  | 4 => .array .long
  | 5 => .array .long
  | _ => .array .long
theorem n_M : ∀ a, a < 7 → ∀ b, b < 7 → a ≠ b → (F_M a).2.1 ≠ (F_M b).2.1 := by decide +kernel
theorem t_M_ok : ∀ k, k < 7 → parseFieldDescriptor (F_M k).2.2.1 = some (t_M k) := by decide +kernel
theorem u_M_in : ∀ w ∈ u_ws R_M F_M 7, w ∈ kc_tbl := fun w hw => by
  have hw : w ∈ [Cond.lays "KeccakLanesModel" "KeccakLanesModel" "failed" "I", Cond.laysFinal "KeccakLanesModel" "KeccakLanesModel" "states" "[[J", Cond.laysFinal "KeccakLanesModel" "KeccakLanesModel" "places" "[I", Cond.laysFinal "KeccakLanesModel" "KeccakLanesModel" "lanes" "[J", Cond.laysFinal "KeccakLanesModel" "KeccakLanesModel" "column" "[J", Cond.laysFinal "KeccakLanesModel" "KeccakLanesModel" "moved" "[J", Cond.laysFinal "KeccakLanesModel" "KeccakLanesModel" "constants" "[J"] := hw
  simp only [List.mem_cons] at hw
  rcases hw with rfl | rfl | rfl | rfl | rfl | rfl | rfl | h
  · exact kw_198
  · exact kw_200
  · exact kw_202
  · exact kw_204
  · exact kw_206
  · exact kw_208
  · exact kw_210
  · exact absurd h List.not_mem_nil
/-- the classes whose objects the worlds hold -/
abbrev kc_cl : List vw_C := [(R_K, F_K, 3), (R_X, F_X, 4), (R_M, F_M, 7)]
end
section
/-! decode rows (printed by gen02.py) -/
theorem d_K_init_0 : decode b_K_init 0 = .ok (.aload_n 0, 1) := by decide +kernel
theorem d_K_init_1 : decode b_K_init 1 = .ok (.invokespecial 1, 3) := by decide +kernel
theorem d_K_init_4 : decode b_K_init 4 = .ok (.aload_n 0, 1) := by decide +kernel
theorem d_K_init_5 : decode b_K_init 5 = .ok (.new 7, 3) := by decide +kernel
theorem d_K_init_8 : decode b_K_init 8 = .ok (.dup, 1) := by decide +kernel
theorem d_K_init_9 : decode b_K_init 9 = .ok (.invokespecial 9, 3) := by decide +kernel
theorem d_K_init_12 : decode b_K_init 12 = .ok (.putfield 10, 3) := by decide +kernel
theorem d_K_init_15 : decode b_K_init 15 = .ok (.aload_n 0, 1) := by decide +kernel
theorem d_K_init_16 : decode b_K_init 16 = .ok (.sipush 225, 3) := by decide +kernel
theorem d_K_init_19 : decode b_K_init 19 = .ok (.newarray .long, 2) := by decide +kernel
theorem d_K_init_21 : decode b_K_init 21 = .ok (.putfield 16, 3) := by decide +kernel
theorem d_K_init_24 : decode b_K_init 24 = .ok (.aload_n 0, 1) := by decide +kernel
theorem d_K_init_25 : decode b_K_init 25 = .ok (.bipush 9, 2) := by decide +kernel
theorem d_K_init_27 : decode b_K_init 27 = .ok (.newarray .int, 2) := by decide +kernel
theorem d_K_init_29 : decode b_K_init 29 = .ok (.putfield 20, 3) := by decide +kernel
theorem d_K_init_32 : decode b_K_init 32 = .ok (.return_, 1) := by decide +kernel
theorem d_X_init_0 : decode b_X_init 0 = .ok (.aload_n 0, 1) := by decide +kernel
theorem d_X_init_1 : decode b_X_init 1 = .ok (.invokespecial 1, 3) := by decide +kernel
theorem d_X_init_4 : decode b_X_init 4 = .ok (.aload_n 0, 1) := by decide +kernel
theorem d_X_init_5 : decode b_X_init 5 = .ok (.bipush 24, 2) := by decide +kernel
theorem d_X_init_7 : decode b_X_init 7 = .ok (.newarray .long, 2) := by decide +kernel
theorem d_X_init_9 : decode b_X_init 9 = .ok (.putfield 7, 3) := by decide +kernel
theorem d_X_init_12 : decode b_X_init 12 = .ok (.aload_n 0, 1) := by decide +kernel
theorem d_X_init_13 : decode b_X_init 13 = .ok (.bipush 25, 2) := by decide +kernel
theorem d_X_init_15 : decode b_X_init 15 = .ok (.newarray .int, 2) := by decide +kernel
theorem d_X_init_17 : decode b_X_init 17 = .ok (.putfield 13, 3) := by decide +kernel
theorem d_X_init_20 : decode b_X_init 20 = .ok (.aload_n 0, 1) := by decide +kernel
theorem d_X_init_21 : decode b_X_init 21 = .ok (.bipush 25, 2) := by decide +kernel
theorem d_X_init_23 : decode b_X_init 23 = .ok (.newarray .long, 2) := by decide +kernel
theorem d_X_init_25 : decode b_X_init 25 = .ok (.putfield 17, 3) := by decide +kernel
theorem d_X_init_28 : decode b_X_init 28 = .ok (.aload_n 0, 1) := by decide +kernel
theorem d_X_init_29 : decode b_X_init 29 = .ok (.iconst 5, 1) := by decide +kernel
theorem d_X_init_30 : decode b_X_init 30 = .ok (.newarray .long, 2) := by decide +kernel
theorem d_X_init_32 : decode b_X_init 32 = .ok (.putfield 20, 3) := by decide +kernel
theorem d_X_init_35 : decode b_X_init 35 = .ok (.iconst 1, 1) := by decide +kernel
theorem d_X_init_36 : decode b_X_init 36 = .ok (.istore_n 1, 1) := by decide +kernel
theorem d_X_init_37 : decode b_X_init 37 = .ok (.iconst 0, 1) := by decide +kernel
theorem d_X_init_38 : decode b_X_init 38 = .ok (.istore_n 2, 1) := by decide +kernel
theorem d_X_init_39 : decode b_X_init 39 = .ok (.iload_n 2, 1) := by decide +kernel
theorem d_X_init_40 : decode b_X_init 40 = .ok (.bipush 24, 2) := by decide +kernel
theorem d_X_init_42 : decode b_X_init 42 = .ok (.if_icmp .ge 59, 3) := by decide +kernel
theorem d_X_init_45 : decode b_X_init 45 = .ok (.iconst 0, 1) := by decide +kernel
theorem d_X_init_46 : decode b_X_init 46 = .ok (.istore_n 3, 1) := by decide +kernel
theorem d_X_init_47 : decode b_X_init 47 = .ok (.iload_n 3, 1) := by decide +kernel
theorem d_X_init_48 : decode b_X_init 48 = .ok (.bipush 7, 2) := by decide +kernel
theorem d_X_init_50 : decode b_X_init 50 = .ok (.if_icmp .ge 45, 3) := by decide +kernel
theorem d_X_init_53 : decode b_X_init 53 = .ok (.iload_n 1, 1) := by decide +kernel
theorem d_X_init_54 : decode b_X_init 54 = .ok (.iconst 1, 1) := by decide +kernel
theorem d_X_init_55 : decode b_X_init 55 = .ok (.iand, 1) := by decide +kernel
theorem d_X_init_56 : decode b_X_init 56 = .ok (.iconst 1, 1) := by decide +kernel
theorem d_X_init_57 : decode b_X_init 57 = .ok (.if_icmp .ne 19, 3) := by decide +kernel
theorem d_X_init_60 : decode b_X_init 60 = .ok (.aload_n 0, 1) := by decide +kernel
theorem d_X_init_61 : decode b_X_init 61 = .ok (.getfield 7, 3) := by decide +kernel
theorem d_X_init_64 : decode b_X_init 64 = .ok (.iload_n 2, 1) := by decide +kernel
theorem d_X_init_65 : decode b_X_init 65 = .ok (.dup2, 1) := by decide +kernel
theorem d_X_init_66 : decode b_X_init 66 = .ok (.laload, 1) := by decide +kernel
theorem d_X_init_67 : decode b_X_init 67 = .ok (.lconst 1, 1) := by decide +kernel
theorem d_X_init_68 : decode b_X_init 68 = .ok (.iconst 1, 1) := by decide +kernel
theorem d_X_init_69 : decode b_X_init 69 = .ok (.iload_n 3, 1) := by decide +kernel
theorem d_X_init_70 : decode b_X_init 70 = .ok (.ishl, 1) := by decide +kernel
theorem d_X_init_71 : decode b_X_init 71 = .ok (.iconst 1, 1) := by decide +kernel
theorem d_X_init_72 : decode b_X_init 72 = .ok (.isub, 1) := by decide +kernel
theorem d_X_init_73 : decode b_X_init 73 = .ok (.lshl, 1) := by decide +kernel
theorem d_X_init_74 : decode b_X_init 74 = .ok (.lor, 1) := by decide +kernel
theorem d_X_init_75 : decode b_X_init 75 = .ok (.lastore, 1) := by decide +kernel
theorem d_X_init_76 : decode b_X_init 76 = .ok (.iload_n 1, 1) := by decide +kernel
theorem d_X_init_77 : decode b_X_init 77 = .ok (.iconst 1, 1) := by decide +kernel
theorem d_X_init_78 : decode b_X_init 78 = .ok (.ishl, 1) := by decide +kernel
theorem d_X_init_79 : decode b_X_init 79 = .ok (.iload_n 1, 1) := by decide +kernel
theorem d_X_init_80 : decode b_X_init 80 = .ok (.bipush 7, 2) := by decide +kernel
theorem d_X_init_82 : decode b_X_init 82 = .ok (.ishr, 1) := by decide +kernel
theorem d_X_init_83 : decode b_X_init 83 = .ok (.sipush 369, 3) := by decide +kernel
theorem d_X_init_86 : decode b_X_init 86 = .ok (.imul, 1) := by decide +kernel
theorem d_X_init_87 : decode b_X_init 87 = .ok (.ixor, 1) := by decide +kernel
theorem d_X_init_88 : decode b_X_init 88 = .ok (.istore_n 1, 1) := by decide +kernel
theorem d_X_init_89 : decode b_X_init 89 = .ok (.iinc 3 1, 3) := by decide +kernel
theorem d_X_init_92 : decode b_X_init 92 = .ok (.goto (-45), 3) := by decide +kernel
theorem d_X_init_95 : decode b_X_init 95 = .ok (.iinc 2 1, 3) := by decide +kernel
theorem d_X_init_98 : decode b_X_init 98 = .ok (.goto (-59), 3) := by decide +kernel
theorem d_X_init_101 : decode b_X_init 101 = .ok (.iconst 1, 1) := by decide +kernel
theorem d_X_init_102 : decode b_X_init 102 = .ok (.istore_n 2, 1) := by decide +kernel
theorem d_X_init_103 : decode b_X_init 103 = .ok (.iconst 0, 1) := by decide +kernel
theorem d_X_init_104 : decode b_X_init 104 = .ok (.istore_n 3, 1) := by decide +kernel
theorem d_X_init_105 : decode b_X_init 105 = .ok (.iconst 0, 1) := by decide +kernel
theorem d_X_init_106 : decode b_X_init 106 = .ok (.istore 4, 2) := by decide +kernel
theorem d_X_init_108 : decode b_X_init 108 = .ok (.iload 4, 2) := by decide +kernel
theorem d_X_init_110 : decode b_X_init 110 = .ok (.bipush 24, 2) := by decide +kernel
theorem d_X_init_112 : decode b_X_init 112 = .ok (.if_icmp .ge 49, 3) := by decide +kernel
theorem d_X_init_115 : decode b_X_init 115 = .ok (.aload_n 0, 1) := by decide +kernel
theorem d_X_init_116 : decode b_X_init 116 = .ok (.getfield 13, 3) := by decide +kernel
theorem d_X_init_119 : decode b_X_init 119 = .ok (.iload_n 2, 1) := by decide +kernel
theorem d_X_init_120 : decode b_X_init 120 = .ok (.iconst 5, 1) := by decide +kernel
theorem d_X_init_121 : decode b_X_init 121 = .ok (.iload_n 3, 1) := by decide +kernel
theorem d_X_init_122 : decode b_X_init 122 = .ok (.imul, 1) := by decide +kernel
theorem d_X_init_123 : decode b_X_init 123 = .ok (.iadd, 1) := by decide +kernel
theorem d_X_init_124 : decode b_X_init 124 = .ok (.iload 4, 2) := by decide +kernel
theorem d_X_init_126 : decode b_X_init 126 = .ok (.iconst 1, 1) := by decide +kernel
theorem d_X_init_127 : decode b_X_init 127 = .ok (.iadd, 1) := by decide +kernel
theorem d_X_init_128 : decode b_X_init 128 = .ok (.iload 4, 2) := by decide +kernel
theorem d_X_init_130 : decode b_X_init 130 = .ok (.iconst 2, 1) := by decide +kernel
theorem d_X_init_131 : decode b_X_init 131 = .ok (.iadd, 1) := by decide +kernel
theorem d_X_init_132 : decode b_X_init 132 = .ok (.imul, 1) := by decide +kernel
theorem d_X_init_133 : decode b_X_init 133 = .ok (.iconst 2, 1) := by decide +kernel
theorem d_X_init_134 : decode b_X_init 134 = .ok (.idiv, 1) := by decide +kernel
theorem d_X_init_135 : decode b_X_init 135 = .ok (.bipush 64, 2) := by decide +kernel
theorem d_X_init_137 : decode b_X_init 137 = .ok (.irem, 1) := by decide +kernel
theorem d_X_init_138 : decode b_X_init 138 = .ok (.iastore, 1) := by decide +kernel
theorem d_X_init_139 : decode b_X_init 139 = .ok (.iconst 2, 1) := by decide +kernel
theorem d_X_init_140 : decode b_X_init 140 = .ok (.iload_n 2, 1) := by decide +kernel
theorem d_X_init_141 : decode b_X_init 141 = .ok (.imul, 1) := by decide +kernel
theorem d_X_init_142 : decode b_X_init 142 = .ok (.iconst 3, 1) := by decide +kernel
theorem d_X_init_143 : decode b_X_init 143 = .ok (.iload_n 3, 1) := by decide +kernel
theorem d_X_init_144 : decode b_X_init 144 = .ok (.imul, 1) := by decide +kernel
theorem d_X_init_145 : decode b_X_init 145 = .ok (.iadd, 1) := by decide +kernel
theorem d_X_init_146 : decode b_X_init 146 = .ok (.iconst 5, 1) := by decide +kernel
theorem d_X_init_147 : decode b_X_init 147 = .ok (.irem, 1) := by decide +kernel
theorem d_X_init_148 : decode b_X_init 148 = .ok (.istore 5, 2) := by decide +kernel
theorem d_X_init_150 : decode b_X_init 150 = .ok (.iload_n 3, 1) := by decide +kernel
theorem d_X_init_151 : decode b_X_init 151 = .ok (.istore_n 2, 1) := by decide +kernel
theorem d_X_init_152 : decode b_X_init 152 = .ok (.iload 5, 2) := by decide +kernel
theorem d_X_init_154 : decode b_X_init 154 = .ok (.istore_n 3, 1) := by decide +kernel
theorem d_X_init_155 : decode b_X_init 155 = .ok (.iinc 4 1, 3) := by decide +kernel
theorem d_X_init_158 : decode b_X_init 158 = .ok (.goto (-50), 3) := by decide +kernel
theorem d_X_init_161 : decode b_X_init 161 = .ok (.return_, 1) := by decide +kernel
theorem d_L_clear_0 : decode b_L_clear 0 = .ok (.aload_n 0, 1) := by decide +kernel
theorem d_L_clear_1 : decode b_L_clear 1 = .ok (.iload_n 1, 1) := by decide +kernel
theorem d_L_clear_2 : decode b_L_clear 2 = .ok (.invokevirtual 7, 3) := by decide +kernel
theorem d_L_clear_5 : decode b_L_clear 5 = .ok (.goto 6, 3) := by decide +kernel
theorem d_L_clear_8 : decode b_L_clear 8 = .ok (.astore_n 2, 1) := by decide +kernel
theorem d_L_clear_9 : decode b_L_clear 9 = .ok (.iconst 1, 1) := by decide +kernel
theorem d_L_clear_10 : decode b_L_clear 10 = .ok (.ireturn, 1) := by decide +kernel
theorem d_L_clear_11 : decode b_L_clear 11 = .ok (.iconst 0, 1) := by decide +kernel
theorem d_L_clear_12 : decode b_L_clear 12 = .ok (.ireturn, 1) := by decide +kernel
theorem d_K_clear_0 : decode b_K_clear 0 = .ok (.iload_n 1, 1) := by decide +kernel
theorem d_K_clear_1 : decode b_K_clear 1 = .ok (.bipush 7, 2) := by decide +kernel
theorem d_K_clear_3 : decode b_K_clear 3 = .ok (.invokestatic 33, 3) := by decide +kernel
theorem d_K_clear_6 : decode b_K_clear 6 = .ok (.iconst 0, 1) := by decide +kernel
theorem d_K_clear_7 : decode b_K_clear 7 = .ok (.istore_n 2, 1) := by decide +kernel
theorem d_K_clear_8 : decode b_K_clear 8 = .ok (.iload_n 2, 1) := by decide +kernel
theorem d_K_clear_9 : decode b_K_clear 9 = .ok (.bipush 25, 2) := by decide +kernel
theorem d_K_clear_11 : decode b_K_clear 11 = .ok (.if_icmp .ge 21, 3) := by decide +kernel
theorem d_K_clear_14 : decode b_K_clear 14 = .ok (.aload_n 0, 1) := by decide +kernel
theorem d_K_clear_15 : decode b_K_clear 15 = .ok (.getfield 16, 3) := by decide +kernel
theorem d_K_clear_18 : decode b_K_clear 18 = .ok (.bipush 25, 2) := by decide +kernel
theorem d_K_clear_20 : decode b_K_clear 20 = .ok (.iload_n 1, 1) := by decide +kernel
theorem d_K_clear_21 : decode b_K_clear 21 = .ok (.imul, 1) := by decide +kernel
theorem d_K_clear_22 : decode b_K_clear 22 = .ok (.iload_n 2, 1) := by decide +kernel
theorem d_K_clear_23 : decode b_K_clear 23 = .ok (.iadd, 1) := by decide +kernel
theorem d_K_clear_24 : decode b_K_clear 24 = .ok (.lconst 0, 1) := by decide +kernel
theorem d_K_clear_25 : decode b_K_clear 25 = .ok (.lastore, 1) := by decide +kernel
theorem d_K_clear_26 : decode b_K_clear 26 = .ok (.iinc 2 1, 3) := by decide +kernel
theorem d_K_clear_29 : decode b_K_clear 29 = .ok (.goto (-21), 3) := by decide +kernel
theorem d_K_clear_32 : decode b_K_clear 32 = .ok (.aload_n 0, 1) := by decide +kernel
theorem d_K_clear_33 : decode b_K_clear 33 = .ok (.getfield 20, 3) := by decide +kernel
theorem d_K_clear_36 : decode b_K_clear 36 = .ok (.iload_n 1, 1) := by decide +kernel
theorem d_K_clear_37 : decode b_K_clear 37 = .ok (.iconst 0, 1) := by decide +kernel
theorem d_K_clear_38 : decode b_K_clear 38 = .ok (.iastore, 1) := by decide +kernel
theorem d_K_clear_39 : decode b_K_clear 39 = .ok (.return_, 1) := by decide +kernel
theorem d_K_in_0 : decode b_K_in 0 = .ok (.iload_n 0, 1) := by decide +kernel
theorem d_K_in_1 : decode b_K_in 1 = .ok (.ifCond .lt 8, 3) := by decide +kernel
theorem d_K_in_4 : decode b_K_in 4 = .ok (.iload_n 0, 1) := by decide +kernel
theorem d_K_in_5 : decode b_K_in 5 = .ok (.iload_n 1, 1) := by decide +kernel
theorem d_K_in_6 : decode b_K_in 6 = .ok (.if_icmp .le 11, 3) := by decide +kernel
theorem d_K_in_9 : decode b_K_in 9 = .ok (.new 24, 3) := by decide +kernel
theorem d_K_in_12 : decode b_K_in 12 = .ok (.dup, 1) := by decide +kernel
theorem d_K_in_13 : decode b_K_in 13 = .ok (.invokespecial 26, 3) := by decide +kernel
theorem d_K_in_16 : decode b_K_in 16 = .ok (.athrow, 1) := by decide +kernel
theorem d_K_in_17 : decode b_K_in 17 = .ok (.return_, 1) := by decide +kernel
theorem d_L_take_0 : decode b_L_take 0 = .ok (.aload 5, 2) := by decide +kernel
theorem d_L_take_2 : decode b_L_take 2 = .ok (.iconst 0, 1) := by decide +kernel
theorem d_L_take_3 : decode b_L_take 3 = .ok (.aload_n 0, 1) := by decide +kernel
theorem d_L_take_4 : decode b_L_take 4 = .ok (.iload_n 1, 1) := by decide +kernel
theorem d_L_take_5 : decode b_L_take 5 = .ok (.lload_n 2, 1) := by decide +kernel
theorem d_L_take_6 : decode b_L_take 6 = .ok (.iload 4, 2) := by decide +kernel
theorem d_L_take_8 : decode b_L_take 8 = .ok (.invokevirtual 15, 3) := by decide +kernel
theorem d_L_take_11 : decode b_L_take 11 = .ok (.i2l, 1) := by decide +kernel
theorem d_L_take_12 : decode b_L_take 12 = .ok (.lastore, 1) := by decide +kernel
theorem d_L_take_13 : decode b_L_take 13 = .ok (.goto 7, 3) := by decide +kernel
theorem d_L_take_16 : decode b_L_take 16 = .ok (.astore 6, 2) := by decide +kernel
theorem d_L_take_18 : decode b_L_take 18 = .ok (.iconst 1, 1) := by decide +kernel
theorem d_L_take_19 : decode b_L_take 19 = .ok (.ireturn, 1) := by decide +kernel
theorem d_L_take_20 : decode b_L_take 20 = .ok (.iconst 0, 1) := by decide +kernel
theorem d_L_take_21 : decode b_L_take 21 = .ok (.ireturn, 1) := by decide +kernel
theorem d_K_take_0 : decode b_K_take 0 = .ok (.iload_n 1, 1) := by decide +kernel
theorem d_K_take_1 : decode b_K_take 1 = .ok (.bipush 7, 2) := by decide +kernel
theorem d_K_take_3 : decode b_K_take 3 = .ok (.invokestatic 33, 3) := by decide +kernel
theorem d_K_take_6 : decode b_K_take 6 = .ok (.iload 4, 2) := by decide +kernel
theorem d_K_take_8 : decode b_K_take 8 = .ok (.bipush 8, 2) := by decide +kernel
theorem d_K_take_10 : decode b_K_take 10 = .ok (.invokestatic 33, 3) := by decide +kernel
theorem d_K_take_13 : decode b_K_take 13 = .ok (.iconst 0, 1) := by decide +kernel
theorem d_K_take_14 : decode b_K_take 14 = .ok (.istore 5, 2) := by decide +kernel
theorem d_K_take_16 : decode b_K_take 16 = .ok (.iload 5, 2) := by decide +kernel
theorem d_K_take_18 : decode b_K_take 18 = .ok (.iload 4, 2) := by decide +kernel
theorem d_K_take_20 : decode b_K_take 20 = .ok (.if_icmp .ge 21, 3) := by decide +kernel
theorem d_K_take_23 : decode b_K_take 23 = .ok (.aload_n 0, 1) := by decide +kernel
theorem d_K_take_24 : decode b_K_take 24 = .ok (.iload_n 1, 1) := by decide +kernel
theorem d_K_take_25 : decode b_K_take 25 = .ok (.lload_n 2, 1) := by decide +kernel
theorem d_K_take_26 : decode b_K_take 26 = .ok (.bipush 8, 2) := by decide +kernel
theorem d_K_take_28 : decode b_K_take 28 = .ok (.iload 5, 2) := by decide +kernel
theorem d_K_take_30 : decode b_K_take 30 = .ok (.imul, 1) := by decide +kernel
theorem d_K_take_31 : decode b_K_take 31 = .ok (.lushr, 1) := by decide +kernel
theorem d_K_take_32 : decode b_K_take 32 = .ok (.invokevirtual 37, 3) := by decide +kernel
theorem d_K_take_35 : decode b_K_take 35 = .ok (.iinc 5 1, 3) := by decide +kernel
theorem d_K_take_38 : decode b_K_take 38 = .ok (.goto (-22), 3) := by decide +kernel
theorem d_K_take_41 : decode b_K_take 41 = .ok (.aload_n 0, 1) := by decide +kernel
theorem d_K_take_42 : decode b_K_take 42 = .ok (.getfield 20, 3) := by decide +kernel
theorem d_K_take_45 : decode b_K_take 45 = .ok (.iload_n 1, 1) := by decide +kernel
theorem d_K_take_46 : decode b_K_take 46 = .ok (.iaload, 1) := by decide +kernel
theorem d_K_take_47 : decode b_K_take 47 = .ok (.ireturn, 1) := by decide +kernel
theorem d_K_put_0 : decode b_K_put 0 = .ok (.aload_n 0, 1) := by decide +kernel
theorem d_K_put_1 : decode b_K_put 1 = .ok (.getfield 16, 3) := by decide +kernel
theorem d_K_put_4 : decode b_K_put 4 = .ok (.bipush 25, 2) := by decide +kernel
theorem d_K_put_6 : decode b_K_put 6 = .ok (.iload_n 1, 1) := by decide +kernel
theorem d_K_put_7 : decode b_K_put 7 = .ok (.imul, 1) := by decide +kernel
theorem d_K_put_8 : decode b_K_put 8 = .ok (.aload_n 0, 1) := by decide +kernel
theorem d_K_put_9 : decode b_K_put 9 = .ok (.getfield 20, 3) := by decide +kernel
theorem d_K_put_12 : decode b_K_put 12 = .ok (.iload_n 1, 1) := by decide +kernel
theorem d_K_put_13 : decode b_K_put 13 = .ok (.iaload, 1) := by decide +kernel
theorem d_K_put_14 : decode b_K_put 14 = .ok (.bipush 8, 2) := by decide +kernel
theorem d_K_put_16 : decode b_K_put 16 = .ok (.idiv, 1) := by decide +kernel
theorem d_K_put_17 : decode b_K_put 17 = .ok (.iadd, 1) := by decide +kernel
theorem d_K_put_18 : decode b_K_put 18 = .ok (.dup2, 1) := by decide +kernel
theorem d_K_put_19 : decode b_K_put 19 = .ok (.laload, 1) := by decide +kernel
theorem d_K_put_20 : decode b_K_put 20 = .ok (.lload_n 2, 1) := by decide +kernel
theorem d_K_put_21 : decode b_K_put 21 = .ok (.ldc2_w 27, 3) := by decide +kernel
theorem d_K_put_24 : decode b_K_put 24 = .ok (.land, 1) := by decide +kernel
theorem d_K_put_25 : decode b_K_put 25 = .ok (.bipush 8, 2) := by decide +kernel
theorem d_K_put_27 : decode b_K_put 27 = .ok (.aload_n 0, 1) := by decide +kernel
theorem d_K_put_28 : decode b_K_put 28 = .ok (.getfield 20, 3) := by decide +kernel
theorem d_K_put_31 : decode b_K_put 31 = .ok (.iload_n 1, 1) := by decide +kernel
theorem d_K_put_32 : decode b_K_put 32 = .ok (.iaload, 1) := by decide +kernel
theorem d_K_put_33 : decode b_K_put 33 = .ok (.bipush 8, 2) := by decide +kernel
theorem d_K_put_35 : decode b_K_put 35 = .ok (.irem, 1) := by decide +kernel
theorem d_K_put_36 : decode b_K_put 36 = .ok (.imul, 1) := by decide +kernel
theorem d_K_put_37 : decode b_K_put 37 = .ok (.lshl, 1) := by decide +kernel
theorem d_K_put_38 : decode b_K_put 38 = .ok (.lxor, 1) := by decide +kernel
theorem d_K_put_39 : decode b_K_put 39 = .ok (.lastore, 1) := by decide +kernel
theorem d_K_put_40 : decode b_K_put 40 = .ok (.aload_n 0, 1) := by decide +kernel
theorem d_K_put_41 : decode b_K_put 41 = .ok (.getfield 20, 3) := by decide +kernel
theorem d_K_put_44 : decode b_K_put 44 = .ok (.iload_n 1, 1) := by decide +kernel
theorem d_K_put_45 : decode b_K_put 45 = .ok (.dup2, 1) := by decide +kernel
theorem d_K_put_46 : decode b_K_put 46 = .ok (.iaload, 1) := by decide +kernel
theorem d_K_put_47 : decode b_K_put 47 = .ok (.iconst 1, 1) := by decide +kernel
theorem d_K_put_48 : decode b_K_put 48 = .ok (.iadd, 1) := by decide +kernel
theorem d_K_put_49 : decode b_K_put 49 = .ok (.iastore, 1) := by decide +kernel
theorem d_K_put_50 : decode b_K_put 50 = .ok (.aload_n 0, 1) := by decide +kernel
theorem d_K_put_51 : decode b_K_put 51 = .ok (.getfield 20, 3) := by decide +kernel
theorem d_K_put_54 : decode b_K_put 54 = .ok (.iload_n 1, 1) := by decide +kernel
theorem d_K_put_55 : decode b_K_put 55 = .ok (.iaload, 1) := by decide +kernel
theorem d_K_put_56 : decode b_K_put 56 = .ok (.sipush 136, 3) := by decide +kernel
theorem d_K_put_59 : decode b_K_put 59 = .ok (.if_icmp .ge 4, 3) := by decide +kernel
theorem d_K_put_62 : decode b_K_put 62 = .ok (.return_, 1) := by decide +kernel
theorem d_K_put_63 : decode b_K_put 63 = .ok (.aload_n 0, 1) := by decide +kernel
theorem d_K_put_64 : decode b_K_put 64 = .ok (.getfield 10, 3) := by decide +kernel
theorem d_K_put_67 : decode b_K_put 67 = .ok (.aload_n 0, 1) := by decide +kernel
theorem d_K_put_68 : decode b_K_put 68 = .ok (.getfield 16, 3) := by decide +kernel
theorem d_K_put_71 : decode b_K_put 71 = .ok (.bipush 25, 2) := by decide +kernel
theorem d_K_put_73 : decode b_K_put 73 = .ok (.iload_n 1, 1) := by decide +kernel
theorem d_K_put_74 : decode b_K_put 74 = .ok (.imul, 1) := by decide +kernel
theorem d_K_put_75 : decode b_K_put 75 = .ok (.invokevirtual 29, 3) := by decide +kernel
theorem d_K_put_78 : decode b_K_put 78 = .ok (.aload_n 0, 1) := by decide +kernel
theorem d_K_put_79 : decode b_K_put 79 = .ok (.getfield 20, 3) := by decide +kernel
theorem d_K_put_82 : decode b_K_put 82 = .ok (.iload_n 1, 1) := by decide +kernel
theorem d_K_put_83 : decode b_K_put 83 = .ok (.iconst 0, 1) := by decide +kernel
theorem d_K_put_84 : decode b_K_put 84 = .ok (.iastore, 1) := by decide +kernel
theorem d_K_put_85 : decode b_K_put 85 = .ok (.return_, 1) := by decide +kernel
theorem d_X_mix_0 : decode b_X_mix 0 = .ok (.iconst 0, 1) := by decide +kernel
theorem d_X_mix_1 : decode b_X_mix 1 = .ok (.istore_n 3, 1) := by decide +kernel
theorem d_X_mix_2 : decode b_X_mix 2 = .ok (.iload_n 3, 1) := by decide +kernel
theorem d_X_mix_3 : decode b_X_mix 3 = .ok (.bipush 24, 2) := by decide +kernel
theorem d_X_mix_5 : decode b_X_mix 5 = .ok (.if_icmp .ge 325, 3) := by decide +kernel
theorem d_X_mix_8 : decode b_X_mix 8 = .ok (.iconst 0, 1) := by decide +kernel
theorem d_X_mix_9 : decode b_X_mix 9 = .ok (.istore 4, 2) := by decide +kernel
theorem d_X_mix_11 : decode b_X_mix 11 = .ok (.iload 4, 2) := by decide +kernel
theorem d_X_mix_13 : decode b_X_mix 13 = .ok (.iconst 5, 1) := by decide +kernel
theorem d_X_mix_14 : decode b_X_mix 14 = .ok (.if_icmp .ge 61, 3) := by decide +kernel
theorem d_X_mix_17 : decode b_X_mix 17 = .ok (.aload_n 0, 1) := by decide +kernel
theorem d_X_mix_18 : decode b_X_mix 18 = .ok (.getfield 20, 3) := by decide +kernel
theorem d_X_mix_21 : decode b_X_mix 21 = .ok (.iload 4, 2) := by decide +kernel
theorem d_X_mix_23 : decode b_X_mix 23 = .ok (.aload_n 1, 1) := by decide +kernel
theorem d_X_mix_24 : decode b_X_mix 24 = .ok (.iload_n 2, 1) := by decide +kernel
theorem d_X_mix_25 : decode b_X_mix 25 = .ok (.iload 4, 2) := by decide +kernel
theorem d_X_mix_27 : decode b_X_mix 27 = .ok (.iadd, 1) := by decide +kernel
theorem d_X_mix_28 : decode b_X_mix 28 = .ok (.laload, 1) := by decide +kernel
theorem d_X_mix_29 : decode b_X_mix 29 = .ok (.aload_n 1, 1) := by decide +kernel
theorem d_X_mix_30 : decode b_X_mix 30 = .ok (.iload_n 2, 1) := by decide +kernel
theorem d_X_mix_31 : decode b_X_mix 31 = .ok (.iload 4, 2) := by decide +kernel
theorem d_X_mix_33 : decode b_X_mix 33 = .ok (.iadd, 1) := by decide +kernel
theorem d_X_mix_34 : decode b_X_mix 34 = .ok (.iconst 5, 1) := by decide +kernel
theorem d_X_mix_35 : decode b_X_mix 35 = .ok (.iadd, 1) := by decide +kernel
theorem d_X_mix_36 : decode b_X_mix 36 = .ok (.laload, 1) := by decide +kernel
theorem d_X_mix_37 : decode b_X_mix 37 = .ok (.lxor, 1) := by decide +kernel
theorem d_X_mix_38 : decode b_X_mix 38 = .ok (.aload_n 1, 1) := by decide +kernel
theorem d_X_mix_39 : decode b_X_mix 39 = .ok (.iload_n 2, 1) := by decide +kernel
theorem d_X_mix_40 : decode b_X_mix 40 = .ok (.iload 4, 2) := by decide +kernel
theorem d_X_mix_42 : decode b_X_mix 42 = .ok (.iadd, 1) := by decide +kernel
theorem d_X_mix_43 : decode b_X_mix 43 = .ok (.bipush 10, 2) := by decide +kernel
theorem d_X_mix_45 : decode b_X_mix 45 = .ok (.iadd, 1) := by decide +kernel
theorem d_X_mix_46 : decode b_X_mix 46 = .ok (.laload, 1) := by decide +kernel
theorem d_X_mix_47 : decode b_X_mix 47 = .ok (.lxor, 1) := by decide +kernel
theorem d_X_mix_48 : decode b_X_mix 48 = .ok (.aload_n 1, 1) := by decide +kernel
theorem d_X_mix_49 : decode b_X_mix 49 = .ok (.iload_n 2, 1) := by decide +kernel
theorem d_X_mix_50 : decode b_X_mix 50 = .ok (.iload 4, 2) := by decide +kernel
theorem d_X_mix_52 : decode b_X_mix 52 = .ok (.iadd, 1) := by decide +kernel
theorem d_X_mix_53 : decode b_X_mix 53 = .ok (.bipush 15, 2) := by decide +kernel
theorem d_X_mix_55 : decode b_X_mix 55 = .ok (.iadd, 1) := by decide +kernel
theorem d_X_mix_56 : decode b_X_mix 56 = .ok (.laload, 1) := by decide +kernel
theorem d_X_mix_57 : decode b_X_mix 57 = .ok (.lxor, 1) := by decide +kernel
theorem d_X_mix_58 : decode b_X_mix 58 = .ok (.aload_n 1, 1) := by decide +kernel
theorem d_X_mix_59 : decode b_X_mix 59 = .ok (.iload_n 2, 1) := by decide +kernel
theorem d_X_mix_60 : decode b_X_mix 60 = .ok (.iload 4, 2) := by decide +kernel
theorem d_X_mix_62 : decode b_X_mix 62 = .ok (.iadd, 1) := by decide +kernel
theorem d_X_mix_63 : decode b_X_mix 63 = .ok (.bipush 20, 2) := by decide +kernel
theorem d_X_mix_65 : decode b_X_mix 65 = .ok (.iadd, 1) := by decide +kernel
theorem d_X_mix_66 : decode b_X_mix 66 = .ok (.laload, 1) := by decide +kernel
theorem d_X_mix_67 : decode b_X_mix 67 = .ok (.lxor, 1) := by decide +kernel
theorem d_X_mix_68 : decode b_X_mix 68 = .ok (.lastore, 1) := by decide +kernel
theorem d_X_mix_69 : decode b_X_mix 69 = .ok (.iinc 4 1, 3) := by decide +kernel
theorem d_X_mix_72 : decode b_X_mix 72 = .ok (.goto (-61), 3) := by decide +kernel
theorem d_X_mix_75 : decode b_X_mix 75 = .ok (.iconst 0, 1) := by decide +kernel
theorem d_X_mix_76 : decode b_X_mix 76 = .ok (.istore 4, 2) := by decide +kernel
theorem d_X_mix_78 : decode b_X_mix 78 = .ok (.iload 4, 2) := by decide +kernel
theorem d_X_mix_80 : decode b_X_mix 80 = .ok (.iconst 5, 1) := by decide +kernel
theorem d_X_mix_81 : decode b_X_mix 81 = .ok (.if_icmp .ge 68, 3) := by decide +kernel
theorem d_X_mix_84 : decode b_X_mix 84 = .ok (.aload_n 0, 1) := by decide +kernel
theorem d_X_mix_85 : decode b_X_mix 85 = .ok (.getfield 20, 3) := by decide +kernel
theorem d_X_mix_88 : decode b_X_mix 88 = .ok (.iload 4, 2) := by decide +kernel
theorem d_X_mix_90 : decode b_X_mix 90 = .ok (.iconst 4, 1) := by decide +kernel
theorem d_X_mix_91 : decode b_X_mix 91 = .ok (.iadd, 1) := by decide +kernel
theorem d_X_mix_92 : decode b_X_mix 92 = .ok (.iconst 5, 1) := by decide +kernel
theorem d_X_mix_93 : decode b_X_mix 93 = .ok (.irem, 1) := by decide +kernel
theorem d_X_mix_94 : decode b_X_mix 94 = .ok (.laload, 1) := by decide +kernel
theorem d_X_mix_95 : decode b_X_mix 95 = .ok (.aload_n 0, 1) := by decide +kernel
theorem d_X_mix_96 : decode b_X_mix 96 = .ok (.getfield 20, 3) := by decide +kernel
theorem d_X_mix_99 : decode b_X_mix 99 = .ok (.iload 4, 2) := by decide +kernel
theorem d_X_mix_101 : decode b_X_mix 101 = .ok (.iconst 1, 1) := by decide +kernel
theorem d_X_mix_102 : decode b_X_mix 102 = .ok (.iadd, 1) := by decide +kernel
theorem d_X_mix_103 : decode b_X_mix 103 = .ok (.iconst 5, 1) := by decide +kernel
theorem d_X_mix_104 : decode b_X_mix 104 = .ok (.irem, 1) := by decide +kernel
theorem d_X_mix_105 : decode b_X_mix 105 = .ok (.laload, 1) := by decide +kernel
theorem d_X_mix_106 : decode b_X_mix 106 = .ok (.iconst 1, 1) := by decide +kernel
theorem d_X_mix_107 : decode b_X_mix 107 = .ok (.invokestatic 23, 3) := by decide +kernel
theorem d_X_mix_110 : decode b_X_mix 110 = .ok (.lxor, 1) := by decide +kernel
theorem d_X_mix_111 : decode b_X_mix 111 = .ok (.lstore 5, 2) := by decide +kernel
theorem d_X_mix_113 : decode b_X_mix 113 = .ok (.iconst 0, 1) := by decide +kernel
theorem d_X_mix_114 : decode b_X_mix 114 = .ok (.istore 7, 2) := by decide +kernel
theorem d_X_mix_116 : decode b_X_mix 116 = .ok (.iload 7, 2) := by decide +kernel
theorem d_X_mix_118 : decode b_X_mix 118 = .ok (.bipush 25, 2) := by decide +kernel
theorem d_X_mix_120 : decode b_X_mix 120 = .ok (.if_icmp .ge 23, 3) := by decide +kernel
theorem d_X_mix_123 : decode b_X_mix 123 = .ok (.aload_n 1, 1) := by decide +kernel
theorem d_X_mix_124 : decode b_X_mix 124 = .ok (.iload_n 2, 1) := by decide +kernel
theorem d_X_mix_125 : decode b_X_mix 125 = .ok (.iload 4, 2) := by decide +kernel
theorem d_X_mix_127 : decode b_X_mix 127 = .ok (.iadd, 1) := by decide +kernel
theorem d_X_mix_128 : decode b_X_mix 128 = .ok (.iload 7, 2) := by decide +kernel
theorem d_X_mix_130 : decode b_X_mix 130 = .ok (.iadd, 1) := by decide +kernel
theorem d_X_mix_131 : decode b_X_mix 131 = .ok (.dup2, 1) := by decide +kernel
theorem d_X_mix_132 : decode b_X_mix 132 = .ok (.laload, 1) := by decide +kernel
theorem d_X_mix_133 : decode b_X_mix 133 = .ok (.lload 5, 2) := by decide +kernel
theorem d_X_mix_135 : decode b_X_mix 135 = .ok (.lxor, 1) := by decide +kernel
theorem d_X_mix_136 : decode b_X_mix 136 = .ok (.lastore, 1) := by decide +kernel
theorem d_X_mix_137 : decode b_X_mix 137 = .ok (.iinc 7 5, 3) := by decide +kernel
theorem d_X_mix_140 : decode b_X_mix 140 = .ok (.goto (-24), 3) := by decide +kernel
theorem d_X_mix_143 : decode b_X_mix 143 = .ok (.iinc 4 1, 3) := by decide +kernel
theorem d_X_mix_146 : decode b_X_mix 146 = .ok (.goto (-68), 3) := by decide +kernel
theorem d_X_mix_149 : decode b_X_mix 149 = .ok (.iconst 0, 1) := by decide +kernel
theorem d_X_mix_150 : decode b_X_mix 150 = .ok (.istore 4, 2) := by decide +kernel
theorem d_X_mix_152 : decode b_X_mix 152 = .ok (.iload 4, 2) := by decide +kernel
theorem d_X_mix_154 : decode b_X_mix 154 = .ok (.iconst 5, 1) := by decide +kernel
theorem d_X_mix_155 : decode b_X_mix 155 = .ok (.if_icmp .ge 71, 3) := by decide +kernel
theorem d_X_mix_158 : decode b_X_mix 158 = .ok (.iconst 0, 1) := by decide +kernel
theorem d_X_mix_159 : decode b_X_mix 159 = .ok (.istore 5, 2) := by decide +kernel
theorem d_X_mix_161 : decode b_X_mix 161 = .ok (.iload 5, 2) := by decide +kernel
theorem d_X_mix_163 : decode b_X_mix 163 = .ok (.iconst 5, 1) := by decide +kernel
theorem d_X_mix_164 : decode b_X_mix 164 = .ok (.if_icmp .ge 56, 3) := by decide +kernel
theorem d_X_mix_167 : decode b_X_mix 167 = .ok (.aload_n 0, 1) := by decide +kernel
theorem d_X_mix_168 : decode b_X_mix 168 = .ok (.getfield 17, 3) := by decide +kernel
theorem d_X_mix_171 : decode b_X_mix 171 = .ok (.iload 5, 2) := by decide +kernel
theorem d_X_mix_173 : decode b_X_mix 173 = .ok (.iconst 5, 1) := by decide +kernel
theorem d_X_mix_174 : decode b_X_mix 174 = .ok (.iconst 2, 1) := by decide +kernel
theorem d_X_mix_175 : decode b_X_mix 175 = .ok (.iload 4, 2) := by decide +kernel
theorem d_X_mix_177 : decode b_X_mix 177 = .ok (.imul, 1) := by decide +kernel
theorem d_X_mix_178 : decode b_X_mix 178 = .ok (.iconst 3, 1) := by decide +kernel
theorem d_X_mix_179 : decode b_X_mix 179 = .ok (.iload 5, 2) := by decide +kernel
theorem d_X_mix_181 : decode b_X_mix 181 = .ok (.imul, 1) := by decide +kernel
theorem d_X_mix_182 : decode b_X_mix 182 = .ok (.iadd, 1) := by decide +kernel
theorem d_X_mix_183 : decode b_X_mix 183 = .ok (.iconst 5, 1) := by decide +kernel
theorem d_X_mix_184 : decode b_X_mix 184 = .ok (.irem, 1) := by decide +kernel
theorem d_X_mix_185 : decode b_X_mix 185 = .ok (.imul, 1) := by decide +kernel
theorem d_X_mix_186 : decode b_X_mix 186 = .ok (.iadd, 1) := by decide +kernel
theorem d_X_mix_187 : decode b_X_mix 187 = .ok (.aload_n 1, 1) := by decide +kernel
theorem d_X_mix_188 : decode b_X_mix 188 = .ok (.iload_n 2, 1) := by decide +kernel
theorem d_X_mix_189 : decode b_X_mix 189 = .ok (.iload 4, 2) := by decide +kernel
theorem d_X_mix_191 : decode b_X_mix 191 = .ok (.iadd, 1) := by decide +kernel
theorem d_X_mix_192 : decode b_X_mix 192 = .ok (.iconst 5, 1) := by decide +kernel
theorem d_X_mix_193 : decode b_X_mix 193 = .ok (.iload 5, 2) := by decide +kernel
theorem d_X_mix_195 : decode b_X_mix 195 = .ok (.imul, 1) := by decide +kernel
theorem d_X_mix_196 : decode b_X_mix 196 = .ok (.iadd, 1) := by decide +kernel
theorem d_X_mix_197 : decode b_X_mix 197 = .ok (.laload, 1) := by decide +kernel
theorem d_X_mix_198 : decode b_X_mix 198 = .ok (.aload_n 0, 1) := by decide +kernel
theorem d_X_mix_199 : decode b_X_mix 199 = .ok (.getfield 13, 3) := by decide +kernel
theorem d_X_mix_202 : decode b_X_mix 202 = .ok (.iload 4, 2) := by decide +kernel
theorem d_X_mix_204 : decode b_X_mix 204 = .ok (.iconst 5, 1) := by decide +kernel
theorem d_X_mix_205 : decode b_X_mix 205 = .ok (.iload 5, 2) := by decide +kernel
theorem d_X_mix_207 : decode b_X_mix 207 = .ok (.imul, 1) := by decide +kernel
theorem d_X_mix_208 : decode b_X_mix 208 = .ok (.iadd, 1) := by decide +kernel
theorem d_X_mix_209 : decode b_X_mix 209 = .ok (.iaload, 1) := by decide +kernel
theorem d_X_mix_210 : decode b_X_mix 210 = .ok (.invokestatic 23, 3) := by decide +kernel
theorem d_X_mix_213 : decode b_X_mix 213 = .ok (.lastore, 1) := by decide +kernel
theorem d_X_mix_214 : decode b_X_mix 214 = .ok (.iinc 5 1, 3) := by decide +kernel
theorem d_X_mix_217 : decode b_X_mix 217 = .ok (.goto (-56), 3) := by decide +kernel
theorem d_X_mix_220 : decode b_X_mix 220 = .ok (.iinc 4 1, 3) := by decide +kernel
theorem d_X_mix_223 : decode b_X_mix 223 = .ok (.goto (-71), 3) := by decide +kernel
theorem d_X_mix_226 : decode b_X_mix 226 = .ok (.iconst 0, 1) := by decide +kernel
theorem d_X_mix_227 : decode b_X_mix 227 = .ok (.istore 4, 2) := by decide +kernel
theorem d_X_mix_229 : decode b_X_mix 229 = .ok (.iload 4, 2) := by decide +kernel
theorem d_X_mix_231 : decode b_X_mix 231 = .ok (.bipush 25, 2) := by decide +kernel
theorem d_X_mix_233 : decode b_X_mix 233 = .ok (.if_icmp .ge 77, 3) := by decide +kernel
theorem d_X_mix_236 : decode b_X_mix 236 = .ok (.iconst 0, 1) := by decide +kernel
theorem d_X_mix_237 : decode b_X_mix 237 = .ok (.istore 5, 2) := by decide +kernel
theorem d_X_mix_239 : decode b_X_mix 239 = .ok (.iload 5, 2) := by decide +kernel
theorem d_X_mix_241 : decode b_X_mix 241 = .ok (.iconst 5, 1) := by decide +kernel
theorem d_X_mix_242 : decode b_X_mix 242 = .ok (.if_icmp .ge 62, 3) := by decide +kernel
theorem d_X_mix_245 : decode b_X_mix 245 = .ok (.aload_n 1, 1) := by decide +kernel
theorem d_X_mix_246 : decode b_X_mix 246 = .ok (.iload_n 2, 1) := by decide +kernel
theorem d_X_mix_247 : decode b_X_mix 247 = .ok (.iload 5, 2) := by decide +kernel
theorem d_X_mix_249 : decode b_X_mix 249 = .ok (.iadd, 1) := by decide +kernel
theorem d_X_mix_250 : decode b_X_mix 250 = .ok (.iload 4, 2) := by decide +kernel
theorem d_X_mix_252 : decode b_X_mix 252 = .ok (.iadd, 1) := by decide +kernel
theorem d_X_mix_253 : decode b_X_mix 253 = .ok (.aload_n 0, 1) := by decide +kernel
theorem d_X_mix_254 : decode b_X_mix 254 = .ok (.getfield 17, 3) := by decide +kernel
theorem d_X_mix_257 : decode b_X_mix 257 = .ok (.iload 5, 2) := by decide +kernel
theorem d_X_mix_259 : decode b_X_mix 259 = .ok (.iload 4, 2) := by decide +kernel
theorem d_X_mix_261 : decode b_X_mix 261 = .ok (.iadd, 1) := by decide +kernel
theorem d_X_mix_262 : decode b_X_mix 262 = .ok (.laload, 1) := by decide +kernel
theorem d_X_mix_263 : decode b_X_mix 263 = .ok (.aload_n 0, 1) := by decide +kernel
theorem d_X_mix_264 : decode b_X_mix 264 = .ok (.getfield 17, 3) := by decide +kernel
theorem d_X_mix_267 : decode b_X_mix 267 = .ok (.iload 5, 2) := by decide +kernel
theorem d_X_mix_269 : decode b_X_mix 269 = .ok (.iconst 1, 1) := by decide +kernel
theorem d_X_mix_270 : decode b_X_mix 270 = .ok (.iadd, 1) := by decide +kernel
theorem d_X_mix_271 : decode b_X_mix 271 = .ok (.iconst 5, 1) := by decide +kernel
theorem d_X_mix_272 : decode b_X_mix 272 = .ok (.irem, 1) := by decide +kernel
theorem d_X_mix_273 : decode b_X_mix 273 = .ok (.iload 4, 2) := by decide +kernel
theorem d_X_mix_275 : decode b_X_mix 275 = .ok (.iadd, 1) := by decide +kernel
theorem d_X_mix_276 : decode b_X_mix 276 = .ok (.laload, 1) := by decide +kernel
theorem d_X_mix_277 : decode b_X_mix 277 = .ok (.ldc2_w 27, 3) := by decide +kernel
theorem d_X_mix_280 : decode b_X_mix 280 = .ok (.lxor, 1) := by decide +kernel
theorem d_X_mix_281 : decode b_X_mix 281 = .ok (.aload_n 0, 1) := by decide +kernel
theorem d_X_mix_282 : decode b_X_mix 282 = .ok (.getfield 17, 3) := by decide +kernel
theorem d_X_mix_285 : decode b_X_mix 285 = .ok (.iload 5, 2) := by decide +kernel
theorem d_X_mix_287 : decode b_X_mix 287 = .ok (.iconst 2, 1) := by decide +kernel
theorem d_X_mix_288 : decode b_X_mix 288 = .ok (.iadd, 1) := by decide +kernel
theorem d_X_mix_289 : decode b_X_mix 289 = .ok (.iconst 5, 1) := by decide +kernel
theorem d_X_mix_290 : decode b_X_mix 290 = .ok (.irem, 1) := by decide +kernel
theorem d_X_mix_291 : decode b_X_mix 291 = .ok (.iload 4, 2) := by decide +kernel
theorem d_X_mix_293 : decode b_X_mix 293 = .ok (.iadd, 1) := by decide +kernel
theorem d_X_mix_294 : decode b_X_mix 294 = .ok (.laload, 1) := by decide +kernel
theorem d_X_mix_295 : decode b_X_mix 295 = .ok (.land, 1) := by decide +kernel
theorem d_X_mix_296 : decode b_X_mix 296 = .ok (.lxor, 1) := by decide +kernel
theorem d_X_mix_297 : decode b_X_mix 297 = .ok (.lastore, 1) := by decide +kernel
theorem d_X_mix_298 : decode b_X_mix 298 = .ok (.iinc 5 1, 3) := by decide +kernel
theorem d_X_mix_301 : decode b_X_mix 301 = .ok (.goto (-62), 3) := by decide +kernel
theorem d_X_mix_304 : decode b_X_mix 304 = .ok (.iinc 4 5, 3) := by decide +kernel
theorem d_X_mix_307 : decode b_X_mix 307 = .ok (.goto (-78), 3) := by decide +kernel
theorem d_X_mix_310 : decode b_X_mix 310 = .ok (.aload_n 1, 1) := by decide +kernel
theorem d_X_mix_311 : decode b_X_mix 311 = .ok (.iload_n 2, 1) := by decide +kernel
theorem d_X_mix_312 : decode b_X_mix 312 = .ok (.iconst 0, 1) := by decide +kernel
theorem d_X_mix_313 : decode b_X_mix 313 = .ok (.iadd, 1) := by decide +kernel
theorem d_X_mix_314 : decode b_X_mix 314 = .ok (.dup2, 1) := by decide +kernel
theorem d_X_mix_315 : decode b_X_mix 315 = .ok (.laload, 1) := by decide +kernel
theorem d_X_mix_316 : decode b_X_mix 316 = .ok (.aload_n 0, 1) := by decide +kernel
theorem d_X_mix_317 : decode b_X_mix 317 = .ok (.getfield 7, 3) := by decide +kernel
theorem d_X_mix_320 : decode b_X_mix 320 = .ok (.iload_n 3, 1) := by decide +kernel
theorem d_X_mix_321 : decode b_X_mix 321 = .ok (.laload, 1) := by decide +kernel
theorem d_X_mix_322 : decode b_X_mix 322 = .ok (.lxor, 1) := by decide +kernel
theorem d_X_mix_323 : decode b_X_mix 323 = .ok (.lastore, 1) := by decide +kernel
theorem d_X_mix_324 : decode b_X_mix 324 = .ok (.iinc 3 1, 3) := by decide +kernel
theorem d_X_mix_327 : decode b_X_mix 327 = .ok (.goto (-325), 3) := by decide +kernel
theorem d_X_mix_330 : decode b_X_mix 330 = .ok (.return_, 1) := by decide +kernel
theorem d_X_turn_0 : decode b_X_turn 0 = .ok (.iload_n 2, 1) := by decide +kernel
theorem d_X_turn_1 : decode b_X_turn 1 = .ok (.ifCond .ne 7, 3) := by decide +kernel
theorem d_X_turn_4 : decode b_X_turn 4 = .ok (.lload_n 0, 1) := by decide +kernel
theorem d_X_turn_5 : decode b_X_turn 5 = .ok (.goto 13, 3) := by decide +kernel
theorem d_X_turn_8 : decode b_X_turn 8 = .ok (.lload_n 0, 1) := by decide +kernel
theorem d_X_turn_9 : decode b_X_turn 9 = .ok (.iload_n 2, 1) := by decide +kernel
theorem d_X_turn_10 : decode b_X_turn 10 = .ok (.lshl, 1) := by decide +kernel
theorem d_X_turn_11 : decode b_X_turn 11 = .ok (.lload_n 0, 1) := by decide +kernel
theorem d_X_turn_12 : decode b_X_turn 12 = .ok (.bipush 64, 2) := by decide +kernel
theorem d_X_turn_14 : decode b_X_turn 14 = .ok (.iload_n 2, 1) := by decide +kernel
theorem d_X_turn_15 : decode b_X_turn 15 = .ok (.isub, 1) := by decide +kernel
theorem d_X_turn_16 : decode b_X_turn 16 = .ok (.lushr, 1) := by decide +kernel
theorem d_X_turn_17 : decode b_X_turn 17 = .ok (.lor, 1) := by decide +kernel
theorem d_X_turn_18 : decode b_X_turn 18 = .ok (.lreturn, 1) := by decide +kernel
theorem d_L_fill_0 : decode b_L_fill 0 = .ok (.aload 5, 2) := by decide +kernel
theorem d_L_fill_2 : decode b_L_fill 2 = .ok (.iconst 0, 1) := by decide +kernel
theorem d_L_fill_3 : decode b_L_fill 3 = .ok (.aload_n 0, 1) := by decide +kernel
theorem d_L_fill_4 : decode b_L_fill 4 = .ok (.iload_n 1, 1) := by decide +kernel
theorem d_L_fill_5 : decode b_L_fill 5 = .ok (.iload_n 2, 1) := by decide +kernel
theorem d_L_fill_6 : decode b_L_fill 6 = .ok (.iload_n 3, 1) := by decide +kernel
theorem d_L_fill_7 : decode b_L_fill 7 = .ok (.iload 4, 2) := by decide +kernel
theorem d_L_fill_9 : decode b_L_fill 9 = .ok (.invokevirtual 19, 3) := by decide +kernel
theorem d_L_fill_12 : decode b_L_fill 12 = .ok (.i2l, 1) := by decide +kernel
theorem d_L_fill_13 : decode b_L_fill 13 = .ok (.lastore, 1) := by decide +kernel
theorem d_L_fill_14 : decode b_L_fill 14 = .ok (.goto 7, 3) := by decide +kernel
theorem d_L_fill_17 : decode b_L_fill 17 = .ok (.astore 6, 2) := by decide +kernel
theorem d_L_fill_19 : decode b_L_fill 19 = .ok (.iconst 1, 1) := by decide +kernel
theorem d_L_fill_20 : decode b_L_fill 20 = .ok (.ireturn, 1) := by decide +kernel
theorem d_L_fill_21 : decode b_L_fill 21 = .ok (.iconst 0, 1) := by decide +kernel
theorem d_L_fill_22 : decode b_L_fill 22 = .ok (.ireturn, 1) := by decide +kernel
theorem d_K_fill_0 : decode b_K_fill 0 = .ok (.iload_n 1, 1) := by decide +kernel
theorem d_K_fill_1 : decode b_K_fill 1 = .ok (.bipush 7, 2) := by decide +kernel
theorem d_K_fill_3 : decode b_K_fill 3 = .ok (.invokestatic 33, 3) := by decide +kernel
theorem d_K_fill_6 : decode b_K_fill 6 = .ok (.iload 4, 2) := by decide +kernel
theorem d_K_fill_8 : decode b_K_fill 8 = .ok (.sipush 2000, 3) := by decide +kernel
theorem d_K_fill_11 : decode b_K_fill 11 = .ok (.invokestatic 33, 3) := by decide +kernel
theorem d_K_fill_14 : decode b_K_fill 14 = .ok (.iconst 0, 1) := by decide +kernel
theorem d_K_fill_15 : decode b_K_fill 15 = .ok (.istore 5, 2) := by decide +kernel
theorem d_K_fill_17 : decode b_K_fill 17 = .ok (.iload 5, 2) := by decide +kernel
theorem d_K_fill_19 : decode b_K_fill 19 = .ok (.iload 4, 2) := by decide +kernel
theorem d_K_fill_21 : decode b_K_fill 21 = .ok (.if_icmp .ge 21, 3) := by decide +kernel
theorem d_K_fill_24 : decode b_K_fill 24 = .ok (.aload_n 0, 1) := by decide +kernel
theorem d_K_fill_25 : decode b_K_fill 25 = .ok (.iload_n 1, 1) := by decide +kernel
theorem d_K_fill_26 : decode b_K_fill 26 = .ok (.iload_n 2, 1) := by decide +kernel
theorem d_K_fill_27 : decode b_K_fill 27 = .ok (.iload 5, 2) := by decide +kernel
theorem d_K_fill_29 : decode b_K_fill 29 = .ok (.iload_n 3, 1) := by decide +kernel
theorem d_K_fill_30 : decode b_K_fill 30 = .ok (.imul, 1) := by decide +kernel
theorem d_K_fill_31 : decode b_K_fill 31 = .ok (.iadd, 1) := by decide +kernel
theorem d_K_fill_32 : decode b_K_fill 32 = .ok (.i2l, 1) := by decide +kernel
theorem d_K_fill_33 : decode b_K_fill 33 = .ok (.invokevirtual 37, 3) := by decide +kernel
theorem d_K_fill_36 : decode b_K_fill 36 = .ok (.iinc 5 1, 3) := by decide +kernel
theorem d_K_fill_39 : decode b_K_fill 39 = .ok (.goto (-22), 3) := by decide +kernel
theorem d_K_fill_42 : decode b_K_fill 42 = .ok (.aload_n 0, 1) := by decide +kernel
theorem d_K_fill_43 : decode b_K_fill 43 = .ok (.getfield 20, 3) := by decide +kernel
theorem d_K_fill_46 : decode b_K_fill 46 = .ok (.iload_n 1, 1) := by decide +kernel
theorem d_K_fill_47 : decode b_K_fill 47 = .ok (.iaload, 1) := by decide +kernel
theorem d_K_fill_48 : decode b_K_fill 48 = .ok (.ireturn, 1) := by decide +kernel
theorem d_L_copy_0 : decode b_L_copy 0 = .ok (.aload_n 0, 1) := by decide +kernel
theorem d_L_copy_1 : decode b_L_copy 1 = .ok (.iload_n 1, 1) := by decide +kernel
theorem d_L_copy_2 : decode b_L_copy 2 = .ok (.iload_n 2, 1) := by decide +kernel
theorem d_L_copy_3 : decode b_L_copy 3 = .ok (.invokevirtual 23, 3) := by decide +kernel
theorem d_L_copy_6 : decode b_L_copy 6 = .ok (.goto 6, 3) := by decide +kernel
theorem d_L_copy_9 : decode b_L_copy 9 = .ok (.astore_n 3, 1) := by decide +kernel
theorem d_L_copy_10 : decode b_L_copy 10 = .ok (.iconst 1, 1) := by decide +kernel
theorem d_L_copy_11 : decode b_L_copy 11 = .ok (.ireturn, 1) := by decide +kernel
theorem d_L_copy_12 : decode b_L_copy 12 = .ok (.iconst 0, 1) := by decide +kernel
theorem d_L_copy_13 : decode b_L_copy 13 = .ok (.ireturn, 1) := by decide +kernel
theorem d_K_copy_0 : decode b_K_copy 0 = .ok (.iload_n 1, 1) := by decide +kernel
theorem d_K_copy_1 : decode b_K_copy 1 = .ok (.bipush 7, 2) := by decide +kernel
theorem d_K_copy_3 : decode b_K_copy 3 = .ok (.invokestatic 33, 3) := by decide +kernel
theorem d_K_copy_6 : decode b_K_copy 6 = .ok (.iload_n 2, 1) := by decide +kernel
theorem d_K_copy_7 : decode b_K_copy 7 = .ok (.bipush 7, 2) := by decide +kernel
theorem d_K_copy_9 : decode b_K_copy 9 = .ok (.invokestatic 33, 3) := by decide +kernel
theorem d_K_copy_12 : decode b_K_copy 12 = .ok (.aload_n 0, 1) := by decide +kernel
theorem d_K_copy_13 : decode b_K_copy 13 = .ok (.iload_n 1, 1) := by decide +kernel
theorem d_K_copy_14 : decode b_K_copy 14 = .ok (.iload_n 2, 1) := by decide +kernel
theorem d_K_copy_15 : decode b_K_copy 15 = .ok (.invokevirtual 41, 3) := by decide +kernel
theorem d_K_copy_18 : decode b_K_copy 18 = .ok (.return_, 1) := by decide +kernel
theorem d_K_move_0 : decode b_K_move 0 = .ok (.iconst 0, 1) := by decide +kernel
theorem d_K_move_1 : decode b_K_move 1 = .ok (.istore_n 3, 1) := by decide +kernel
theorem d_K_move_2 : decode b_K_move 2 = .ok (.iload_n 3, 1) := by decide +kernel
theorem d_K_move_3 : decode b_K_move 3 = .ok (.bipush 25, 2) := by decide +kernel
theorem d_K_move_5 : decode b_K_move 5 = .ok (.if_icmp .ge 31, 3) := by decide +kernel
theorem d_K_move_8 : decode b_K_move 8 = .ok (.aload_n 0, 1) := by decide +kernel
theorem d_K_move_9 : decode b_K_move 9 = .ok (.getfield 16, 3) := by decide +kernel
theorem d_K_move_12 : decode b_K_move 12 = .ok (.bipush 25, 2) := by decide +kernel
theorem d_K_move_14 : decode b_K_move 14 = .ok (.iload_n 2, 1) := by decide +kernel
theorem d_K_move_15 : decode b_K_move 15 = .ok (.imul, 1) := by decide +kernel
theorem d_K_move_16 : decode b_K_move 16 = .ok (.iload_n 3, 1) := by decide +kernel
theorem d_K_move_17 : decode b_K_move 17 = .ok (.iadd, 1) := by decide +kernel
theorem d_K_move_18 : decode b_K_move 18 = .ok (.aload_n 0, 1) := by decide +kernel
theorem d_K_move_19 : decode b_K_move 19 = .ok (.getfield 16, 3) := by decide +kernel
theorem d_K_move_22 : decode b_K_move 22 = .ok (.bipush 25, 2) := by decide +kernel
theorem d_K_move_24 : decode b_K_move 24 = .ok (.iload_n 1, 1) := by decide +kernel
theorem d_K_move_25 : decode b_K_move 25 = .ok (.imul, 1) := by decide +kernel
theorem d_K_move_26 : decode b_K_move 26 = .ok (.iload_n 3, 1) := by decide +kernel
theorem d_K_move_27 : decode b_K_move 27 = .ok (.iadd, 1) := by decide +kernel
theorem d_K_move_28 : decode b_K_move 28 = .ok (.laload, 1) := by decide +kernel
theorem d_K_move_29 : decode b_K_move 29 = .ok (.lastore, 1) := by decide +kernel
theorem d_K_move_30 : decode b_K_move 30 = .ok (.iinc 3 1, 3) := by decide +kernel
theorem d_K_move_33 : decode b_K_move 33 = .ok (.goto (-31), 3) := by decide +kernel
theorem d_K_move_36 : decode b_K_move 36 = .ok (.aload_n 0, 1) := by decide +kernel
theorem d_K_move_37 : decode b_K_move 37 = .ok (.getfield 20, 3) := by decide +kernel
theorem d_K_move_40 : decode b_K_move 40 = .ok (.iload_n 2, 1) := by decide +kernel
theorem d_K_move_41 : decode b_K_move 41 = .ok (.aload_n 0, 1) := by decide +kernel
theorem d_K_move_42 : decode b_K_move 42 = .ok (.getfield 20, 3) := by decide +kernel
theorem d_K_move_45 : decode b_K_move 45 = .ok (.iload_n 1, 1) := by decide +kernel
theorem d_K_move_46 : decode b_K_move 46 = .ok (.iaload, 1) := by decide +kernel
theorem d_K_move_47 : decode b_K_move 47 = .ok (.iastore, 1) := by decide +kernel
theorem d_K_move_48 : decode b_K_move 48 = .ok (.return_, 1) := by decide +kernel
theorem d_L_mix_0 : decode b_L_mix 0 = .ok (.aload_n 0, 1) := by decide +kernel
theorem d_L_mix_1 : decode b_L_mix 1 = .ok (.iload_n 1, 1) := by decide +kernel
theorem d_L_mix_2 : decode b_L_mix 2 = .ok (.invokevirtual 27, 3) := by decide +kernel
theorem d_L_mix_5 : decode b_L_mix 5 = .ok (.goto 6, 3) := by decide +kernel
theorem d_L_mix_8 : decode b_L_mix 8 = .ok (.astore_n 2, 1) := by decide +kernel
theorem d_L_mix_9 : decode b_L_mix 9 = .ok (.iconst 1, 1) := by decide +kernel
theorem d_L_mix_10 : decode b_L_mix 10 = .ok (.ireturn, 1) := by decide +kernel
theorem d_L_mix_11 : decode b_L_mix 11 = .ok (.iconst 0, 1) := by decide +kernel
theorem d_L_mix_12 : decode b_L_mix 12 = .ok (.ireturn, 1) := by decide +kernel
theorem d_K_mix_0 : decode b_K_mix 0 = .ok (.iload_n 1, 1) := by decide +kernel
theorem d_K_mix_1 : decode b_K_mix 1 = .ok (.bipush 7, 2) := by decide +kernel
theorem d_K_mix_3 : decode b_K_mix 3 = .ok (.invokestatic 33, 3) := by decide +kernel
theorem d_K_mix_6 : decode b_K_mix 6 = .ok (.aload_n 0, 1) := by decide +kernel
theorem d_K_mix_7 : decode b_K_mix 7 = .ok (.getfield 10, 3) := by decide +kernel
theorem d_K_mix_10 : decode b_K_mix 10 = .ok (.aload_n 0, 1) := by decide +kernel
theorem d_K_mix_11 : decode b_K_mix 11 = .ok (.getfield 16, 3) := by decide +kernel
theorem d_K_mix_14 : decode b_K_mix 14 = .ok (.bipush 25, 2) := by decide +kernel
theorem d_K_mix_16 : decode b_K_mix 16 = .ok (.iload_n 1, 1) := by decide +kernel
theorem d_K_mix_17 : decode b_K_mix 17 = .ok (.imul, 1) := by decide +kernel
theorem d_K_mix_18 : decode b_K_mix 18 = .ok (.invokevirtual 29, 3) := by decide +kernel
theorem d_K_mix_21 : decode b_K_mix 21 = .ok (.return_, 1) := by decide +kernel
theorem d_L_lane_0 : decode b_L_lane 0 = .ok (.aload_n 3, 1) := by decide +kernel
theorem d_L_lane_1 : decode b_L_lane 1 = .ok (.iconst 0, 1) := by decide +kernel
theorem d_L_lane_2 : decode b_L_lane 2 = .ok (.aload_n 0, 1) := by decide +kernel
theorem d_L_lane_3 : decode b_L_lane 3 = .ok (.iload_n 1, 1) := by decide +kernel
theorem d_L_lane_4 : decode b_L_lane 4 = .ok (.iload_n 2, 1) := by decide +kernel
theorem d_L_lane_5 : decode b_L_lane 5 = .ok (.invokevirtual 30, 3) := by decide +kernel
theorem d_L_lane_8 : decode b_L_lane 8 = .ok (.lastore, 1) := by decide +kernel
theorem d_L_lane_9 : decode b_L_lane 9 = .ok (.goto 7, 3) := by decide +kernel
theorem d_L_lane_12 : decode b_L_lane 12 = .ok (.astore 4, 2) := by decide +kernel
theorem d_L_lane_14 : decode b_L_lane 14 = .ok (.iconst 1, 1) := by decide +kernel
theorem d_L_lane_15 : decode b_L_lane 15 = .ok (.ireturn, 1) := by decide +kernel
theorem d_L_lane_16 : decode b_L_lane 16 = .ok (.iconst 0, 1) := by decide +kernel
theorem d_L_lane_17 : decode b_L_lane 17 = .ok (.ireturn, 1) := by decide +kernel
theorem d_K_lane_0 : decode b_K_lane 0 = .ok (.iload_n 1, 1) := by decide +kernel
theorem d_K_lane_1 : decode b_K_lane 1 = .ok (.bipush 7, 2) := by decide +kernel
theorem d_K_lane_3 : decode b_K_lane 3 = .ok (.invokestatic 33, 3) := by decide +kernel
theorem d_K_lane_6 : decode b_K_lane 6 = .ok (.iload_n 2, 1) := by decide +kernel
theorem d_K_lane_7 : decode b_K_lane 7 = .ok (.bipush 24, 2) := by decide +kernel
theorem d_K_lane_9 : decode b_K_lane 9 = .ok (.invokestatic 33, 3) := by decide +kernel
theorem d_K_lane_12 : decode b_K_lane 12 = .ok (.aload_n 0, 1) := by decide +kernel
theorem d_K_lane_13 : decode b_K_lane 13 = .ok (.getfield 16, 3) := by decide +kernel
theorem d_K_lane_16 : decode b_K_lane 16 = .ok (.bipush 25, 2) := by decide +kernel
theorem d_K_lane_18 : decode b_K_lane 18 = .ok (.iload_n 1, 1) := by decide +kernel
theorem d_K_lane_19 : decode b_K_lane 19 = .ok (.imul, 1) := by decide +kernel
theorem d_K_lane_20 : decode b_K_lane 20 = .ok (.iload_n 2, 1) := by decide +kernel
theorem d_K_lane_21 : decode b_K_lane 21 = .ok (.iadd, 1) := by decide +kernel
theorem d_K_lane_22 : decode b_K_lane 22 = .ok (.laload, 1) := by decide +kernel
theorem d_K_lane_23 : decode b_K_lane 23 = .ok (.lreturn, 1) := by decide +kernel
theorem d_L_digest_0 : decode b_L_digest 0 = .ok (.aload_n 3, 1) := by decide +kernel
theorem d_L_digest_1 : decode b_L_digest 1 = .ok (.iconst 0, 1) := by decide +kernel
theorem d_L_digest_2 : decode b_L_digest 2 = .ok (.aload_n 0, 1) := by decide +kernel
theorem d_L_digest_3 : decode b_L_digest 3 = .ok (.iload_n 1, 1) := by decide +kernel
theorem d_L_digest_4 : decode b_L_digest 4 = .ok (.iload_n 2, 1) := by decide +kernel
theorem d_L_digest_5 : decode b_L_digest 5 = .ok (.invokevirtual 34, 3) := by decide +kernel
theorem d_L_digest_8 : decode b_L_digest 8 = .ok (.lastore, 1) := by decide +kernel
theorem d_L_digest_9 : decode b_L_digest 9 = .ok (.goto 7, 3) := by decide +kernel
theorem d_L_digest_12 : decode b_L_digest 12 = .ok (.astore 4, 2) := by decide +kernel
theorem d_L_digest_14 : decode b_L_digest 14 = .ok (.iconst 1, 1) := by decide +kernel
theorem d_L_digest_15 : decode b_L_digest 15 = .ok (.ireturn, 1) := by decide +kernel
theorem d_L_digest_16 : decode b_L_digest 16 = .ok (.iconst 0, 1) := by decide +kernel
theorem d_L_digest_17 : decode b_L_digest 17 = .ok (.ireturn, 1) := by decide +kernel
theorem d_K_digest_0 : decode b_K_digest 0 = .ok (.iload_n 1, 1) := by decide +kernel
theorem d_K_digest_1 : decode b_K_digest 1 = .ok (.bipush 7, 2) := by decide +kernel
theorem d_K_digest_3 : decode b_K_digest 3 = .ok (.invokestatic 33, 3) := by decide +kernel
theorem d_K_digest_6 : decode b_K_digest 6 = .ok (.iload_n 2, 1) := by decide +kernel
theorem d_K_digest_7 : decode b_K_digest 7 = .ok (.iconst 3, 1) := by decide +kernel
theorem d_K_digest_8 : decode b_K_digest 8 = .ok (.invokestatic 33, 3) := by decide +kernel
theorem d_K_digest_11 : decode b_K_digest 11 = .ok (.aload_n 0, 1) := by decide +kernel
theorem d_K_digest_12 : decode b_K_digest 12 = .ok (.iload_n 1, 1) := by decide +kernel
theorem d_K_digest_13 : decode b_K_digest 13 = .ok (.bipush 8, 2) := by decide +kernel
theorem d_K_digest_15 : decode b_K_digest 15 = .ok (.invokevirtual 41, 3) := by decide +kernel
theorem d_K_digest_18 : decode b_K_digest 18 = .ok (.aload_n 0, 1) := by decide +kernel
theorem d_K_digest_19 : decode b_K_digest 19 = .ok (.getfield 20, 3) := by decide +kernel
theorem d_K_digest_22 : decode b_K_digest 22 = .ok (.bipush 8, 2) := by decide +kernel
theorem d_K_digest_24 : decode b_K_digest 24 = .ok (.iaload, 1) := by decide +kernel
theorem d_K_digest_25 : decode b_K_digest 25 = .ok (.istore_n 3, 1) := by decide +kernel
theorem d_K_digest_26 : decode b_K_digest 26 = .ok (.aload_n 0, 1) := by decide +kernel
theorem d_K_digest_27 : decode b_K_digest 27 = .ok (.getfield 16, 3) := by decide +kernel
theorem d_K_digest_30 : decode b_K_digest 30 = .ok (.sipush 200, 3) := by decide +kernel
theorem d_K_digest_33 : decode b_K_digest 33 = .ok (.iload_n 3, 1) := by decide +kernel
theorem d_K_digest_34 : decode b_K_digest 34 = .ok (.bipush 8, 2) := by decide +kernel
theorem d_K_digest_36 : decode b_K_digest 36 = .ok (.idiv, 1) := by decide +kernel
theorem d_K_digest_37 : decode b_K_digest 37 = .ok (.iadd, 1) := by decide +kernel
theorem d_K_digest_38 : decode b_K_digest 38 = .ok (.dup2, 1) := by decide +kernel
theorem d_K_digest_39 : decode b_K_digest 39 = .ok (.laload, 1) := by decide +kernel
theorem d_K_digest_40 : decode b_K_digest 40 = .ok (.lconst 1, 1) := by decide +kernel
theorem d_K_digest_41 : decode b_K_digest 41 = .ok (.bipush 8, 2) := by decide +kernel
theorem d_K_digest_43 : decode b_K_digest 43 = .ok (.iload_n 3, 1) := by decide +kernel
theorem d_K_digest_44 : decode b_K_digest 44 = .ok (.bipush 8, 2) := by decide +kernel
theorem d_K_digest_46 : decode b_K_digest 46 = .ok (.irem, 1) := by decide +kernel
theorem d_K_digest_47 : decode b_K_digest 47 = .ok (.imul, 1) := by decide +kernel
theorem d_K_digest_48 : decode b_K_digest 48 = .ok (.lshl, 1) := by decide +kernel
theorem d_K_digest_49 : decode b_K_digest 49 = .ok (.lxor, 1) := by decide +kernel
theorem d_K_digest_50 : decode b_K_digest 50 = .ok (.lastore, 1) := by decide +kernel
theorem d_K_digest_51 : decode b_K_digest 51 = .ok (.aload_n 0, 1) := by decide +kernel
theorem d_K_digest_52 : decode b_K_digest 52 = .ok (.getfield 16, 3) := by decide +kernel
theorem d_K_digest_55 : decode b_K_digest 55 = .ok (.sipush 216, 3) := by decide +kernel
theorem d_K_digest_58 : decode b_K_digest 58 = .ok (.dup2, 1) := by decide +kernel
theorem d_K_digest_59 : decode b_K_digest 59 = .ok (.laload, 1) := by decide +kernel
theorem d_K_digest_60 : decode b_K_digest 60 = .ok (.ldc2_w 44, 3) := by decide +kernel
theorem d_K_digest_63 : decode b_K_digest 63 = .ok (.lxor, 1) := by decide +kernel
theorem d_K_digest_64 : decode b_K_digest 64 = .ok (.lastore, 1) := by decide +kernel
theorem d_K_digest_65 : decode b_K_digest 65 = .ok (.aload_n 0, 1) := by decide +kernel
theorem d_K_digest_66 : decode b_K_digest 66 = .ok (.getfield 10, 3) := by decide +kernel
theorem d_K_digest_69 : decode b_K_digest 69 = .ok (.aload_n 0, 1) := by decide +kernel
theorem d_K_digest_70 : decode b_K_digest 70 = .ok (.getfield 16, 3) := by decide +kernel
theorem d_K_digest_73 : decode b_K_digest 73 = .ok (.sipush 200, 3) := by decide +kernel
theorem d_K_digest_76 : decode b_K_digest 76 = .ok (.invokevirtual 29, 3) := by decide +kernel
theorem d_K_digest_79 : decode b_K_digest 79 = .ok (.lconst 0, 1) := by decide +kernel
theorem d_K_digest_80 : decode b_K_digest 80 = .ok (.lstore 4, 2) := by decide +kernel
theorem d_K_digest_82 : decode b_K_digest 82 = .ok (.iconst 0, 1) := by decide +kernel
theorem d_K_digest_83 : decode b_K_digest 83 = .ok (.istore 6, 2) := by decide +kernel
theorem d_K_digest_85 : decode b_K_digest 85 = .ok (.iload 6, 2) := by decide +kernel
theorem d_K_digest_87 : decode b_K_digest 87 = .ok (.bipush 8, 2) := by decide +kernel
theorem d_K_digest_89 : decode b_K_digest 89 = .ok (.if_icmp .ge 37, 3) := by decide +kernel
theorem d_K_digest_92 : decode b_K_digest 92 = .ok (.lload 4, 2) := by decide +kernel
theorem d_K_digest_94 : decode b_K_digest 94 = .ok (.bipush 8, 2) := by decide +kernel
theorem d_K_digest_96 : decode b_K_digest 96 = .ok (.lshl, 1) := by decide +kernel
theorem d_K_digest_97 : decode b_K_digest 97 = .ok (.aload_n 0, 1) := by decide +kernel
end
section
/-! decode rows (printed by gen02.py) -/
theorem d_K_digest_98 : decode b_K_digest 98 = .ok (.getfield 16, 3) := by decide +kernel
theorem d_K_digest_101 : decode b_K_digest 101 = .ok (.sipush 200, 3) := by decide +kernel
theorem d_K_digest_104 : decode b_K_digest 104 = .ok (.iload_n 2, 1) := by decide +kernel
theorem d_K_digest_105 : decode b_K_digest 105 = .ok (.iadd, 1) := by decide +kernel
theorem d_K_digest_106 : decode b_K_digest 106 = .ok (.laload, 1) := by decide +kernel
theorem d_K_digest_107 : decode b_K_digest 107 = .ok (.bipush 8, 2) := by decide +kernel
theorem d_K_digest_109 : decode b_K_digest 109 = .ok (.iload 6, 2) := by decide +kernel
theorem d_K_digest_111 : decode b_K_digest 111 = .ok (.imul, 1) := by decide +kernel
theorem d_K_digest_112 : decode b_K_digest 112 = .ok (.lushr, 1) := by decide +kernel
theorem d_K_digest_113 : decode b_K_digest 113 = .ok (.ldc2_w 27, 3) := by decide +kernel
theorem d_K_digest_116 : decode b_K_digest 116 = .ok (.land, 1) := by decide +kernel
theorem d_K_digest_117 : decode b_K_digest 117 = .ok (.lor, 1) := by decide +kernel
theorem d_K_digest_118 : decode b_K_digest 118 = .ok (.lstore 4, 2) := by decide +kernel
theorem d_K_digest_120 : decode b_K_digest 120 = .ok (.iinc 6 1, 3) := by decide +kernel
theorem d_K_digest_123 : decode b_K_digest 123 = .ok (.goto (-38), 3) := by decide +kernel
theorem d_K_digest_126 : decode b_K_digest 126 = .ok (.lload 4, 2) := by decide +kernel
theorem d_K_digest_128 : decode b_K_digest 128 = .ok (.lreturn, 1) := by decide +kernel
theorem d_M_init_0 : decode b_M_init 0 = .ok (.aload_n 0, 1) := by decide +kernel
theorem d_M_init_1 : decode b_M_init 1 = .ok (.invokespecial 24, 3) := by decide +kernel
theorem d_M_init_4 : decode b_M_init 4 = .ok (.aload_n 0, 1) := by decide +kernel
theorem d_M_init_5 : decode b_M_init 5 = .ok (.bipush 8, 2) := by decide +kernel
theorem d_M_init_7 : decode b_M_init 7 = .ok (.bipush 25, 2) := by decide +kernel
theorem d_M_init_9 : decode b_M_init 9 = .ok (.multianewarray 30 2, 4) := by decide +kernel
theorem d_M_init_13 : decode b_M_init 13 = .ok (.putfield 32, 3) := by decide +kernel
theorem d_M_init_16 : decode b_M_init 16 = .ok (.aload_n 0, 1) := by decide +kernel
theorem d_M_init_17 : decode b_M_init 17 = .ok (.bipush 8, 2) := by decide +kernel
theorem d_M_init_19 : decode b_M_init 19 = .ok (.newarray .int, 2) := by decide +kernel
theorem d_M_init_21 : decode b_M_init 21 = .ok (.putfield 35, 3) := by decide +kernel
theorem d_M_init_24 : decode b_M_init 24 = .ok (.aload_n 0, 1) := by decide +kernel
theorem d_M_init_25 : decode b_M_init 25 = .ok (.bipush 25, 2) := by decide +kernel
theorem d_M_init_27 : decode b_M_init 27 = .ok (.newarray .long, 2) := by decide +kernel
theorem d_M_init_29 : decode b_M_init 29 = .ok (.putfield 7, 3) := by decide +kernel
theorem d_M_init_32 : decode b_M_init 32 = .ok (.aload_n 0, 1) := by decide +kernel
theorem d_M_init_33 : decode b_M_init 33 = .ok (.iconst 5, 1) := by decide +kernel
theorem d_M_init_34 : decode b_M_init 34 = .ok (.newarray .long, 2) := by decide +kernel
theorem d_M_init_36 : decode b_M_init 36 = .ok (.putfield 1, 3) := by decide +kernel
theorem d_M_init_39 : decode b_M_init 39 = .ok (.aload_n 0, 1) := by decide +kernel
theorem d_M_init_40 : decode b_M_init 40 = .ok (.bipush 25, 2) := by decide +kernel
theorem d_M_init_42 : decode b_M_init 42 = .ok (.newarray .long, 2) := by decide +kernel
theorem d_M_init_44 : decode b_M_init 44 = .ok (.putfield 16, 3) := by decide +kernel
theorem d_M_init_47 : decode b_M_init 47 = .ok (.aload_n 0, 1) := by decide +kernel
theorem d_M_init_48 : decode b_M_init 48 = .ok (.bipush 24, 2) := by decide +kernel
theorem d_M_init_50 : decode b_M_init 50 = .ok (.newarray .long, 2) := by decide +kernel
theorem d_M_init_52 : decode b_M_init 52 = .ok (.putfield 21, 3) := by decide +kernel
theorem d_M_init_55 : decode b_M_init 55 = .ok (.iconst 0, 1) := by decide +kernel
theorem d_M_init_56 : decode b_M_init 56 = .ok (.istore_n 1, 1) := by decide +kernel
theorem d_M_init_57 : decode b_M_init 57 = .ok (.iload_n 1, 1) := by decide +kernel
theorem d_M_init_58 : decode b_M_init 58 = .ok (.bipush 24, 2) := by decide +kernel
theorem d_M_init_60 : decode b_M_init 60 = .ok (.if_icmp .ge 19, 3) := by decide +kernel
theorem d_M_init_63 : decode b_M_init 63 = .ok (.aload_n 0, 1) := by decide +kernel
theorem d_M_init_64 : decode b_M_init 64 = .ok (.getfield 21, 3) := by decide +kernel
theorem d_M_init_67 : decode b_M_init 67 = .ok (.iload_n 1, 1) := by decide +kernel
theorem d_M_init_68 : decode b_M_init 68 = .ok (.iload_n 1, 1) := by decide +kernel
theorem d_M_init_69 : decode b_M_init 69 = .ok (.invokestatic 39, 3) := by decide +kernel
theorem d_M_init_72 : decode b_M_init 72 = .ok (.lastore, 1) := by decide +kernel
theorem d_M_init_73 : decode b_M_init 73 = .ok (.iinc 1 1, 3) := by decide +kernel
theorem d_M_init_76 : decode b_M_init 76 = .ok (.goto (-19), 3) := by decide +kernel
theorem d_M_init_79 : decode b_M_init 79 = .ok (.return_, 1) := by decide +kernel
theorem d_M_constant_0 : decode b_M_constant 0 = .ok (.lconst 0, 1) := by decide +kernel
theorem d_M_constant_1 : decode b_M_constant 1 = .ok (.lstore_n 1, 1) := by decide +kernel
theorem d_M_constant_2 : decode b_M_constant 2 = .ok (.iconst 0, 1) := by decide +kernel
theorem d_M_constant_3 : decode b_M_constant 3 = .ok (.istore_n 3, 1) := by decide +kernel
theorem d_M_constant_4 : decode b_M_constant 4 = .ok (.iload_n 3, 1) := by decide +kernel
theorem d_M_constant_5 : decode b_M_constant 5 = .ok (.bipush 7, 2) := by decide +kernel
theorem d_M_constant_7 : decode b_M_constant 7 = .ok (.if_icmp .ge 88, 3) := by decide +kernel
theorem d_M_constant_10 : decode b_M_constant 10 = .ok (.iload_n 3, 1) := by decide +kernel
theorem d_M_constant_11 : decode b_M_constant 11 = .ok (.bipush 7, 2) := by decide +kernel
theorem d_M_constant_13 : decode b_M_constant 13 = .ok (.iload_n 0, 1) := by decide +kernel
theorem d_M_constant_14 : decode b_M_constant 14 = .ok (.imul, 1) := by decide +kernel
theorem d_M_constant_15 : decode b_M_constant 15 = .ok (.iadd, 1) := by decide +kernel
theorem d_M_constant_16 : decode b_M_constant 16 = .ok (.sipush 255, 3) := by decide +kernel
theorem d_M_constant_19 : decode b_M_constant 19 = .ok (.irem, 1) := by decide +kernel
theorem d_M_constant_20 : decode b_M_constant 20 = .ok (.istore 4, 2) := by decide +kernel
theorem d_M_constant_22 : decode b_M_constant 22 = .ok (.iconst 1, 1) := by decide +kernel
theorem d_M_constant_23 : decode b_M_constant 23 = .ok (.istore 5, 2) := by decide +kernel
theorem d_M_constant_25 : decode b_M_constant 25 = .ok (.iconst 0, 1) := by decide +kernel
theorem d_M_constant_26 : decode b_M_constant 26 = .ok (.istore 6, 2) := by decide +kernel
theorem d_M_constant_28 : decode b_M_constant 28 = .ok (.iload 6, 2) := by decide +kernel
theorem d_M_constant_30 : decode b_M_constant 30 = .ok (.iload 4, 2) := by decide +kernel
theorem d_M_constant_32 : decode b_M_constant 32 = .ok (.if_icmp .ge 40, 3) := by decide +kernel
theorem d_M_constant_35 : decode b_M_constant 35 = .ok (.iload 5, 2) := by decide +kernel
theorem d_M_constant_37 : decode b_M_constant 37 = .ok (.iconst 1, 1) := by decide +kernel
theorem d_M_constant_38 : decode b_M_constant 38 = .ok (.ishl, 1) := by decide +kernel
theorem d_M_constant_39 : decode b_M_constant 39 = .ok (.istore 5, 2) := by decide +kernel
theorem d_M_constant_41 : decode b_M_constant 41 = .ok (.iload 5, 2) := by decide +kernel
theorem d_M_constant_43 : decode b_M_constant 43 = .ok (.sipush 256, 3) := by decide +kernel
theorem d_M_constant_46 : decode b_M_constant 46 = .ok (.iand, 1) := by decide +kernel
theorem d_M_constant_47 : decode b_M_constant 47 = .ok (.ifCond .eq 11, 3) := by decide +kernel
theorem d_M_constant_50 : decode b_M_constant 50 = .ok (.iload 5, 2) := by decide +kernel
theorem d_M_constant_52 : decode b_M_constant 52 = .ok (.sipush 369, 3) := by decide +kernel
theorem d_M_constant_55 : decode b_M_constant 55 = .ok (.ixor, 1) := by decide +kernel
theorem d_M_constant_56 : decode b_M_constant 56 = .ok (.istore 5, 2) := by decide +kernel
theorem d_M_constant_58 : decode b_M_constant 58 = .ok (.iload 5, 2) := by decide +kernel
theorem d_M_constant_60 : decode b_M_constant 60 = .ok (.sipush 255, 3) := by decide +kernel
theorem d_M_constant_63 : decode b_M_constant 63 = .ok (.iand, 1) := by decide +kernel
theorem d_M_constant_64 : decode b_M_constant 64 = .ok (.istore 5, 2) := by decide +kernel
theorem d_M_constant_66 : decode b_M_constant 66 = .ok (.iinc 6 1, 3) := by decide +kernel
theorem d_M_constant_69 : decode b_M_constant 69 = .ok (.goto (-41), 3) := by decide +kernel
theorem d_M_constant_72 : decode b_M_constant 72 = .ok (.iload 5, 2) := by decide +kernel
theorem d_M_constant_74 : decode b_M_constant 74 = .ok (.iconst 1, 1) := by decide +kernel
theorem d_M_constant_75 : decode b_M_constant 75 = .ok (.iand, 1) := by decide +kernel
theorem d_M_constant_76 : decode b_M_constant 76 = .ok (.ifCond .eq 13, 3) := by decide +kernel
theorem d_M_constant_79 : decode b_M_constant 79 = .ok (.lload_n 1, 1) := by decide +kernel
theorem d_M_constant_80 : decode b_M_constant 80 = .ok (.lconst 1, 1) := by decide +kernel
theorem d_M_constant_81 : decode b_M_constant 81 = .ok (.iconst 1, 1) := by decide +kernel
theorem d_M_constant_82 : decode b_M_constant 82 = .ok (.iload_n 3, 1) := by decide +kernel
theorem d_M_constant_83 : decode b_M_constant 83 = .ok (.ishl, 1) := by decide +kernel
theorem d_M_constant_84 : decode b_M_constant 84 = .ok (.iconst 1, 1) := by decide +kernel
theorem d_M_constant_85 : decode b_M_constant 85 = .ok (.isub, 1) := by decide +kernel
theorem d_M_constant_86 : decode b_M_constant 86 = .ok (.lshl, 1) := by decide +kernel
theorem d_M_constant_87 : decode b_M_constant 87 = .ok (.lor, 1) := by decide +kernel
theorem d_M_constant_88 : decode b_M_constant 88 = .ok (.lstore_n 1, 1) := by decide +kernel
theorem d_M_constant_89 : decode b_M_constant 89 = .ok (.iinc 3 1, 3) := by decide +kernel
theorem d_M_constant_92 : decode b_M_constant 92 = .ok (.goto (-88), 3) := by decide +kernel
theorem d_M_constant_95 : decode b_M_constant 95 = .ok (.lload_n 1, 1) := by decide +kernel
theorem d_M_constant_96 : decode b_M_constant 96 = .ok (.lreturn, 1) := by decide +kernel
theorem d_M_thrown_0 : decode b_M_thrown 0 = .ok (.aload_n 0, 1) := by decide +kernel
theorem d_M_thrown_1 : decode b_M_thrown 1 = .ok (.getfield 43, 3) := by decide +kernel
theorem d_M_thrown_4 : decode b_M_thrown 4 = .ok (.ireturn, 1) := by decide +kernel
theorem d_M_clear_0 : decode b_M_clear 0 = .ok (.aload_n 0, 1) := by decide +kernel
theorem d_M_clear_1 : decode b_M_clear 1 = .ok (.iconst 0, 1) := by decide +kernel
theorem d_M_clear_2 : decode b_M_clear 2 = .ok (.putfield 43, 3) := by decide +kernel
theorem d_M_clear_5 : decode b_M_clear 5 = .ok (.aload_n 0, 1) := by decide +kernel
theorem d_M_clear_6 : decode b_M_clear 6 = .ok (.iload_n 1, 1) := by decide +kernel
theorem d_M_clear_7 : decode b_M_clear 7 = .ok (.invokevirtual 47, 3) := by decide +kernel
theorem d_M_clear_10 : decode b_M_clear 10 = .ok (.ifCond .eq 11, 3) := by decide +kernel
theorem d_M_clear_13 : decode b_M_clear 13 = .ok (.aload_n 0, 1) := by decide +kernel
theorem d_M_clear_14 : decode b_M_clear 14 = .ok (.iconst 1, 1) := by decide +kernel
theorem d_M_clear_15 : decode b_M_clear 15 = .ok (.putfield 43, 3) := by decide +kernel
theorem d_M_clear_18 : decode b_M_clear 18 = .ok (.goto 33, 3) := by decide +kernel
theorem d_M_clear_21 : decode b_M_clear 21 = .ok (.iconst 0, 1) := by decide +kernel
theorem d_M_clear_22 : decode b_M_clear 22 = .ok (.istore_n 2, 1) := by decide +kernel
theorem d_M_clear_23 : decode b_M_clear 23 = .ok (.iload_n 2, 1) := by decide +kernel
theorem d_M_clear_24 : decode b_M_clear 24 = .ok (.bipush 25, 2) := by decide +kernel
theorem d_M_clear_26 : decode b_M_clear 26 = .ok (.if_icmp .ge 18, 3) := by decide +kernel
theorem d_M_clear_29 : decode b_M_clear 29 = .ok (.aload_n 0, 1) := by decide +kernel
theorem d_M_clear_30 : decode b_M_clear 30 = .ok (.getfield 32, 3) := by decide +kernel
theorem d_M_clear_33 : decode b_M_clear 33 = .ok (.iload_n 1, 1) := by decide +kernel
theorem d_M_clear_34 : decode b_M_clear 34 = .ok (.aaload, 1) := by decide +kernel
theorem d_M_clear_35 : decode b_M_clear 35 = .ok (.iload_n 2, 1) := by decide +kernel
theorem d_M_clear_36 : decode b_M_clear 36 = .ok (.lconst 0, 1) := by decide +kernel
theorem d_M_clear_37 : decode b_M_clear 37 = .ok (.lastore, 1) := by decide +kernel
theorem d_M_clear_38 : decode b_M_clear 38 = .ok (.iinc 2 1, 3) := by decide +kernel
theorem d_M_clear_41 : decode b_M_clear 41 = .ok (.goto (-18), 3) := by decide +kernel
theorem d_M_clear_44 : decode b_M_clear 44 = .ok (.aload_n 0, 1) := by decide +kernel
theorem d_M_clear_45 : decode b_M_clear 45 = .ok (.getfield 35, 3) := by decide +kernel
theorem d_M_clear_48 : decode b_M_clear 48 = .ok (.iload_n 1, 1) := by decide +kernel
theorem d_M_clear_49 : decode b_M_clear 49 = .ok (.iconst 0, 1) := by decide +kernel
theorem d_M_clear_50 : decode b_M_clear 50 = .ok (.iastore, 1) := by decide +kernel
theorem d_M_clear_51 : decode b_M_clear 51 = .ok (.return_, 1) := by decide +kernel
theorem d_M_out_0 : decode b_M_out 0 = .ok (.iload_n 1, 1) := by decide +kernel
theorem d_M_out_1 : decode b_M_out 1 = .ok (.ifCond .lt 9, 3) := by decide +kernel
theorem d_M_out_4 : decode b_M_out 4 = .ok (.iload_n 1, 1) := by decide +kernel
theorem d_M_out_5 : decode b_M_out 5 = .ok (.bipush 7, 2) := by decide +kernel
theorem d_M_out_7 : decode b_M_out 7 = .ok (.if_icmp .le 7, 3) := by decide +kernel
theorem d_M_out_10 : decode b_M_out 10 = .ok (.iconst 1, 1) := by decide +kernel
theorem d_M_out_11 : decode b_M_out 11 = .ok (.goto 4, 3) := by decide +kernel
theorem d_M_out_14 : decode b_M_out 14 = .ok (.iconst 0, 1) := by decide +kernel
theorem d_M_out_15 : decode b_M_out 15 = .ok (.ireturn, 1) := by decide +kernel
theorem d_M_take_0 : decode b_M_take 0 = .ok (.aload_n 0, 1) := by decide +kernel
theorem d_M_take_1 : decode b_M_take 1 = .ok (.iconst 0, 1) := by decide +kernel
theorem d_M_take_2 : decode b_M_take 2 = .ok (.putfield 43, 3) := by decide +kernel
theorem d_M_take_5 : decode b_M_take 5 = .ok (.aload_n 0, 1) := by decide +kernel
theorem d_M_take_6 : decode b_M_take 6 = .ok (.iload_n 1, 1) := by decide +kernel
theorem d_M_take_7 : decode b_M_take 7 = .ok (.invokevirtual 47, 3) := by decide +kernel
theorem d_M_take_10 : decode b_M_take 10 = .ok (.ifCond .ne 15, 3) := by decide +kernel
theorem d_M_take_13 : decode b_M_take 13 = .ok (.iload 4, 2) := by decide +kernel
theorem d_M_take_15 : decode b_M_take 15 = .ok (.ifCond .lt 10, 3) := by decide +kernel
theorem d_M_take_18 : decode b_M_take 18 = .ok (.iload 4, 2) := by decide +kernel
theorem d_M_take_20 : decode b_M_take 20 = .ok (.bipush 8, 2) := by decide +kernel
theorem d_M_take_22 : decode b_M_take 22 = .ok (.if_icmp .le 9, 3) := by decide +kernel
theorem d_M_take_25 : decode b_M_take 25 = .ok (.aload_n 0, 1) := by decide +kernel
theorem d_M_take_26 : decode b_M_take 26 = .ok (.iconst 1, 1) := by decide +kernel
theorem d_M_take_27 : decode b_M_take 27 = .ok (.invokevirtual 54, 3) := by decide +kernel
theorem d_M_take_30 : decode b_M_take 30 = .ok (.ireturn, 1) := by decide +kernel
theorem d_M_take_31 : decode b_M_take 31 = .ok (.aload_n 0, 1) := by decide +kernel
theorem d_M_take_32 : decode b_M_take 32 = .ok (.iload_n 1, 1) := by decide +kernel
theorem d_M_take_33 : decode b_M_take 33 = .ok (.invokevirtual 58, 3) := by decide +kernel
theorem d_M_take_36 : decode b_M_take 36 = .ok (.iconst 0, 1) := by decide +kernel
theorem d_M_take_37 : decode b_M_take 37 = .ok (.istore 5, 2) := by decide +kernel
theorem d_M_take_39 : decode b_M_take 39 = .ok (.iload 5, 2) := by decide +kernel
theorem d_M_take_41 : decode b_M_take 41 = .ok (.iload 4, 2) := by decide +kernel
theorem d_M_take_43 : decode b_M_take 43 = .ok (.if_icmp .ge 22, 3) := by decide +kernel
theorem d_M_take_46 : decode b_M_take 46 = .ok (.aload_n 0, 1) := by decide +kernel
theorem d_M_take_47 : decode b_M_take 47 = .ok (.iload_n 1, 1) := by decide +kernel
theorem d_M_take_48 : decode b_M_take 48 = .ok (.lload_n 2, 1) := by decide +kernel
theorem d_M_take_49 : decode b_M_take 49 = .ok (.bipush 8, 2) := by decide +kernel
theorem d_M_take_51 : decode b_M_take 51 = .ok (.iload 5, 2) := by decide +kernel
theorem d_M_take_53 : decode b_M_take 53 = .ok (.imul, 1) := by decide +kernel
theorem d_M_take_54 : decode b_M_take 54 = .ok (.lushr, 1) := by decide +kernel
theorem d_M_take_55 : decode b_M_take 55 = .ok (.l2i, 1) := by decide +kernel
theorem d_M_take_56 : decode b_M_take 56 = .ok (.invokevirtual 62, 3) := by decide +kernel
theorem d_M_take_59 : decode b_M_take 59 = .ok (.iinc 5 1, 3) := by decide +kernel
theorem d_M_take_62 : decode b_M_take 62 = .ok (.goto (-23), 3) := by decide +kernel
theorem d_M_take_65 : decode b_M_take 65 = .ok (.aload_n 0, 1) := by decide +kernel
theorem d_M_take_66 : decode b_M_take 66 = .ok (.iload_n 1, 1) := by decide +kernel
theorem d_M_take_67 : decode b_M_take 67 = .ok (.invokevirtual 66, 3) := by decide +kernel
theorem d_M_take_70 : decode b_M_take 70 = .ok (.aload_n 0, 1) := by decide +kernel
theorem d_M_take_71 : decode b_M_take 71 = .ok (.getfield 35, 3) := by decide +kernel
theorem d_M_take_74 : decode b_M_take 74 = .ok (.iload_n 1, 1) := by decide +kernel
theorem d_M_take_75 : decode b_M_take 75 = .ok (.iaload, 1) := by decide +kernel
theorem d_M_take_76 : decode b_M_take 76 = .ok (.ireturn, 1) := by decide +kernel
theorem d_M_fail_0 : decode b_M_fail 0 = .ok (.aload_n 0, 1) := by decide +kernel
theorem d_M_fail_1 : decode b_M_fail 1 = .ok (.iload_n 1, 1) := by decide +kernel
theorem d_M_fail_2 : decode b_M_fail 2 = .ok (.putfield 43, 3) := by decide +kernel
theorem d_M_fail_5 : decode b_M_fail 5 = .ok (.iconst 0, 1) := by decide +kernel
theorem d_M_fail_6 : decode b_M_fail 6 = .ok (.ireturn, 1) := by decide +kernel
theorem d_M_get_0 : decode b_M_get 0 = .ok (.iconst 0, 1) := by decide +kernel
theorem d_M_get_1 : decode b_M_get 1 = .ok (.istore_n 2, 1) := by decide +kernel
theorem d_M_get_2 : decode b_M_get 2 = .ok (.iload_n 2, 1) := by decide +kernel
theorem d_M_get_3 : decode b_M_get 3 = .ok (.bipush 25, 2) := by decide +kernel
theorem d_M_get_5 : decode b_M_get 5 = .ok (.if_icmp .ge 23, 3) := by decide +kernel
theorem d_M_get_8 : decode b_M_get 8 = .ok (.aload_n 0, 1) := by decide +kernel
theorem d_M_get_9 : decode b_M_get 9 = .ok (.getfield 7, 3) := by decide +kernel
theorem d_M_get_12 : decode b_M_get 12 = .ok (.iload_n 2, 1) := by decide +kernel
theorem d_M_get_13 : decode b_M_get 13 = .ok (.aload_n 0, 1) := by decide +kernel
theorem d_M_get_14 : decode b_M_get 14 = .ok (.getfield 32, 3) := by decide +kernel
theorem d_M_get_17 : decode b_M_get 17 = .ok (.iload_n 1, 1) := by decide +kernel
theorem d_M_get_18 : decode b_M_get 18 = .ok (.aaload, 1) := by decide +kernel
theorem d_M_get_19 : decode b_M_get 19 = .ok (.iload_n 2, 1) := by decide +kernel
theorem d_M_get_20 : decode b_M_get 20 = .ok (.laload, 1) := by decide +kernel
theorem d_M_get_21 : decode b_M_get 21 = .ok (.lastore, 1) := by decide +kernel
theorem d_M_get_22 : decode b_M_get 22 = .ok (.iinc 2 1, 3) := by decide +kernel
theorem d_M_get_25 : decode b_M_get 25 = .ok (.goto (-23), 3) := by decide +kernel
theorem d_M_get_28 : decode b_M_get 28 = .ok (.return_, 1) := by decide +kernel
theorem d_M_taken_0 : decode b_M_taken 0 = .ok (.aload_n 0, 1) := by decide +kernel
theorem d_M_taken_1 : decode b_M_taken 1 = .ok (.getfield 35, 3) := by decide +kernel
theorem d_M_taken_4 : decode b_M_taken 4 = .ok (.iload_n 1, 1) := by decide +kernel
theorem d_M_taken_5 : decode b_M_taken 5 = .ok (.iaload, 1) := by decide +kernel
theorem d_M_taken_6 : decode b_M_taken 6 = .ok (.istore_n 3, 1) := by decide +kernel
theorem d_M_taken_7 : decode b_M_taken 7 = .ok (.aload_n 0, 1) := by decide +kernel
theorem d_M_taken_8 : decode b_M_taken 8 = .ok (.getfield 7, 3) := by decide +kernel
theorem d_M_taken_11 : decode b_M_taken 11 = .ok (.iload_n 3, 1) := by decide +kernel
theorem d_M_taken_12 : decode b_M_taken 12 = .ok (.bipush 8, 2) := by decide +kernel
theorem d_M_taken_14 : decode b_M_taken 14 = .ok (.idiv, 1) := by decide +kernel
theorem d_M_taken_15 : decode b_M_taken 15 = .ok (.dup2, 1) := by decide +kernel
theorem d_M_taken_16 : decode b_M_taken 16 = .ok (.laload, 1) := by decide +kernel
theorem d_M_taken_17 : decode b_M_taken 17 = .ok (.iload_n 2, 1) := by decide +kernel
theorem d_M_taken_18 : decode b_M_taken 18 = .ok (.sipush 255, 3) := by decide +kernel
theorem d_M_taken_21 : decode b_M_taken 21 = .ok (.iand, 1) := by decide +kernel
theorem d_M_taken_22 : decode b_M_taken 22 = .ok (.i2l, 1) := by decide +kernel
theorem d_M_taken_23 : decode b_M_taken 23 = .ok (.bipush 8, 2) := by decide +kernel
theorem d_M_taken_25 : decode b_M_taken 25 = .ok (.iload_n 3, 1) := by decide +kernel
theorem d_M_taken_26 : decode b_M_taken 26 = .ok (.bipush 8, 2) := by decide +kernel
theorem d_M_taken_28 : decode b_M_taken 28 = .ok (.irem, 1) := by decide +kernel
theorem d_M_taken_29 : decode b_M_taken 29 = .ok (.imul, 1) := by decide +kernel
theorem d_M_taken_30 : decode b_M_taken 30 = .ok (.lshl, 1) := by decide +kernel
theorem d_M_taken_31 : decode b_M_taken 31 = .ok (.lxor, 1) := by decide +kernel
theorem d_M_taken_32 : decode b_M_taken 32 = .ok (.lastore, 1) := by decide +kernel
theorem d_M_taken_33 : decode b_M_taken 33 = .ok (.aload_n 0, 1) := by decide +kernel
theorem d_M_taken_34 : decode b_M_taken 34 = .ok (.getfield 35, 3) := by decide +kernel
theorem d_M_taken_37 : decode b_M_taken 37 = .ok (.iload_n 1, 1) := by decide +kernel
theorem d_M_taken_38 : decode b_M_taken 38 = .ok (.dup2, 1) := by decide +kernel
theorem d_M_taken_39 : decode b_M_taken 39 = .ok (.iaload, 1) := by decide +kernel
theorem d_M_taken_40 : decode b_M_taken 40 = .ok (.iconst 1, 1) := by decide +kernel
theorem d_M_taken_41 : decode b_M_taken 41 = .ok (.iadd, 1) := by decide +kernel
theorem d_M_taken_42 : decode b_M_taken 42 = .ok (.iastore, 1) := by decide +kernel
theorem d_M_taken_43 : decode b_M_taken 43 = .ok (.aload_n 0, 1) := by decide +kernel
theorem d_M_taken_44 : decode b_M_taken 44 = .ok (.getfield 35, 3) := by decide +kernel
theorem d_M_taken_47 : decode b_M_taken 47 = .ok (.iload_n 1, 1) := by decide +kernel
theorem d_M_taken_48 : decode b_M_taken 48 = .ok (.iaload, 1) := by decide +kernel
theorem d_M_taken_49 : decode b_M_taken 49 = .ok (.sipush 136, 3) := by decide +kernel
theorem d_M_taken_52 : decode b_M_taken 52 = .ok (.if_icmp .ge 4, 3) := by decide +kernel
theorem d_M_taken_55 : decode b_M_taken 55 = .ok (.return_, 1) := by decide +kernel
theorem d_M_taken_56 : decode b_M_taken 56 = .ok (.aload_n 0, 1) := by decide +kernel
theorem d_M_taken_57 : decode b_M_taken 57 = .ok (.invokevirtual 51, 3) := by decide +kernel
theorem d_M_taken_60 : decode b_M_taken 60 = .ok (.aload_n 0, 1) := by decide +kernel
theorem d_M_taken_61 : decode b_M_taken 61 = .ok (.getfield 35, 3) := by decide +kernel
theorem d_M_taken_64 : decode b_M_taken 64 = .ok (.iload_n 1, 1) := by decide +kernel
theorem d_M_taken_65 : decode b_M_taken 65 = .ok (.iconst 0, 1) := by decide +kernel
theorem d_M_taken_66 : decode b_M_taken 66 = .ok (.iastore, 1) := by decide +kernel
theorem d_M_taken_67 : decode b_M_taken 67 = .ok (.return_, 1) := by decide +kernel
theorem d_M_permute_0 : decode b_M_permute 0 = .ok (.iconst 0, 1) := by decide +kernel
theorem d_M_permute_1 : decode b_M_permute 1 = .ok (.istore_n 1, 1) := by decide +kernel
theorem d_M_permute_2 : decode b_M_permute 2 = .ok (.iload_n 1, 1) := by decide +kernel
theorem d_M_permute_3 : decode b_M_permute 3 = .ok (.bipush 24, 2) := by decide +kernel
theorem d_M_permute_5 : decode b_M_permute 5 = .ok (.if_icmp .ge 327, 3) := by decide +kernel
theorem d_M_permute_8 : decode b_M_permute 8 = .ok (.iconst 0, 1) := by decide +kernel
theorem d_M_permute_9 : decode b_M_permute 9 = .ok (.istore_n 2, 1) := by decide +kernel
theorem d_M_permute_10 : decode b_M_permute 10 = .ok (.iload_n 2, 1) := by decide +kernel
theorem d_M_permute_11 : decode b_M_permute 11 = .ok (.iconst 5, 1) := by decide +kernel
theorem d_M_permute_12 : decode b_M_permute 12 = .ok (.if_icmp .ge 60, 3) := by decide +kernel
theorem d_M_permute_15 : decode b_M_permute 15 = .ok (.aload_n 0, 1) := by decide +kernel
theorem d_M_permute_16 : decode b_M_permute 16 = .ok (.getfield 1, 3) := by decide +kernel
theorem d_M_permute_19 : decode b_M_permute 19 = .ok (.iload_n 2, 1) := by decide +kernel
theorem d_M_permute_20 : decode b_M_permute 20 = .ok (.aload_n 0, 1) := by decide +kernel
theorem d_M_permute_21 : decode b_M_permute 21 = .ok (.getfield 7, 3) := by decide +kernel
theorem d_M_permute_24 : decode b_M_permute 24 = .ok (.iload_n 2, 1) := by decide +kernel
theorem d_M_permute_25 : decode b_M_permute 25 = .ok (.laload, 1) := by decide +kernel
theorem d_M_permute_26 : decode b_M_permute 26 = .ok (.aload_n 0, 1) := by decide +kernel
theorem d_M_permute_27 : decode b_M_permute 27 = .ok (.getfield 7, 3) := by decide +kernel
theorem d_M_permute_30 : decode b_M_permute 30 = .ok (.iload_n 2, 1) := by decide +kernel
theorem d_M_permute_31 : decode b_M_permute 31 = .ok (.iconst 5, 1) := by decide +kernel
theorem d_M_permute_32 : decode b_M_permute 32 = .ok (.iadd, 1) := by decide +kernel
theorem d_M_permute_33 : decode b_M_permute 33 = .ok (.laload, 1) := by decide +kernel
theorem d_M_permute_34 : decode b_M_permute 34 = .ok (.lxor, 1) := by decide +kernel
theorem d_M_permute_35 : decode b_M_permute 35 = .ok (.aload_n 0, 1) := by decide +kernel
theorem d_M_permute_36 : decode b_M_permute 36 = .ok (.getfield 7, 3) := by decide +kernel
theorem d_M_permute_39 : decode b_M_permute 39 = .ok (.iload_n 2, 1) := by decide +kernel
theorem d_M_permute_40 : decode b_M_permute 40 = .ok (.bipush 10, 2) := by decide +kernel
theorem d_M_permute_42 : decode b_M_permute 42 = .ok (.iadd, 1) := by decide +kernel
theorem d_M_permute_43 : decode b_M_permute 43 = .ok (.laload, 1) := by decide +kernel
theorem d_M_permute_44 : decode b_M_permute 44 = .ok (.lxor, 1) := by decide +kernel
theorem d_M_permute_45 : decode b_M_permute 45 = .ok (.aload_n 0, 1) := by decide +kernel
theorem d_M_permute_46 : decode b_M_permute 46 = .ok (.getfield 7, 3) := by decide +kernel
theorem d_M_permute_49 : decode b_M_permute 49 = .ok (.iload_n 2, 1) := by decide +kernel
theorem d_M_permute_50 : decode b_M_permute 50 = .ok (.bipush 15, 2) := by decide +kernel
theorem d_M_permute_52 : decode b_M_permute 52 = .ok (.iadd, 1) := by decide +kernel
theorem d_M_permute_53 : decode b_M_permute 53 = .ok (.laload, 1) := by decide +kernel
theorem d_M_permute_54 : decode b_M_permute 54 = .ok (.lxor, 1) := by decide +kernel
theorem d_M_permute_55 : decode b_M_permute 55 = .ok (.aload_n 0, 1) := by decide +kernel
theorem d_M_permute_56 : decode b_M_permute 56 = .ok (.getfield 7, 3) := by decide +kernel
theorem d_M_permute_59 : decode b_M_permute 59 = .ok (.iload_n 2, 1) := by decide +kernel
theorem d_M_permute_60 : decode b_M_permute 60 = .ok (.bipush 20, 2) := by decide +kernel
theorem d_M_permute_62 : decode b_M_permute 62 = .ok (.iadd, 1) := by decide +kernel
theorem d_M_permute_63 : decode b_M_permute 63 = .ok (.laload, 1) := by decide +kernel
theorem d_M_permute_64 : decode b_M_permute 64 = .ok (.lxor, 1) := by decide +kernel
theorem d_M_permute_65 : decode b_M_permute 65 = .ok (.lastore, 1) := by decide +kernel
theorem d_M_permute_66 : decode b_M_permute 66 = .ok (.iinc 2 1, 3) := by decide +kernel
theorem d_M_permute_69 : decode b_M_permute 69 = .ok (.goto (-59), 3) := by decide +kernel
theorem d_M_permute_72 : decode b_M_permute 72 = .ok (.iconst 0, 1) := by decide +kernel
theorem d_M_permute_73 : decode b_M_permute 73 = .ok (.istore_n 2, 1) := by decide +kernel
theorem d_M_permute_74 : decode b_M_permute 74 = .ok (.iload_n 2, 1) := by decide +kernel
theorem d_M_permute_75 : decode b_M_permute 75 = .ok (.iconst 5, 1) := by decide +kernel
theorem d_M_permute_76 : decode b_M_permute 76 = .ok (.if_icmp .ge 64, 3) := by decide +kernel
theorem d_M_permute_79 : decode b_M_permute 79 = .ok (.aload_n 0, 1) := by decide +kernel
theorem d_M_permute_80 : decode b_M_permute 80 = .ok (.getfield 1, 3) := by decide +kernel
theorem d_M_permute_83 : decode b_M_permute 83 = .ok (.iload_n 2, 1) := by decide +kernel
theorem d_M_permute_84 : decode b_M_permute 84 = .ok (.iconst 4, 1) := by decide +kernel
theorem d_M_permute_85 : decode b_M_permute 85 = .ok (.iadd, 1) := by decide +kernel
theorem d_M_permute_86 : decode b_M_permute 86 = .ok (.iconst 5, 1) := by decide +kernel
theorem d_M_permute_87 : decode b_M_permute 87 = .ok (.irem, 1) := by decide +kernel
theorem d_M_permute_88 : decode b_M_permute 88 = .ok (.laload, 1) := by decide +kernel
theorem d_M_permute_89 : decode b_M_permute 89 = .ok (.aload_n 0, 1) := by decide +kernel
theorem d_M_permute_90 : decode b_M_permute 90 = .ok (.getfield 1, 3) := by decide +kernel
theorem d_M_permute_93 : decode b_M_permute 93 = .ok (.iload_n 2, 1) := by decide +kernel
theorem d_M_permute_94 : decode b_M_permute 94 = .ok (.iconst 1, 1) := by decide +kernel
theorem d_M_permute_95 : decode b_M_permute 95 = .ok (.iadd, 1) := by decide +kernel
theorem d_M_permute_96 : decode b_M_permute 96 = .ok (.iconst 5, 1) := by decide +kernel
theorem d_M_permute_97 : decode b_M_permute 97 = .ok (.irem, 1) := by decide +kernel
theorem d_M_permute_98 : decode b_M_permute 98 = .ok (.laload, 1) := by decide +kernel
theorem d_M_permute_99 : decode b_M_permute 99 = .ok (.iconst 1, 1) := by decide +kernel
theorem d_M_permute_100 : decode b_M_permute 100 = .ok (.invokestatic 10, 3) := by decide +kernel
theorem d_M_permute_103 : decode b_M_permute 103 = .ok (.lxor, 1) := by decide +kernel
theorem d_M_permute_104 : decode b_M_permute 104 = .ok (.lstore_n 3, 1) := by decide +kernel
theorem d_M_permute_105 : decode b_M_permute 105 = .ok (.iconst 0, 1) := by decide +kernel
theorem d_M_permute_106 : decode b_M_permute 106 = .ok (.istore 5, 2) := by decide +kernel
theorem d_M_permute_108 : decode b_M_permute 108 = .ok (.iload 5, 2) := by decide +kernel
theorem d_M_permute_110 : decode b_M_permute 110 = .ok (.bipush 25, 2) := by decide +kernel
theorem d_M_permute_112 : decode b_M_permute 112 = .ok (.if_icmp .ge 22, 3) := by decide +kernel
theorem d_M_permute_115 : decode b_M_permute 115 = .ok (.aload_n 0, 1) := by decide +kernel
theorem d_M_permute_116 : decode b_M_permute 116 = .ok (.getfield 7, 3) := by decide +kernel
theorem d_M_permute_119 : decode b_M_permute 119 = .ok (.iload 5, 2) := by decide +kernel
theorem d_M_permute_121 : decode b_M_permute 121 = .ok (.iload_n 2, 1) := by decide +kernel
theorem d_M_permute_122 : decode b_M_permute 122 = .ok (.iadd, 1) := by decide +kernel
theorem d_M_permute_123 : decode b_M_permute 123 = .ok (.dup2, 1) := by decide +kernel
theorem d_M_permute_124 : decode b_M_permute 124 = .ok (.laload, 1) := by decide +kernel
theorem d_M_permute_125 : decode b_M_permute 125 = .ok (.lload_n 3, 1) := by decide +kernel
theorem d_M_permute_126 : decode b_M_permute 126 = .ok (.lxor, 1) := by decide +kernel
theorem d_M_permute_127 : decode b_M_permute 127 = .ok (.lastore, 1) := by decide +kernel
theorem d_M_permute_128 : decode b_M_permute 128 = .ok (.iinc 5 5, 3) := by decide +kernel
theorem d_M_permute_131 : decode b_M_permute 131 = .ok (.goto (-23), 3) := by decide +kernel
theorem d_M_permute_134 : decode b_M_permute 134 = .ok (.iinc 2 1, 3) := by decide +kernel
theorem d_M_permute_137 : decode b_M_permute 137 = .ok (.goto (-63), 3) := by decide +kernel
theorem d_M_permute_140 : decode b_M_permute 140 = .ok (.aload_n 0, 1) := by decide +kernel
theorem d_M_permute_141 : decode b_M_permute 141 = .ok (.getfield 16, 3) := by decide +kernel
theorem d_M_permute_144 : decode b_M_permute 144 = .ok (.iconst 0, 1) := by decide +kernel
theorem d_M_permute_145 : decode b_M_permute 145 = .ok (.aload_n 0, 1) := by decide +kernel
theorem d_M_permute_146 : decode b_M_permute 146 = .ok (.getfield 7, 3) := by decide +kernel
theorem d_M_permute_149 : decode b_M_permute 149 = .ok (.iconst 0, 1) := by decide +kernel
theorem d_M_permute_150 : decode b_M_permute 150 = .ok (.laload, 1) := by decide +kernel
theorem d_M_permute_151 : decode b_M_permute 151 = .ok (.lastore, 1) := by decide +kernel
theorem d_M_permute_152 : decode b_M_permute 152 = .ok (.iconst 1, 1) := by decide +kernel
theorem d_M_permute_153 : decode b_M_permute 153 = .ok (.istore_n 2, 1) := by decide +kernel
theorem d_M_permute_154 : decode b_M_permute 154 = .ok (.iconst 0, 1) := by decide +kernel
theorem d_M_permute_155 : decode b_M_permute 155 = .ok (.istore_n 3, 1) := by decide +kernel
theorem d_M_permute_156 : decode b_M_permute 156 = .ok (.iconst 0, 1) := by decide +kernel
theorem d_M_permute_157 : decode b_M_permute 157 = .ok (.istore 4, 2) := by decide +kernel
theorem d_M_permute_159 : decode b_M_permute 159 = .ok (.iload 4, 2) := by decide +kernel
theorem d_M_permute_161 : decode b_M_permute 161 = .ok (.bipush 24, 2) := by decide +kernel
theorem d_M_permute_163 : decode b_M_permute 163 = .ok (.if_icmp .ge 63, 3) := by decide +kernel
theorem d_M_permute_166 : decode b_M_permute 166 = .ok (.iconst 2, 1) := by decide +kernel
theorem d_M_permute_167 : decode b_M_permute 167 = .ok (.iload_n 2, 1) := by decide +kernel
theorem d_M_permute_168 : decode b_M_permute 168 = .ok (.imul, 1) := by decide +kernel
theorem d_M_permute_169 : decode b_M_permute 169 = .ok (.iconst 3, 1) := by decide +kernel
theorem d_M_permute_170 : decode b_M_permute 170 = .ok (.iload_n 3, 1) := by decide +kernel
theorem d_M_permute_171 : decode b_M_permute 171 = .ok (.imul, 1) := by decide +kernel
theorem d_M_permute_172 : decode b_M_permute 172 = .ok (.iadd, 1) := by decide +kernel
theorem d_M_permute_173 : decode b_M_permute 173 = .ok (.iconst 5, 1) := by decide +kernel
theorem d_M_permute_174 : decode b_M_permute 174 = .ok (.irem, 1) := by decide +kernel
theorem d_M_permute_175 : decode b_M_permute 175 = .ok (.istore 5, 2) := by decide +kernel
theorem d_M_permute_177 : decode b_M_permute 177 = .ok (.aload_n 0, 1) := by decide +kernel
theorem d_M_permute_178 : decode b_M_permute 178 = .ok (.getfield 16, 3) := by decide +kernel
theorem d_M_permute_181 : decode b_M_permute 181 = .ok (.iconst 5, 1) := by decide +kernel
theorem d_M_permute_182 : decode b_M_permute 182 = .ok (.iload 5, 2) := by decide +kernel
theorem d_M_permute_184 : decode b_M_permute 184 = .ok (.imul, 1) := by decide +kernel
theorem d_M_permute_185 : decode b_M_permute 185 = .ok (.iload_n 3, 1) := by decide +kernel
theorem d_M_permute_186 : decode b_M_permute 186 = .ok (.iadd, 1) := by decide +kernel
theorem d_M_permute_187 : decode b_M_permute 187 = .ok (.aload_n 0, 1) := by decide +kernel
theorem d_M_permute_188 : decode b_M_permute 188 = .ok (.getfield 7, 3) := by decide +kernel
theorem d_M_permute_191 : decode b_M_permute 191 = .ok (.iconst 5, 1) := by decide +kernel
theorem d_M_permute_192 : decode b_M_permute 192 = .ok (.iload_n 3, 1) := by decide +kernel
theorem d_M_permute_193 : decode b_M_permute 193 = .ok (.imul, 1) := by decide +kernel
theorem d_M_permute_194 : decode b_M_permute 194 = .ok (.iload_n 2, 1) := by decide +kernel
theorem d_M_permute_195 : decode b_M_permute 195 = .ok (.iadd, 1) := by decide +kernel
theorem d_M_permute_196 : decode b_M_permute 196 = .ok (.laload, 1) := by decide +kernel
theorem d_M_permute_197 : decode b_M_permute 197 = .ok (.iload 4, 2) := by decide +kernel
theorem d_M_permute_199 : decode b_M_permute 199 = .ok (.iconst 1, 1) := by decide +kernel
theorem d_M_permute_200 : decode b_M_permute 200 = .ok (.iadd, 1) := by decide +kernel
theorem d_M_permute_201 : decode b_M_permute 201 = .ok (.iload 4, 2) := by decide +kernel
theorem d_M_permute_203 : decode b_M_permute 203 = .ok (.iconst 2, 1) := by decide +kernel
theorem d_M_permute_204 : decode b_M_permute 204 = .ok (.iadd, 1) := by decide +kernel
theorem d_M_permute_205 : decode b_M_permute 205 = .ok (.imul, 1) := by decide +kernel
theorem d_M_permute_206 : decode b_M_permute 206 = .ok (.iconst 2, 1) := by decide +kernel
theorem d_M_permute_207 : decode b_M_permute 207 = .ok (.idiv, 1) := by decide +kernel
theorem d_M_permute_208 : decode b_M_permute 208 = .ok (.bipush 64, 2) := by decide +kernel
theorem d_M_permute_210 : decode b_M_permute 210 = .ok (.irem, 1) := by decide +kernel
theorem d_M_permute_211 : decode b_M_permute 211 = .ok (.invokestatic 10, 3) := by decide +kernel
theorem d_M_permute_214 : decode b_M_permute 214 = .ok (.lastore, 1) := by decide +kernel
theorem d_M_permute_215 : decode b_M_permute 215 = .ok (.iload_n 3, 1) := by decide +kernel
theorem d_M_permute_216 : decode b_M_permute 216 = .ok (.istore_n 2, 1) := by decide +kernel
theorem d_M_permute_217 : decode b_M_permute 217 = .ok (.iload 5, 2) := by decide +kernel
theorem d_M_permute_219 : decode b_M_permute 219 = .ok (.istore_n 3, 1) := by decide +kernel
theorem d_M_permute_220 : decode b_M_permute 220 = .ok (.iinc 4 1, 3) := by decide +kernel
theorem d_M_permute_223 : decode b_M_permute 223 = .ok (.goto (-64), 3) := by decide +kernel
theorem d_M_permute_226 : decode b_M_permute 226 = .ok (.iconst 0, 1) := by decide +kernel
theorem d_M_permute_227 : decode b_M_permute 227 = .ok (.istore 4, 2) := by decide +kernel
theorem d_M_permute_229 : decode b_M_permute 229 = .ok (.iload 4, 2) := by decide +kernel
theorem d_M_permute_231 : decode b_M_permute 231 = .ok (.bipush 25, 2) := by decide +kernel
theorem d_M_permute_233 : decode b_M_permute 233 = .ok (.if_icmp .ge 78, 3) := by decide +kernel
theorem d_M_permute_236 : decode b_M_permute 236 = .ok (.iconst 0, 1) := by decide +kernel
theorem d_M_permute_237 : decode b_M_permute 237 = .ok (.istore 5, 2) := by decide +kernel
theorem d_M_permute_239 : decode b_M_permute 239 = .ok (.iload 5, 2) := by decide +kernel
theorem d_M_permute_241 : decode b_M_permute 241 = .ok (.iconst 5, 1) := by decide +kernel
theorem d_M_permute_242 : decode b_M_permute 242 = .ok (.if_icmp .ge 63, 3) := by decide +kernel
theorem d_M_permute_245 : decode b_M_permute 245 = .ok (.aload_n 0, 1) := by decide +kernel
theorem d_M_permute_246 : decode b_M_permute 246 = .ok (.getfield 7, 3) := by decide +kernel
theorem d_M_permute_249 : decode b_M_permute 249 = .ok (.iload 4, 2) := by decide +kernel
theorem d_M_permute_251 : decode b_M_permute 251 = .ok (.iload 5, 2) := by decide +kernel
theorem d_M_permute_253 : decode b_M_permute 253 = .ok (.iadd, 1) := by decide +kernel
theorem d_M_permute_254 : decode b_M_permute 254 = .ok (.aload_n 0, 1) := by decide +kernel
theorem d_M_permute_255 : decode b_M_permute 255 = .ok (.getfield 16, 3) := by decide +kernel
theorem d_M_permute_258 : decode b_M_permute 258 = .ok (.iload 4, 2) := by decide +kernel
theorem d_M_permute_260 : decode b_M_permute 260 = .ok (.iload 5, 2) := by decide +kernel
theorem d_M_permute_262 : decode b_M_permute 262 = .ok (.iadd, 1) := by decide +kernel
theorem d_M_permute_263 : decode b_M_permute 263 = .ok (.laload, 1) := by decide +kernel
theorem d_M_permute_264 : decode b_M_permute 264 = .ok (.aload_n 0, 1) := by decide +kernel
theorem d_M_permute_265 : decode b_M_permute 265 = .ok (.getfield 16, 3) := by decide +kernel
theorem d_M_permute_268 : decode b_M_permute 268 = .ok (.iload 4, 2) := by decide +kernel
theorem d_M_permute_270 : decode b_M_permute 270 = .ok (.iload 5, 2) := by decide +kernel
theorem d_M_permute_272 : decode b_M_permute 272 = .ok (.iconst 1, 1) := by decide +kernel
theorem d_M_permute_273 : decode b_M_permute 273 = .ok (.iadd, 1) := by decide +kernel
theorem d_M_permute_274 : decode b_M_permute 274 = .ok (.iconst 5, 1) := by decide +kernel
theorem d_M_permute_275 : decode b_M_permute 275 = .ok (.irem, 1) := by decide +kernel
theorem d_M_permute_276 : decode b_M_permute 276 = .ok (.iadd, 1) := by decide +kernel
theorem d_M_permute_277 : decode b_M_permute 277 = .ok (.laload, 1) := by decide +kernel
theorem d_M_permute_278 : decode b_M_permute 278 = .ok (.ldc2_w 19, 3) := by decide +kernel
theorem d_M_permute_281 : decode b_M_permute 281 = .ok (.lxor, 1) := by decide +kernel
theorem d_M_permute_282 : decode b_M_permute 282 = .ok (.aload_n 0, 1) := by decide +kernel
theorem d_M_permute_283 : decode b_M_permute 283 = .ok (.getfield 16, 3) := by decide +kernel
theorem d_M_permute_286 : decode b_M_permute 286 = .ok (.iload 4, 2) := by decide +kernel
theorem d_M_permute_288 : decode b_M_permute 288 = .ok (.iload 5, 2) := by decide +kernel
theorem d_M_permute_290 : decode b_M_permute 290 = .ok (.iconst 2, 1) := by decide +kernel
theorem d_M_permute_291 : decode b_M_permute 291 = .ok (.iadd, 1) := by decide +kernel
theorem d_M_permute_292 : decode b_M_permute 292 = .ok (.iconst 5, 1) := by decide +kernel
theorem d_M_permute_293 : decode b_M_permute 293 = .ok (.irem, 1) := by decide +kernel
theorem d_M_permute_294 : decode b_M_permute 294 = .ok (.iadd, 1) := by decide +kernel
theorem d_M_permute_295 : decode b_M_permute 295 = .ok (.laload, 1) := by decide +kernel
theorem d_M_permute_296 : decode b_M_permute 296 = .ok (.land, 1) := by decide +kernel
theorem d_M_permute_297 : decode b_M_permute 297 = .ok (.lxor, 1) := by decide +kernel
theorem d_M_permute_298 : decode b_M_permute 298 = .ok (.lastore, 1) := by decide +kernel
theorem d_M_permute_299 : decode b_M_permute 299 = .ok (.iinc 5 1, 3) := by decide +kernel
theorem d_M_permute_302 : decode b_M_permute 302 = .ok (.goto (-63), 3) := by decide +kernel
theorem d_M_permute_305 : decode b_M_permute 305 = .ok (.iinc 4 5, 3) := by decide +kernel
theorem d_M_permute_308 : decode b_M_permute 308 = .ok (.goto (-79), 3) := by decide +kernel
theorem d_M_permute_311 : decode b_M_permute 311 = .ok (.aload_n 0, 1) := by decide +kernel
theorem d_M_permute_312 : decode b_M_permute 312 = .ok (.getfield 7, 3) := by decide +kernel
theorem d_M_permute_315 : decode b_M_permute 315 = .ok (.iconst 0, 1) := by decide +kernel
theorem d_M_permute_316 : decode b_M_permute 316 = .ok (.dup2, 1) := by decide +kernel
theorem d_M_permute_317 : decode b_M_permute 317 = .ok (.laload, 1) := by decide +kernel
theorem d_M_permute_318 : decode b_M_permute 318 = .ok (.aload_n 0, 1) := by decide +kernel
theorem d_M_permute_319 : decode b_M_permute 319 = .ok (.getfield 21, 3) := by decide +kernel
theorem d_M_permute_322 : decode b_M_permute 322 = .ok (.iload_n 1, 1) := by decide +kernel
theorem d_M_permute_323 : decode b_M_permute 323 = .ok (.laload, 1) := by decide +kernel
theorem d_M_permute_324 : decode b_M_permute 324 = .ok (.lxor, 1) := by decide +kernel
theorem d_M_permute_325 : decode b_M_permute 325 = .ok (.lastore, 1) := by decide +kernel
theorem d_M_permute_326 : decode b_M_permute 326 = .ok (.iinc 1 1, 3) := by decide +kernel
theorem d_M_permute_329 : decode b_M_permute 329 = .ok (.goto (-327), 3) := by decide +kernel
theorem d_M_permute_332 : decode b_M_permute 332 = .ok (.return_, 1) := by decide +kernel
theorem d_J_rotateLeft_0 : decode b_J_rotateLeft 0 = .ok (.lload_n 0, 1) := by decide +kernel
theorem d_J_rotateLeft_1 : decode b_J_rotateLeft 1 = .ok (.iload_n 2, 1) := by decide +kernel
theorem d_J_rotateLeft_2 : decode b_J_rotateLeft 2 = .ok (.lshl, 1) := by decide +kernel
theorem d_J_rotateLeft_3 : decode b_J_rotateLeft 3 = .ok (.lload_n 0, 1) := by decide +kernel
theorem d_J_rotateLeft_4 : decode b_J_rotateLeft 4 = .ok (.iload_n 2, 1) := by decide +kernel
theorem d_J_rotateLeft_5 : decode b_J_rotateLeft 5 = .ok (.ineg, 1) := by decide +kernel
theorem d_J_rotateLeft_6 : decode b_J_rotateLeft 6 = .ok (.lushr, 1) := by decide +kernel
theorem d_J_rotateLeft_7 : decode b_J_rotateLeft 7 = .ok (.lor, 1) := by decide +kernel
theorem d_J_rotateLeft_8 : decode b_J_rotateLeft 8 = .ok (.lreturn, 1) := by decide +kernel
theorem d_M_put_0 : decode b_M_put 0 = .ok (.iconst 0, 1) := by decide +kernel
theorem d_M_put_1 : decode b_M_put 1 = .ok (.istore_n 2, 1) := by decide +kernel
theorem d_M_put_2 : decode b_M_put 2 = .ok (.iload_n 2, 1) := by decide +kernel
theorem d_M_put_3 : decode b_M_put 3 = .ok (.bipush 25, 2) := by decide +kernel
theorem d_M_put_5 : decode b_M_put 5 = .ok (.if_icmp .ge 23, 3) := by decide +kernel
theorem d_M_put_8 : decode b_M_put 8 = .ok (.aload_n 0, 1) := by decide +kernel
theorem d_M_put_9 : decode b_M_put 9 = .ok (.getfield 32, 3) := by decide +kernel
theorem d_M_put_12 : decode b_M_put 12 = .ok (.iload_n 1, 1) := by decide +kernel
theorem d_M_put_13 : decode b_M_put 13 = .ok (.aaload, 1) := by decide +kernel
theorem d_M_put_14 : decode b_M_put 14 = .ok (.iload_n 2, 1) := by decide +kernel
theorem d_M_put_15 : decode b_M_put 15 = .ok (.aload_n 0, 1) := by decide +kernel
theorem d_M_put_16 : decode b_M_put 16 = .ok (.getfield 7, 3) := by decide +kernel
theorem d_M_put_19 : decode b_M_put 19 = .ok (.iload_n 2, 1) := by decide +kernel
theorem d_M_put_20 : decode b_M_put 20 = .ok (.laload, 1) := by decide +kernel
theorem d_M_put_21 : decode b_M_put 21 = .ok (.lastore, 1) := by decide +kernel
theorem d_M_put_22 : decode b_M_put 22 = .ok (.iinc 2 1, 3) := by decide +kernel
theorem d_M_put_25 : decode b_M_put 25 = .ok (.goto (-23), 3) := by decide +kernel
theorem d_M_put_28 : decode b_M_put 28 = .ok (.return_, 1) := by decide +kernel
theorem d_M_fill_0 : decode b_M_fill 0 = .ok (.aload_n 0, 1) := by decide +kernel
theorem d_M_fill_1 : decode b_M_fill 1 = .ok (.iconst 0, 1) := by decide +kernel
theorem d_M_fill_2 : decode b_M_fill 2 = .ok (.putfield 43, 3) := by decide +kernel
theorem d_M_fill_5 : decode b_M_fill 5 = .ok (.aload_n 0, 1) := by decide +kernel
theorem d_M_fill_6 : decode b_M_fill 6 = .ok (.iload_n 1, 1) := by decide +kernel
theorem d_M_fill_7 : decode b_M_fill 7 = .ok (.invokevirtual 47, 3) := by decide +kernel
theorem d_M_fill_10 : decode b_M_fill 10 = .ok (.ifCond .ne 16, 3) := by decide +kernel
theorem d_M_fill_13 : decode b_M_fill 13 = .ok (.iload 4, 2) := by decide +kernel
theorem d_M_fill_15 : decode b_M_fill 15 = .ok (.ifCond .lt 11, 3) := by decide +kernel
theorem d_M_fill_18 : decode b_M_fill 18 = .ok (.iload 4, 2) := by decide +kernel
theorem d_M_fill_20 : decode b_M_fill 20 = .ok (.sipush 2000, 3) := by decide +kernel
theorem d_M_fill_23 : decode b_M_fill 23 = .ok (.if_icmp .le 9, 3) := by decide +kernel
theorem d_M_fill_26 : decode b_M_fill 26 = .ok (.aload_n 0, 1) := by decide +kernel
theorem d_M_fill_27 : decode b_M_fill 27 = .ok (.iconst 1, 1) := by decide +kernel
theorem d_M_fill_28 : decode b_M_fill 28 = .ok (.invokevirtual 54, 3) := by decide +kernel
theorem d_M_fill_31 : decode b_M_fill 31 = .ok (.ireturn, 1) := by decide +kernel
theorem d_M_fill_32 : decode b_M_fill 32 = .ok (.aload_n 0, 1) := by decide +kernel
theorem d_M_fill_33 : decode b_M_fill 33 = .ok (.iload_n 1, 1) := by decide +kernel
theorem d_M_fill_34 : decode b_M_fill 34 = .ok (.invokevirtual 58, 3) := by decide +kernel
theorem d_M_fill_37 : decode b_M_fill 37 = .ok (.iconst 0, 1) := by decide +kernel
theorem d_M_fill_38 : decode b_M_fill 38 = .ok (.istore 5, 2) := by decide +kernel
theorem d_M_fill_40 : decode b_M_fill 40 = .ok (.iload 5, 2) := by decide +kernel
theorem d_M_fill_42 : decode b_M_fill 42 = .ok (.iload 4, 2) := by decide +kernel
theorem d_M_fill_44 : decode b_M_fill 44 = .ok (.if_icmp .ge 20, 3) := by decide +kernel
theorem d_M_fill_47 : decode b_M_fill 47 = .ok (.aload_n 0, 1) := by decide +kernel
theorem d_M_fill_48 : decode b_M_fill 48 = .ok (.iload_n 1, 1) := by decide +kernel
theorem d_M_fill_49 : decode b_M_fill 49 = .ok (.iload_n 2, 1) := by decide +kernel
theorem d_M_fill_50 : decode b_M_fill 50 = .ok (.iload 5, 2) := by decide +kernel
theorem d_M_fill_52 : decode b_M_fill 52 = .ok (.iload_n 3, 1) := by decide +kernel
theorem d_M_fill_53 : decode b_M_fill 53 = .ok (.imul, 1) := by decide +kernel
theorem d_M_fill_54 : decode b_M_fill 54 = .ok (.iadd, 1) := by decide +kernel
theorem d_M_fill_55 : decode b_M_fill 55 = .ok (.invokevirtual 62, 3) := by decide +kernel
theorem d_M_fill_58 : decode b_M_fill 58 = .ok (.iinc 5 1, 3) := by decide +kernel
theorem d_M_fill_61 : decode b_M_fill 61 = .ok (.goto (-21), 3) := by decide +kernel
theorem d_M_fill_64 : decode b_M_fill 64 = .ok (.aload_n 0, 1) := by decide +kernel
theorem d_M_fill_65 : decode b_M_fill 65 = .ok (.iload_n 1, 1) := by decide +kernel
theorem d_M_fill_66 : decode b_M_fill 66 = .ok (.invokevirtual 66, 3) := by decide +kernel
theorem d_M_fill_69 : decode b_M_fill 69 = .ok (.aload_n 0, 1) := by decide +kernel
theorem d_M_fill_70 : decode b_M_fill 70 = .ok (.getfield 35, 3) := by decide +kernel
theorem d_M_fill_73 : decode b_M_fill 73 = .ok (.iload_n 1, 1) := by decide +kernel
theorem d_M_fill_74 : decode b_M_fill 74 = .ok (.iaload, 1) := by decide +kernel
theorem d_M_fill_75 : decode b_M_fill 75 = .ok (.ireturn, 1) := by decide +kernel
theorem d_M_copy_0 : decode b_M_copy 0 = .ok (.aload_n 0, 1) := by decide +kernel
theorem d_M_copy_1 : decode b_M_copy 1 = .ok (.iconst 0, 1) := by decide +kernel
theorem d_M_copy_2 : decode b_M_copy 2 = .ok (.putfield 43, 3) := by decide +kernel
theorem d_M_copy_5 : decode b_M_copy 5 = .ok (.aload_n 0, 1) := by decide +kernel
theorem d_M_copy_6 : decode b_M_copy 6 = .ok (.iload_n 1, 1) := by decide +kernel
theorem d_M_copy_7 : decode b_M_copy 7 = .ok (.invokevirtual 47, 3) := by decide +kernel
theorem d_M_copy_10 : decode b_M_copy 10 = .ok (.ifCond .ne 11, 3) := by decide +kernel
theorem d_M_copy_13 : decode b_M_copy 13 = .ok (.aload_n 0, 1) := by decide +kernel
theorem d_M_copy_14 : decode b_M_copy 14 = .ok (.iload_n 2, 1) := by decide +kernel
theorem d_M_copy_15 : decode b_M_copy 15 = .ok (.invokevirtual 47, 3) := by decide +kernel
theorem d_M_copy_18 : decode b_M_copy 18 = .ok (.ifCond .eq 11, 3) := by decide +kernel
theorem d_M_copy_21 : decode b_M_copy 21 = .ok (.aload_n 0, 1) := by decide +kernel
theorem d_M_copy_22 : decode b_M_copy 22 = .ok (.iconst 1, 1) := by decide +kernel
theorem d_M_copy_23 : decode b_M_copy 23 = .ok (.putfield 43, 3) := by decide +kernel
theorem d_M_copy_26 : decode b_M_copy 26 = .ok (.goto 25, 3) := by decide +kernel
theorem d_M_copy_29 : decode b_M_copy 29 = .ok (.aload_n 0, 1) := by decide +kernel
theorem d_M_copy_30 : decode b_M_copy 30 = .ok (.iload_n 1, 1) := by decide +kernel
theorem d_M_copy_31 : decode b_M_copy 31 = .ok (.invokevirtual 58, 3) := by decide +kernel
theorem d_M_copy_34 : decode b_M_copy 34 = .ok (.aload_n 0, 1) := by decide +kernel
theorem d_M_copy_35 : decode b_M_copy 35 = .ok (.iload_n 2, 1) := by decide +kernel
theorem d_M_copy_36 : decode b_M_copy 36 = .ok (.invokevirtual 66, 3) := by decide +kernel
theorem d_M_copy_39 : decode b_M_copy 39 = .ok (.aload_n 0, 1) := by decide +kernel
theorem d_M_copy_40 : decode b_M_copy 40 = .ok (.getfield 35, 3) := by decide +kernel
theorem d_M_copy_43 : decode b_M_copy 43 = .ok (.iload_n 2, 1) := by decide +kernel
theorem d_M_copy_44 : decode b_M_copy 44 = .ok (.aload_n 0, 1) := by decide +kernel
theorem d_M_copy_45 : decode b_M_copy 45 = .ok (.getfield 35, 3) := by decide +kernel
theorem d_M_copy_48 : decode b_M_copy 48 = .ok (.iload_n 1, 1) := by decide +kernel
theorem d_M_copy_49 : decode b_M_copy 49 = .ok (.iaload, 1) := by decide +kernel
theorem d_M_copy_50 : decode b_M_copy 50 = .ok (.iastore, 1) := by decide +kernel
theorem d_M_copy_51 : decode b_M_copy 51 = .ok (.return_, 1) := by decide +kernel
theorem d_M_mix_0 : decode b_M_mix 0 = .ok (.aload_n 0, 1) := by decide +kernel
theorem d_M_mix_1 : decode b_M_mix 1 = .ok (.iconst 0, 1) := by decide +kernel
theorem d_M_mix_2 : decode b_M_mix 2 = .ok (.putfield 43, 3) := by decide +kernel
theorem d_M_mix_5 : decode b_M_mix 5 = .ok (.aload_n 0, 1) := by decide +kernel
theorem d_M_mix_6 : decode b_M_mix 6 = .ok (.iload_n 1, 1) := by decide +kernel
theorem d_M_mix_7 : decode b_M_mix 7 = .ok (.invokevirtual 47, 3) := by decide +kernel
theorem d_M_mix_10 : decode b_M_mix 10 = .ok (.ifCond .eq 11, 3) := by decide +kernel
theorem d_M_mix_13 : decode b_M_mix 13 = .ok (.aload_n 0, 1) := by decide +kernel
theorem d_M_mix_14 : decode b_M_mix 14 = .ok (.iconst 1, 1) := by decide +kernel
theorem d_M_mix_15 : decode b_M_mix 15 = .ok (.putfield 43, 3) := by decide +kernel
theorem d_M_mix_18 : decode b_M_mix 18 = .ok (.goto 17, 3) := by decide +kernel
theorem d_M_mix_21 : decode b_M_mix 21 = .ok (.aload_n 0, 1) := by decide +kernel
theorem d_M_mix_22 : decode b_M_mix 22 = .ok (.iload_n 1, 1) := by decide +kernel
theorem d_M_mix_23 : decode b_M_mix 23 = .ok (.invokevirtual 58, 3) := by decide +kernel
theorem d_M_mix_26 : decode b_M_mix 26 = .ok (.aload_n 0, 1) := by decide +kernel
theorem d_M_mix_27 : decode b_M_mix 27 = .ok (.invokevirtual 51, 3) := by decide +kernel
theorem d_M_mix_30 : decode b_M_mix 30 = .ok (.aload_n 0, 1) := by decide +kernel
theorem d_M_mix_31 : decode b_M_mix 31 = .ok (.iload_n 1, 1) := by decide +kernel
theorem d_M_mix_32 : decode b_M_mix 32 = .ok (.invokevirtual 66, 3) := by decide +kernel
theorem d_M_mix_35 : decode b_M_mix 35 = .ok (.return_, 1) := by decide +kernel
theorem d_M_lane_0 : decode b_M_lane 0 = .ok (.aload_n 0, 1) := by decide +kernel
theorem d_M_lane_1 : decode b_M_lane 1 = .ok (.iconst 0, 1) := by decide +kernel
theorem d_M_lane_2 : decode b_M_lane 2 = .ok (.putfield 43, 3) := by decide +kernel
theorem d_M_lane_5 : decode b_M_lane 5 = .ok (.aload_n 0, 1) := by decide +kernel
theorem d_M_lane_6 : decode b_M_lane 6 = .ok (.iload_n 1, 1) := by decide +kernel
theorem d_M_lane_7 : decode b_M_lane 7 = .ok (.invokevirtual 47, 3) := by decide +kernel
theorem d_M_lane_10 : decode b_M_lane 10 = .ok (.ifCond .ne 13, 3) := by decide +kernel
theorem d_M_lane_13 : decode b_M_lane 13 = .ok (.iload_n 2, 1) := by decide +kernel
theorem d_M_lane_14 : decode b_M_lane 14 = .ok (.ifCond .lt 9, 3) := by decide +kernel
theorem d_M_lane_17 : decode b_M_lane 17 = .ok (.iload_n 2, 1) := by decide +kernel
theorem d_M_lane_18 : decode b_M_lane 18 = .ok (.bipush 24, 2) := by decide +kernel
theorem d_M_lane_20 : decode b_M_lane 20 = .ok (.if_icmp .le 12, 3) := by decide +kernel
theorem d_M_lane_23 : decode b_M_lane 23 = .ok (.aload_n 0, 1) := by decide +kernel
theorem d_M_lane_24 : decode b_M_lane 24 = .ok (.iconst 1, 1) := by decide +kernel
theorem d_M_lane_25 : decode b_M_lane 25 = .ok (.invokevirtual 54, 3) := by decide +kernel
theorem d_M_lane_28 : decode b_M_lane 28 = .ok (.i2l, 1) := by decide +kernel
theorem d_M_lane_29 : decode b_M_lane 29 = .ok (.goto 11, 3) := by decide +kernel
theorem d_M_lane_32 : decode b_M_lane 32 = .ok (.aload_n 0, 1) := by decide +kernel
theorem d_M_lane_33 : decode b_M_lane 33 = .ok (.getfield 32, 3) := by decide +kernel
theorem d_M_lane_36 : decode b_M_lane 36 = .ok (.iload_n 1, 1) := by decide +kernel
theorem d_M_lane_37 : decode b_M_lane 37 = .ok (.aaload, 1) := by decide +kernel
theorem d_M_lane_38 : decode b_M_lane 38 = .ok (.iload_n 2, 1) := by decide +kernel
theorem d_M_lane_39 : decode b_M_lane 39 = .ok (.laload, 1) := by decide +kernel
theorem d_M_lane_40 : decode b_M_lane 40 = .ok (.lreturn, 1) := by decide +kernel
theorem d_M_digest_0 : decode b_M_digest 0 = .ok (.aload_n 0, 1) := by decide +kernel
theorem d_M_digest_1 : decode b_M_digest 1 = .ok (.iconst 0, 1) := by decide +kernel
theorem d_M_digest_2 : decode b_M_digest 2 = .ok (.putfield 43, 3) := by decide +kernel
theorem d_M_digest_5 : decode b_M_digest 5 = .ok (.aload_n 0, 1) := by decide +kernel
theorem d_M_digest_6 : decode b_M_digest 6 = .ok (.iload_n 1, 1) := by decide +kernel
theorem d_M_digest_7 : decode b_M_digest 7 = .ok (.invokevirtual 47, 3) := by decide +kernel
theorem d_M_digest_10 : decode b_M_digest 10 = .ok (.ifCond .ne 12, 3) := by decide +kernel
theorem d_M_digest_13 : decode b_M_digest 13 = .ok (.iload_n 2, 1) := by decide +kernel
theorem d_M_digest_14 : decode b_M_digest 14 = .ok (.ifCond .lt 8, 3) := by decide +kernel
theorem d_M_digest_17 : decode b_M_digest 17 = .ok (.iload_n 2, 1) := by decide +kernel
theorem d_M_digest_18 : decode b_M_digest 18 = .ok (.iconst 3, 1) := by decide +kernel
theorem d_M_digest_19 : decode b_M_digest 19 = .ok (.if_icmp .le 10, 3) := by decide +kernel
theorem d_M_digest_22 : decode b_M_digest 22 = .ok (.aload_n 0, 1) := by decide +kernel
theorem d_M_digest_23 : decode b_M_digest 23 = .ok (.iconst 1, 1) := by decide +kernel
theorem d_M_digest_24 : decode b_M_digest 24 = .ok (.invokevirtual 54, 3) := by decide +kernel
theorem d_M_digest_27 : decode b_M_digest 27 = .ok (.i2l, 1) := by decide +kernel
theorem d_M_digest_28 : decode b_M_digest 28 = .ok (.lreturn, 1) := by decide +kernel
theorem d_M_digest_29 : decode b_M_digest 29 = .ok (.aload_n 0, 1) := by decide +kernel
theorem d_M_digest_30 : decode b_M_digest 30 = .ok (.iload_n 1, 1) := by decide +kernel
theorem d_M_digest_31 : decode b_M_digest 31 = .ok (.invokevirtual 58, 3) := by decide +kernel
theorem d_M_digest_34 : decode b_M_digest 34 = .ok (.aload_n 0, 1) := by decide +kernel
theorem d_M_digest_35 : decode b_M_digest 35 = .ok (.getfield 35, 3) := by decide +kernel
theorem d_M_digest_38 : decode b_M_digest 38 = .ok (.iload_n 1, 1) := by decide +kernel
theorem d_M_digest_39 : decode b_M_digest 39 = .ok (.iaload, 1) := by decide +kernel
theorem d_M_digest_40 : decode b_M_digest 40 = .ok (.istore_n 3, 1) := by decide +kernel
theorem d_M_digest_41 : decode b_M_digest 41 = .ok (.aload_n 0, 1) := by decide +kernel
theorem d_M_digest_42 : decode b_M_digest 42 = .ok (.getfield 7, 3) := by decide +kernel
theorem d_M_digest_45 : decode b_M_digest 45 = .ok (.iload_n 3, 1) := by decide +kernel
theorem d_M_digest_46 : decode b_M_digest 46 = .ok (.bipush 8, 2) := by decide +kernel
theorem d_M_digest_48 : decode b_M_digest 48 = .ok (.idiv, 1) := by decide +kernel
theorem d_M_digest_49 : decode b_M_digest 49 = .ok (.dup2, 1) := by decide +kernel
theorem d_M_digest_50 : decode b_M_digest 50 = .ok (.laload, 1) := by decide +kernel
theorem d_M_digest_51 : decode b_M_digest 51 = .ok (.lconst 1, 1) := by decide +kernel
theorem d_M_digest_52 : decode b_M_digest 52 = .ok (.bipush 8, 2) := by decide +kernel
theorem d_M_digest_54 : decode b_M_digest 54 = .ok (.iload_n 3, 1) := by decide +kernel
theorem d_M_digest_55 : decode b_M_digest 55 = .ok (.bipush 8, 2) := by decide +kernel
theorem d_M_digest_57 : decode b_M_digest 57 = .ok (.irem, 1) := by decide +kernel
theorem d_M_digest_58 : decode b_M_digest 58 = .ok (.imul, 1) := by decide +kernel
theorem d_M_digest_59 : decode b_M_digest 59 = .ok (.lshl, 1) := by decide +kernel
theorem d_M_digest_60 : decode b_M_digest 60 = .ok (.lxor, 1) := by decide +kernel
theorem d_M_digest_61 : decode b_M_digest 61 = .ok (.lastore, 1) := by decide +kernel
theorem d_M_digest_62 : decode b_M_digest 62 = .ok (.aload_n 0, 1) := by decide +kernel
theorem d_M_digest_63 : decode b_M_digest 63 = .ok (.getfield 7, 3) := by decide +kernel
theorem d_M_digest_66 : decode b_M_digest 66 = .ok (.bipush 16, 2) := by decide +kernel
theorem d_M_digest_68 : decode b_M_digest 68 = .ok (.dup2, 1) := by decide +kernel
theorem d_M_digest_69 : decode b_M_digest 69 = .ok (.laload, 1) := by decide +kernel
theorem d_M_digest_70 : decode b_M_digest 70 = .ok (.ldc2_w 69, 3) := by decide +kernel
theorem d_M_digest_73 : decode b_M_digest 73 = .ok (.lxor, 1) := by decide +kernel
theorem d_M_digest_74 : decode b_M_digest 74 = .ok (.lastore, 1) := by decide +kernel
theorem d_M_digest_75 : decode b_M_digest 75 = .ok (.aload_n 0, 1) := by decide +kernel
theorem d_M_digest_76 : decode b_M_digest 76 = .ok (.invokevirtual 51, 3) := by decide +kernel
theorem d_M_digest_79 : decode b_M_digest 79 = .ok (.lconst 0, 1) := by decide +kernel
theorem d_M_digest_80 : decode b_M_digest 80 = .ok (.lstore 4, 2) := by decide +kernel
theorem d_M_digest_82 : decode b_M_digest 82 = .ok (.iconst 0, 1) := by decide +kernel
theorem d_M_digest_83 : decode b_M_digest 83 = .ok (.istore 6, 2) := by decide +kernel
theorem d_M_digest_85 : decode b_M_digest 85 = .ok (.iload 6, 2) := by decide +kernel
theorem d_M_digest_87 : decode b_M_digest 87 = .ok (.bipush 8, 2) := by decide +kernel
theorem d_M_digest_89 : decode b_M_digest 89 = .ok (.if_icmp .ge 33, 3) := by decide +kernel
theorem d_M_digest_92 : decode b_M_digest 92 = .ok (.lload 4, 2) := by decide +kernel
theorem d_M_digest_94 : decode b_M_digest 94 = .ok (.bipush 8, 2) := by decide +kernel
theorem d_M_digest_96 : decode b_M_digest 96 = .ok (.lshl, 1) := by decide +kernel
theorem d_M_digest_97 : decode b_M_digest 97 = .ok (.aload_n 0, 1) := by decide +kernel
theorem d_M_digest_98 : decode b_M_digest 98 = .ok (.getfield 7, 3) := by decide +kernel
theorem d_M_digest_101 : decode b_M_digest 101 = .ok (.iload_n 2, 1) := by decide +kernel
theorem d_M_digest_102 : decode b_M_digest 102 = .ok (.laload, 1) := by decide +kernel
theorem d_M_digest_103 : decode b_M_digest 103 = .ok (.bipush 8, 2) := by decide +kernel
theorem d_M_digest_105 : decode b_M_digest 105 = .ok (.iload 6, 2) := by decide +kernel
theorem d_M_digest_107 : decode b_M_digest 107 = .ok (.imul, 1) := by decide +kernel
theorem d_M_digest_108 : decode b_M_digest 108 = .ok (.lushr, 1) := by decide +kernel
theorem d_M_digest_109 : decode b_M_digest 109 = .ok (.ldc2_w 71, 3) := by decide +kernel
theorem d_M_digest_112 : decode b_M_digest 112 = .ok (.land, 1) := by decide +kernel
theorem d_M_digest_113 : decode b_M_digest 113 = .ok (.lor, 1) := by decide +kernel
theorem d_M_digest_114 : decode b_M_digest 114 = .ok (.lstore 4, 2) := by decide +kernel
theorem d_M_digest_116 : decode b_M_digest 116 = .ok (.iinc 6 1, 3) := by decide +kernel
theorem d_M_digest_119 : decode b_M_digest 119 = .ok (.goto (-34), 3) := by decide +kernel
theorem d_M_digest_122 : decode b_M_digest 122 = .ok (.lload 4, 2) := by decide +kernel
theorem d_M_digest_124 : decode b_M_digest 124 = .ok (.lreturn, 1) := by decide +kernel
end
section
/-! decode rows (printed by gen02.py) -/
theorem d_law_0 : decode code 0 = .ok (.new 8, 3) := by decide +kernel
theorem d_law_3 : decode code 3 = .ok (.dup, 1) := by decide +kernel
theorem d_law_4 : decode code 4 = .ok (.invokespecial 37, 3) := by decide +kernel
theorem d_law_7 : decode code 7 = .ok (.astore_n 1, 1) := by decide +kernel
theorem d_law_8 : decode code 8 = .ok (.new 38, 3) := by decide +kernel
theorem d_law_11 : decode code 11 = .ok (.dup, 1) := by decide +kernel
theorem d_law_12 : decode code 12 = .ok (.invokespecial 40, 3) := by decide +kernel
theorem d_law_15 : decode code 15 = .ok (.astore_n 2, 1) := by decide +kernel
theorem d_law_16 : decode code 16 = .ok (.iconst 1, 1) := by decide +kernel
theorem d_law_17 : decode code 17 = .ok (.newarray .long, 2) := by decide +kernel
theorem d_law_19 : decode code 19 = .ok (.astore_n 3, 1) := by decide +kernel
theorem d_law_20 : decode code 20 = .ok (.iconst 0, 1) := by decide +kernel
theorem d_law_21 : decode code 21 = .ok (.istore 4, 2) := by decide +kernel
theorem d_law_23 : decode code 23 = .ok (.iload 4, 2) := by decide +kernel
theorem d_law_25 : decode code 25 = .ok (.aload_n 0, 1) := by decide +kernel
theorem d_law_26 : decode code 26 = .ok (.arraylength, 1) := by decide +kernel
theorem d_law_27 : decode code 27 = .ok (.iconst 5, 1) := by decide +kernel
theorem d_law_28 : decode code 28 = .ok (.isub, 1) := by decide +kernel
theorem d_law_29 : decode code 29 = .ok (.if_icmp .gt 515, 3) := by decide +kernel
theorem d_law_32 : decode code 32 = .ok (.aload_n 0, 1) := by decide +kernel
theorem d_law_33 : decode code 33 = .ok (.iload 4, 2) := by decide +kernel
theorem d_law_35 : decode code 35 = .ok (.iaload, 1) := by decide +kernel
theorem d_law_36 : decode code 36 = .ok (.bipush 7, 2) := by decide +kernel
theorem d_law_38 : decode code 38 = .ok (.iand, 1) := by decide +kernel
theorem d_law_39 : decode code 39 = .ok (.tableswitch 499 0 6 #[41, 77, 189, 281, 329, 365, 432], 41) := by decide +kernel
theorem d_law_80 : decode code 80 = .ok (.aload_n 1, 1) := by decide +kernel
theorem d_law_81 : decode code 81 = .ok (.aload_n 0, 1) := by decide +kernel
theorem d_law_82 : decode code 82 = .ok (.iload 4, 2) := by decide +kernel
theorem d_law_84 : decode code 84 = .ok (.iconst 1, 1) := by decide +kernel
theorem d_law_85 : decode code 85 = .ok (.iadd, 1) := by decide +kernel
theorem d_law_86 : decode code 86 = .ok (.iaload, 1) := by decide +kernel
theorem d_law_87 : decode code 87 = .ok (.invokestatic 41, 3) := by decide +kernel
theorem d_law_90 : decode code 90 = .ok (.istore 5, 2) := by decide +kernel
theorem d_law_92 : decode code 92 = .ok (.aload_n 2, 1) := by decide +kernel
theorem d_law_93 : decode code 93 = .ok (.aload_n 0, 1) := by decide +kernel
theorem d_law_94 : decode code 94 = .ok (.iload 4, 2) := by decide +kernel
theorem d_law_96 : decode code 96 = .ok (.iconst 1, 1) := by decide +kernel
theorem d_law_97 : decode code 97 = .ok (.iadd, 1) := by decide +kernel
theorem d_law_98 : decode code 98 = .ok (.iaload, 1) := by decide +kernel
theorem d_law_99 : decode code 99 = .ok (.invokevirtual 46, 3) := by decide +kernel
theorem d_law_102 : decode code 102 = .ok (.aload_n 2, 1) := by decide +kernel
theorem d_law_103 : decode code 103 = .ok (.invokevirtual 47, 3) := by decide +kernel
theorem d_law_106 : decode code 106 = .ok (.iload 5, 2) := by decide +kernel
theorem d_law_108 : decode code 108 = .ok (.if_icmp .eq 5, 3) := by decide +kernel
theorem d_law_111 : decode code 111 = .ok (.iconst 0, 1) := by decide +kernel
theorem d_law_112 : decode code 112 = .ok (.ireturn, 1) := by decide +kernel
theorem d_law_113 : decode code 113 = .ok (.goto 425, 3) := by decide +kernel
theorem d_law_116 : decode code 116 = .ok (.aload_n 1, 1) := by decide +kernel
theorem d_law_117 : decode code 117 = .ok (.aload_n 0, 1) := by decide +kernel
theorem d_law_118 : decode code 118 = .ok (.iload 4, 2) := by decide +kernel
theorem d_law_120 : decode code 120 = .ok (.iconst 1, 1) := by decide +kernel
theorem d_law_121 : decode code 121 = .ok (.iadd, 1) := by decide +kernel
theorem d_law_122 : decode code 122 = .ok (.iaload, 1) := by decide +kernel
theorem d_law_123 : decode code 123 = .ok (.aload_n 0, 1) := by decide +kernel
theorem d_law_124 : decode code 124 = .ok (.iload 4, 2) := by decide +kernel
theorem d_law_126 : decode code 126 = .ok (.iconst 2, 1) := by decide +kernel
theorem d_law_127 : decode code 127 = .ok (.iadd, 1) := by decide +kernel
theorem d_law_128 : decode code 128 = .ok (.iaload, 1) := by decide +kernel
theorem d_law_129 : decode code 129 = .ok (.i2l, 1) := by decide +kernel
theorem d_law_130 : decode code 130 = .ok (.bipush 32, 2) := by decide +kernel
theorem d_law_132 : decode code 132 = .ok (.lshl, 1) := by decide +kernel
theorem d_law_133 : decode code 133 = .ok (.aload_n 0, 1) := by decide +kernel
theorem d_law_134 : decode code 134 = .ok (.iload 4, 2) := by decide +kernel
theorem d_law_136 : decode code 136 = .ok (.iconst 3, 1) := by decide +kernel
theorem d_law_137 : decode code 137 = .ok (.iadd, 1) := by decide +kernel
theorem d_law_138 : decode code 138 = .ok (.iaload, 1) := by decide +kernel
theorem d_law_139 : decode code 139 = .ok (.i2l, 1) := by decide +kernel
theorem d_law_140 : decode code 140 = .ok (.ldc2_w 51, 3) := by decide +kernel
theorem d_law_143 : decode code 143 = .ok (.land, 1) := by decide +kernel
theorem d_law_144 : decode code 144 = .ok (.lor, 1) := by decide +kernel
theorem d_law_145 : decode code 145 = .ok (.aload_n 0, 1) := by decide +kernel
theorem d_law_146 : decode code 146 = .ok (.iload 4, 2) := by decide +kernel
theorem d_law_148 : decode code 148 = .ok (.iconst 4, 1) := by decide +kernel
theorem d_law_149 : decode code 149 = .ok (.iadd, 1) := by decide +kernel
theorem d_law_150 : decode code 150 = .ok (.iaload, 1) := by decide +kernel
theorem d_law_151 : decode code 151 = .ok (.aload_n 3, 1) := by decide +kernel
theorem d_law_152 : decode code 152 = .ok (.invokestatic 53, 3) := by decide +kernel
theorem d_law_155 : decode code 155 = .ok (.istore 5, 2) := by decide +kernel
theorem d_law_157 : decode code 157 = .ok (.aload_n 2, 1) := by decide +kernel
theorem d_law_158 : decode code 158 = .ok (.aload_n 0, 1) := by decide +kernel
theorem d_law_159 : decode code 159 = .ok (.iload 4, 2) := by decide +kernel
theorem d_law_161 : decode code 161 = .ok (.iconst 1, 1) := by decide +kernel
theorem d_law_162 : decode code 162 = .ok (.iadd, 1) := by decide +kernel
theorem d_law_163 : decode code 163 = .ok (.iaload, 1) := by decide +kernel
theorem d_law_164 : decode code 164 = .ok (.aload_n 0, 1) := by decide +kernel
theorem d_law_165 : decode code 165 = .ok (.iload 4, 2) := by decide +kernel
theorem d_law_167 : decode code 167 = .ok (.iconst 2, 1) := by decide +kernel
theorem d_law_168 : decode code 168 = .ok (.iadd, 1) := by decide +kernel
theorem d_law_169 : decode code 169 = .ok (.iaload, 1) := by decide +kernel
theorem d_law_170 : decode code 170 = .ok (.i2l, 1) := by decide +kernel
theorem d_law_171 : decode code 171 = .ok (.bipush 32, 2) := by decide +kernel
theorem d_law_173 : decode code 173 = .ok (.lshl, 1) := by decide +kernel
theorem d_law_174 : decode code 174 = .ok (.aload_n 0, 1) := by decide +kernel
theorem d_law_175 : decode code 175 = .ok (.iload 4, 2) := by decide +kernel
theorem d_law_177 : decode code 177 = .ok (.iconst 3, 1) := by decide +kernel
theorem d_law_178 : decode code 178 = .ok (.iadd, 1) := by decide +kernel
theorem d_law_179 : decode code 179 = .ok (.iaload, 1) := by decide +kernel
theorem d_law_180 : decode code 180 = .ok (.i2l, 1) := by decide +kernel
theorem d_law_181 : decode code 181 = .ok (.ldc2_w 51, 3) := by decide +kernel
theorem d_law_184 : decode code 184 = .ok (.land, 1) := by decide +kernel
theorem d_law_185 : decode code 185 = .ok (.lor, 1) := by decide +kernel
theorem d_law_186 : decode code 186 = .ok (.aload_n 0, 1) := by decide +kernel
theorem d_law_187 : decode code 187 = .ok (.iload 4, 2) := by decide +kernel
theorem d_law_189 : decode code 189 = .ok (.iconst 4, 1) := by decide +kernel
theorem d_law_190 : decode code 190 = .ok (.iadd, 1) := by decide +kernel
theorem d_law_191 : decode code 191 = .ok (.iaload, 1) := by decide +kernel
theorem d_law_192 : decode code 192 = .ok (.invokevirtual 56, 3) := by decide +kernel
theorem d_law_195 : decode code 195 = .ok (.istore 6, 2) := by decide +kernel
theorem d_law_197 : decode code 197 = .ok (.aload_n 2, 1) := by decide +kernel
theorem d_law_198 : decode code 198 = .ok (.invokevirtual 47, 3) := by decide +kernel
theorem d_law_201 : decode code 201 = .ok (.iload 5, 2) := by decide +kernel
theorem d_law_203 : decode code 203 = .ok (.if_icmp .eq 5, 3) := by decide +kernel
theorem d_law_206 : decode code 206 = .ok (.iconst 0, 1) := by decide +kernel
theorem d_law_207 : decode code 207 = .ok (.ireturn, 1) := by decide +kernel
theorem d_law_208 : decode code 208 = .ok (.iload 5, 2) := by decide +kernel
theorem d_law_210 : decode code 210 = .ok (.ifCond .ne 15, 3) := by decide +kernel
theorem d_law_213 : decode code 213 = .ok (.aload_n 3, 1) := by decide +kernel
theorem d_law_214 : decode code 214 = .ok (.iconst 0, 1) := by decide +kernel
theorem d_law_215 : decode code 215 = .ok (.laload, 1) := by decide +kernel
theorem d_law_216 : decode code 216 = .ok (.iload 6, 2) := by decide +kernel
theorem d_law_218 : decode code 218 = .ok (.i2l, 1) := by decide +kernel
theorem d_law_219 : decode code 219 = .ok (.lcmp, 1) := by decide +kernel
theorem d_law_220 : decode code 220 = .ok (.ifCond .eq 5, 3) := by decide +kernel
theorem d_law_223 : decode code 223 = .ok (.iconst 0, 1) := by decide +kernel
theorem d_law_224 : decode code 224 = .ok (.ireturn, 1) := by decide +kernel
theorem d_law_225 : decode code 225 = .ok (.goto 313, 3) := by decide +kernel
theorem d_law_228 : decode code 228 = .ok (.aload_n 1, 1) := by decide +kernel
theorem d_law_229 : decode code 229 = .ok (.aload_n 0, 1) := by decide +kernel
theorem d_law_230 : decode code 230 = .ok (.iload 4, 2) := by decide +kernel
theorem d_law_232 : decode code 232 = .ok (.iconst 1, 1) := by decide +kernel
theorem d_law_233 : decode code 233 = .ok (.iadd, 1) := by decide +kernel
theorem d_law_234 : decode code 234 = .ok (.iaload, 1) := by decide +kernel
theorem d_law_235 : decode code 235 = .ok (.aload_n 0, 1) := by decide +kernel
theorem d_law_236 : decode code 236 = .ok (.iload 4, 2) := by decide +kernel
theorem d_law_238 : decode code 238 = .ok (.iconst 2, 1) := by decide +kernel
theorem d_law_239 : decode code 239 = .ok (.iadd, 1) := by decide +kernel
theorem d_law_240 : decode code 240 = .ok (.iaload, 1) := by decide +kernel
theorem d_law_241 : decode code 241 = .ok (.aload_n 0, 1) := by decide +kernel
theorem d_law_242 : decode code 242 = .ok (.iload 4, 2) := by decide +kernel
theorem d_law_244 : decode code 244 = .ok (.iconst 3, 1) := by decide +kernel
theorem d_law_245 : decode code 245 = .ok (.iadd, 1) := by decide +kernel
theorem d_law_246 : decode code 246 = .ok (.iaload, 1) := by decide +kernel
theorem d_law_247 : decode code 247 = .ok (.aload_n 0, 1) := by decide +kernel
theorem d_law_248 : decode code 248 = .ok (.iload 4, 2) := by decide +kernel
theorem d_law_250 : decode code 250 = .ok (.iconst 4, 1) := by decide +kernel
theorem d_law_251 : decode code 251 = .ok (.iadd, 1) := by decide +kernel
theorem d_law_252 : decode code 252 = .ok (.iaload, 1) := by decide +kernel
theorem d_law_253 : decode code 253 = .ok (.aload_n 3, 1) := by decide +kernel
theorem d_law_254 : decode code 254 = .ok (.invokestatic 57, 3) := by decide +kernel
theorem d_law_257 : decode code 257 = .ok (.istore 5, 2) := by decide +kernel
theorem d_law_259 : decode code 259 = .ok (.aload_n 2, 1) := by decide +kernel
theorem d_law_260 : decode code 260 = .ok (.aload_n 0, 1) := by decide +kernel
theorem d_law_261 : decode code 261 = .ok (.iload 4, 2) := by decide +kernel
theorem d_law_263 : decode code 263 = .ok (.iconst 1, 1) := by decide +kernel
theorem d_law_264 : decode code 264 = .ok (.iadd, 1) := by decide +kernel
theorem d_law_265 : decode code 265 = .ok (.iaload, 1) := by decide +kernel
theorem d_law_266 : decode code 266 = .ok (.aload_n 0, 1) := by decide +kernel
theorem d_law_267 : decode code 267 = .ok (.iload 4, 2) := by decide +kernel
theorem d_law_269 : decode code 269 = .ok (.iconst 2, 1) := by decide +kernel
theorem d_law_270 : decode code 270 = .ok (.iadd, 1) := by decide +kernel
theorem d_law_271 : decode code 271 = .ok (.iaload, 1) := by decide +kernel
theorem d_law_272 : decode code 272 = .ok (.aload_n 0, 1) := by decide +kernel
theorem d_law_273 : decode code 273 = .ok (.iload 4, 2) := by decide +kernel
theorem d_law_275 : decode code 275 = .ok (.iconst 3, 1) := by decide +kernel
theorem d_law_276 : decode code 276 = .ok (.iadd, 1) := by decide +kernel
theorem d_law_277 : decode code 277 = .ok (.iaload, 1) := by decide +kernel
theorem d_law_278 : decode code 278 = .ok (.aload_n 0, 1) := by decide +kernel
theorem d_law_279 : decode code 279 = .ok (.iload 4, 2) := by decide +kernel
theorem d_law_281 : decode code 281 = .ok (.iconst 4, 1) := by decide +kernel
theorem d_law_282 : decode code 282 = .ok (.iadd, 1) := by decide +kernel
theorem d_law_283 : decode code 283 = .ok (.iaload, 1) := by decide +kernel
theorem d_law_284 : decode code 284 = .ok (.invokevirtual 60, 3) := by decide +kernel
theorem d_law_287 : decode code 287 = .ok (.istore 6, 2) := by decide +kernel
theorem d_law_289 : decode code 289 = .ok (.aload_n 2, 1) := by decide +kernel
theorem d_law_290 : decode code 290 = .ok (.invokevirtual 47, 3) := by decide +kernel
theorem d_law_293 : decode code 293 = .ok (.iload 5, 2) := by decide +kernel
theorem d_law_295 : decode code 295 = .ok (.if_icmp .eq 5, 3) := by decide +kernel
theorem d_law_298 : decode code 298 = .ok (.iconst 0, 1) := by decide +kernel
theorem d_law_299 : decode code 299 = .ok (.ireturn, 1) := by decide +kernel
theorem d_law_300 : decode code 300 = .ok (.iload 5, 2) := by decide +kernel
theorem d_law_302 : decode code 302 = .ok (.ifCond .ne 15, 3) := by decide +kernel
theorem d_law_305 : decode code 305 = .ok (.aload_n 3, 1) := by decide +kernel
theorem d_law_306 : decode code 306 = .ok (.iconst 0, 1) := by decide +kernel
theorem d_law_307 : decode code 307 = .ok (.laload, 1) := by decide +kernel
theorem d_law_308 : decode code 308 = .ok (.iload 6, 2) := by decide +kernel
theorem d_law_310 : decode code 310 = .ok (.i2l, 1) := by decide +kernel
theorem d_law_311 : decode code 311 = .ok (.lcmp, 1) := by decide +kernel
theorem d_law_312 : decode code 312 = .ok (.ifCond .eq 5, 3) := by decide +kernel
theorem d_law_315 : decode code 315 = .ok (.iconst 0, 1) := by decide +kernel
theorem d_law_316 : decode code 316 = .ok (.ireturn, 1) := by decide +kernel
theorem d_law_317 : decode code 317 = .ok (.goto 221, 3) := by decide +kernel
theorem d_law_320 : decode code 320 = .ok (.aload_n 1, 1) := by decide +kernel
theorem d_law_321 : decode code 321 = .ok (.aload_n 0, 1) := by decide +kernel
theorem d_law_322 : decode code 322 = .ok (.iload 4, 2) := by decide +kernel
theorem d_law_324 : decode code 324 = .ok (.iconst 1, 1) := by decide +kernel
theorem d_law_325 : decode code 325 = .ok (.iadd, 1) := by decide +kernel
theorem d_law_326 : decode code 326 = .ok (.iaload, 1) := by decide +kernel
theorem d_law_327 : decode code 327 = .ok (.aload_n 0, 1) := by decide +kernel
theorem d_law_328 : decode code 328 = .ok (.iload 4, 2) := by decide +kernel
theorem d_law_330 : decode code 330 = .ok (.iconst 2, 1) := by decide +kernel
theorem d_law_331 : decode code 331 = .ok (.iadd, 1) := by decide +kernel
theorem d_law_332 : decode code 332 = .ok (.iaload, 1) := by decide +kernel
theorem d_law_333 : decode code 333 = .ok (.invokestatic 61, 3) := by decide +kernel
theorem d_law_336 : decode code 336 = .ok (.istore 5, 2) := by decide +kernel
theorem d_law_338 : decode code 338 = .ok (.aload_n 2, 1) := by decide +kernel
theorem d_law_339 : decode code 339 = .ok (.aload_n 0, 1) := by decide +kernel
theorem d_law_340 : decode code 340 = .ok (.iload 4, 2) := by decide +kernel
theorem d_law_342 : decode code 342 = .ok (.iconst 1, 1) := by decide +kernel
theorem d_law_343 : decode code 343 = .ok (.iadd, 1) := by decide +kernel
theorem d_law_344 : decode code 344 = .ok (.iaload, 1) := by decide +kernel
theorem d_law_345 : decode code 345 = .ok (.aload_n 0, 1) := by decide +kernel
theorem d_law_346 : decode code 346 = .ok (.iload 4, 2) := by decide +kernel
theorem d_law_348 : decode code 348 = .ok (.iconst 2, 1) := by decide +kernel
theorem d_law_349 : decode code 349 = .ok (.iadd, 1) := by decide +kernel
theorem d_law_350 : decode code 350 = .ok (.iaload, 1) := by decide +kernel
theorem d_law_351 : decode code 351 = .ok (.invokevirtual 64, 3) := by decide +kernel
theorem d_law_354 : decode code 354 = .ok (.aload_n 2, 1) := by decide +kernel
theorem d_law_355 : decode code 355 = .ok (.invokevirtual 47, 3) := by decide +kernel
theorem d_law_358 : decode code 358 = .ok (.iload 5, 2) := by decide +kernel
theorem d_law_360 : decode code 360 = .ok (.if_icmp .eq 5, 3) := by decide +kernel
theorem d_law_363 : decode code 363 = .ok (.iconst 0, 1) := by decide +kernel
theorem d_law_364 : decode code 364 = .ok (.ireturn, 1) := by decide +kernel
theorem d_law_365 : decode code 365 = .ok (.goto 173, 3) := by decide +kernel
theorem d_law_368 : decode code 368 = .ok (.aload_n 1, 1) := by decide +kernel
theorem d_law_369 : decode code 369 = .ok (.aload_n 0, 1) := by decide +kernel
theorem d_law_370 : decode code 370 = .ok (.iload 4, 2) := by decide +kernel
theorem d_law_372 : decode code 372 = .ok (.iconst 1, 1) := by decide +kernel
theorem d_law_373 : decode code 373 = .ok (.iadd, 1) := by decide +kernel
theorem d_law_374 : decode code 374 = .ok (.iaload, 1) := by decide +kernel
theorem d_law_375 : decode code 375 = .ok (.invokestatic 65, 3) := by decide +kernel
theorem d_law_378 : decode code 378 = .ok (.istore 5, 2) := by decide +kernel
theorem d_law_380 : decode code 380 = .ok (.aload_n 2, 1) := by decide +kernel
theorem d_law_381 : decode code 381 = .ok (.aload_n 0, 1) := by decide +kernel
theorem d_law_382 : decode code 382 = .ok (.iload 4, 2) := by decide +kernel
theorem d_law_384 : decode code 384 = .ok (.iconst 1, 1) := by decide +kernel
theorem d_law_385 : decode code 385 = .ok (.iadd, 1) := by decide +kernel
theorem d_law_386 : decode code 386 = .ok (.iaload, 1) := by decide +kernel
theorem d_law_387 : decode code 387 = .ok (.invokevirtual 67, 3) := by decide +kernel
theorem d_law_390 : decode code 390 = .ok (.aload_n 2, 1) := by decide +kernel
theorem d_law_391 : decode code 391 = .ok (.invokevirtual 47, 3) := by decide +kernel
theorem d_law_394 : decode code 394 = .ok (.iload 5, 2) := by decide +kernel
theorem d_law_396 : decode code 396 = .ok (.if_icmp .eq 5, 3) := by decide +kernel
theorem d_law_399 : decode code 399 = .ok (.iconst 0, 1) := by decide +kernel
theorem d_law_400 : decode code 400 = .ok (.ireturn, 1) := by decide +kernel
theorem d_law_401 : decode code 401 = .ok (.goto 137, 3) := by decide +kernel
theorem d_law_404 : decode code 404 = .ok (.aload_n 1, 1) := by decide +kernel
theorem d_law_405 : decode code 405 = .ok (.aload_n 0, 1) := by decide +kernel
theorem d_law_406 : decode code 406 = .ok (.iload 4, 2) := by decide +kernel
theorem d_law_408 : decode code 408 = .ok (.iconst 1, 1) := by decide +kernel
theorem d_law_409 : decode code 409 = .ok (.iadd, 1) := by decide +kernel
theorem d_law_410 : decode code 410 = .ok (.iaload, 1) := by decide +kernel
theorem d_law_411 : decode code 411 = .ok (.aload_n 0, 1) := by decide +kernel
theorem d_law_412 : decode code 412 = .ok (.iload 4, 2) := by decide +kernel
theorem d_law_414 : decode code 414 = .ok (.iconst 2, 1) := by decide +kernel
theorem d_law_415 : decode code 415 = .ok (.iadd, 1) := by decide +kernel
theorem d_law_416 : decode code 416 = .ok (.iaload, 1) := by decide +kernel
theorem d_law_417 : decode code 417 = .ok (.aload_n 3, 1) := by decide +kernel
theorem d_law_418 : decode code 418 = .ok (.invokestatic 68, 3) := by decide +kernel
theorem d_law_421 : decode code 421 = .ok (.istore 5, 2) := by decide +kernel
theorem d_law_423 : decode code 423 = .ok (.aload_n 2, 1) := by decide +kernel
theorem d_law_424 : decode code 424 = .ok (.aload_n 0, 1) := by decide +kernel
theorem d_law_425 : decode code 425 = .ok (.iload 4, 2) := by decide +kernel
theorem d_law_427 : decode code 427 = .ok (.iconst 1, 1) := by decide +kernel
theorem d_law_428 : decode code 428 = .ok (.iadd, 1) := by decide +kernel
theorem d_law_429 : decode code 429 = .ok (.iaload, 1) := by decide +kernel
theorem d_law_430 : decode code 430 = .ok (.aload_n 0, 1) := by decide +kernel
theorem d_law_431 : decode code 431 = .ok (.iload 4, 2) := by decide +kernel
theorem d_law_433 : decode code 433 = .ok (.iconst 2, 1) := by decide +kernel
theorem d_law_434 : decode code 434 = .ok (.iadd, 1) := by decide +kernel
theorem d_law_435 : decode code 435 = .ok (.iaload, 1) := by decide +kernel
theorem d_law_436 : decode code 436 = .ok (.invokevirtual 71, 3) := by decide +kernel
theorem d_law_439 : decode code 439 = .ok (.lstore 6, 2) := by decide +kernel
theorem d_law_441 : decode code 441 = .ok (.aload_n 2, 1) := by decide +kernel
theorem d_law_442 : decode code 442 = .ok (.invokevirtual 47, 3) := by decide +kernel
theorem d_law_445 : decode code 445 = .ok (.iload 5, 2) := by decide +kernel
theorem d_law_447 : decode code 447 = .ok (.if_icmp .eq 5, 3) := by decide +kernel
theorem d_law_450 : decode code 450 = .ok (.iconst 0, 1) := by decide +kernel
theorem d_law_451 : decode code 451 = .ok (.ireturn, 1) := by decide +kernel
theorem d_law_452 : decode code 452 = .ok (.iload 5, 2) := by decide +kernel
theorem d_law_454 : decode code 454 = .ok (.ifCond .ne 14, 3) := by decide +kernel
theorem d_law_457 : decode code 457 = .ok (.aload_n 3, 1) := by decide +kernel
theorem d_law_458 : decode code 458 = .ok (.iconst 0, 1) := by decide +kernel
theorem d_law_459 : decode code 459 = .ok (.laload, 1) := by decide +kernel
theorem d_law_460 : decode code 460 = .ok (.lload 6, 2) := by decide +kernel
theorem d_law_462 : decode code 462 = .ok (.lcmp, 1) := by decide +kernel
theorem d_law_463 : decode code 463 = .ok (.ifCond .eq 5, 3) := by decide +kernel
theorem d_law_466 : decode code 466 = .ok (.iconst 0, 1) := by decide +kernel
theorem d_law_467 : decode code 467 = .ok (.ireturn, 1) := by decide +kernel
theorem d_law_468 : decode code 468 = .ok (.goto 70, 3) := by decide +kernel
theorem d_law_471 : decode code 471 = .ok (.aload_n 1, 1) := by decide +kernel
theorem d_law_472 : decode code 472 = .ok (.aload_n 0, 1) := by decide +kernel
theorem d_law_473 : decode code 473 = .ok (.iload 4, 2) := by decide +kernel
theorem d_law_475 : decode code 475 = .ok (.iconst 1, 1) := by decide +kernel
theorem d_law_476 : decode code 476 = .ok (.iadd, 1) := by decide +kernel
theorem d_law_477 : decode code 477 = .ok (.iaload, 1) := by decide +kernel
theorem d_law_478 : decode code 478 = .ok (.aload_n 0, 1) := by decide +kernel
theorem d_law_479 : decode code 479 = .ok (.iload 4, 2) := by decide +kernel
theorem d_law_481 : decode code 481 = .ok (.iconst 2, 1) := by decide +kernel
theorem d_law_482 : decode code 482 = .ok (.iadd, 1) := by decide +kernel
theorem d_law_483 : decode code 483 = .ok (.iaload, 1) := by decide +kernel
theorem d_law_484 : decode code 484 = .ok (.aload_n 3, 1) := by decide +kernel
theorem d_law_485 : decode code 485 = .ok (.invokestatic 72, 3) := by decide +kernel
theorem d_law_488 : decode code 488 = .ok (.istore 5, 2) := by decide +kernel
theorem d_law_490 : decode code 490 = .ok (.aload_n 2, 1) := by decide +kernel
theorem d_law_491 : decode code 491 = .ok (.aload_n 0, 1) := by decide +kernel
theorem d_law_492 : decode code 492 = .ok (.iload 4, 2) := by decide +kernel
theorem d_law_494 : decode code 494 = .ok (.iconst 1, 1) := by decide +kernel
theorem d_law_495 : decode code 495 = .ok (.iadd, 1) := by decide +kernel
theorem d_law_496 : decode code 496 = .ok (.iaload, 1) := by decide +kernel
theorem d_law_497 : decode code 497 = .ok (.aload_n 0, 1) := by decide +kernel
theorem d_law_498 : decode code 498 = .ok (.iload 4, 2) := by decide +kernel
theorem d_law_500 : decode code 500 = .ok (.iconst 2, 1) := by decide +kernel
theorem d_law_501 : decode code 501 = .ok (.iadd, 1) := by decide +kernel
theorem d_law_502 : decode code 502 = .ok (.iaload, 1) := by decide +kernel
theorem d_law_503 : decode code 503 = .ok (.invokevirtual 74, 3) := by decide +kernel
theorem d_law_506 : decode code 506 = .ok (.lstore 6, 2) := by decide +kernel
theorem d_law_508 : decode code 508 = .ok (.aload_n 2, 1) := by decide +kernel
theorem d_law_509 : decode code 509 = .ok (.invokevirtual 47, 3) := by decide +kernel
theorem d_law_512 : decode code 512 = .ok (.iload 5, 2) := by decide +kernel
theorem d_law_514 : decode code 514 = .ok (.if_icmp .eq 5, 3) := by decide +kernel
theorem d_law_517 : decode code 517 = .ok (.iconst 0, 1) := by decide +kernel
theorem d_law_518 : decode code 518 = .ok (.ireturn, 1) := by decide +kernel
theorem d_law_519 : decode code 519 = .ok (.iload 5, 2) := by decide +kernel
theorem d_law_521 : decode code 521 = .ok (.ifCond .ne 14, 3) := by decide +kernel
theorem d_law_524 : decode code 524 = .ok (.aload_n 3, 1) := by decide +kernel
theorem d_law_525 : decode code 525 = .ok (.iconst 0, 1) := by decide +kernel
theorem d_law_526 : decode code 526 = .ok (.laload, 1) := by decide +kernel
theorem d_law_527 : decode code 527 = .ok (.lload 6, 2) := by decide +kernel
theorem d_law_529 : decode code 529 = .ok (.lcmp, 1) := by decide +kernel
theorem d_law_530 : decode code 530 = .ok (.ifCond .eq 5, 3) := by decide +kernel
theorem d_law_533 : decode code 533 = .ok (.iconst 0, 1) := by decide +kernel
theorem d_law_534 : decode code 534 = .ok (.ireturn, 1) := by decide +kernel
theorem d_law_535 : decode code 535 = .ok (.goto 3, 3) := by decide +kernel
theorem d_law_538 : decode code 538 = .ok (.iinc 4 5, 3) := by decide +kernel
theorem d_law_541 : decode code 541 = .ok (.goto (-518), 3) := by decide +kernel
theorem d_law_544 : decode code 544 = .ok (.iconst 1, 1) := by decide +kernel
theorem d_law_545 : decode code 545 = .ok (.ireturn, 1) := by decide +kernel
end
section
/-! our own rows over the kit's: numbers by nI, arrays by a number, new arrays of a known class -/
section KA
variable {p : Program} {l : Launch} {e : Env} {R : Room} {s : State} {m : MethodId} {args : Array Value} {below : List Frame} {meth : Method} {c : Code} {H : Heap} {locs : List Loc} {cells slots : Nat} {Q : State → Prop}
variable {cc : ByteArray} {pc : Nat} {ls : Array Slot} {rest : List Value} {D : va_G} {cl : List vw_C} {A : Nat → Prop} {a : Nat} {tys : List (ClassId × FieldType)} {ws : va_W} {H0 : Heap}
theorem kv_i {x y : Int32} (h : x = y) (k : W p l e R s m args below meth c H locs cells slots Q (F0 m pc ls (.int y :: rest))) : W p l e R s m args below meth c H locs cells slots Q (F0 m pc ls (.int x :: rest)) := h ▸ k
theorem kv_l {x y : Int64} (h : x = y) (k : W p l e R s m args below meth c H locs cells slots Q (F0 m pc ls (.long y :: rest))) : W p l e R s m args below meth c H locs cells slots Q (F0 m pc ls (.long x :: rest)) := h ▸ k
theorem kn_add (hx : p.tables.exec = Jvm.exec) (hb : c.code = cc) {a b : Nat} (hdg : decode cc pc = .ok (.iadd, 1)) (k : W p l e R s m args below meth c H locs cells slots Q (F0 m (pc + 1) ls (.int (nI (a + b)) :: rest))) : W p l e R s m args below meth c H locs cells slots Q (F0 m pc ls (.int (nI b) :: .int (nI a) :: rest)) := lv_iadd hx hb hdg (kv_i (nI_add a b) k)
theorem kn_mul (hx : p.tables.exec = Jvm.exec) (hb : c.code = cc) {a b : Nat} (hdg : decode cc pc = .ok (.imul, 1)) (k : W p l e R s m args below meth c H locs cells slots Q (F0 m (pc + 1) ls (.int (nI (a * b)) :: rest))) : W p l e R s m args below meth c H locs cells slots Q (F0 m pc ls (.int (nI b) :: .int (nI a) :: rest)) := lv_imul hx hb hdg (kv_i (pk_mul a b) k)
theorem kn_sub (hx : p.tables.exec = Jvm.exec) (hb : c.code = cc) {a b : Nat} (h : b ≤ a) (hdg : decode cc pc = .ok (.isub, 1)) (k : W p l e R s m args below meth c H locs cells slots Q (F0 m (pc + 1) ls (.int (nI (a - b)) :: rest))) : W p l e R s m args below meth c H locs cells slots Q (F0 m pc ls (.int (nI b) :: .int (nI a) :: rest)) := lv_isub hx hb hdg (kv_i (pk_sub h) k)
theorem kn_div (hx : p.tables.exec = Jvm.exec) (hb : c.code = cc) {a b : Nat} (h : a < 2 ^ 31) (h0 : 0 < b) (h2 : b < 2 ^ 31) (hdg : decode cc pc = .ok (.idiv, 1)) (k : W p l e R s m args below meth c H locs cells slots Q (F0 m (pc + 1) ls (.int (nI (a / b)) :: rest))) : W p l e R s m args below meth c H locs cells slots Q (F0 m pc ls (.int (nI b) :: .int (nI a) :: rest)) := lv_idiv hx hb hdg (nI_ne0 h0 h2) (kv_i (pk_div h h0 h2) k)
theorem kn_rem (hx : p.tables.exec = Jvm.exec) (hb : c.code = cc) {a b : Nat} (h : a < 2 ^ 31) (h0 : 0 < b) (h2 : b < 2 ^ 31) (hdg : decode cc pc = .ok (.irem, 1)) (k : W p l e R s m args below meth c H locs cells slots Q (F0 m (pc + 1) ls (.int (nI (a % b)) :: rest))) : W p l e R s m args below meth c H locs cells slots Q (F0 m pc ls (.int (nI b) :: .int (nI a) :: rest)) := lv_irem hx hb hdg (nI_ne0 h0 h2) (kv_i (pk_rem h h0 h2) k)
theorem kn_ge (hx : p.tables.exec = Jvm.exec) (hb : c.code = cc) {a b : Nat} (ha : a < 2 ^ 31) (hb' : b < 2 ^ 31) {off : Int} {tgt : Nat} (hdg : decode cc pc = .ok (.if_icmp .ge off, 3)) (ht : (pc : Int) + off = (tgt : Int))
    (kt : b ≤ a → W p l e R s m args below meth c H locs cells slots Q (F0 m tgt ls rest)) (kf : a < b → W p l e R s m args below meth c H locs cells slots Q (F0 m (pc + 3) ls rest)) : W p l e R s m args below meth c H locs cells slots Q (F0 m pc ls (.int (nI b) :: .int (nI a) :: rest)) :=
  lv_icmp_ge hx hb hdg ht (fun h => kt ((nI_leI hb' ha).mp h)) (fun h => kf (Nat.not_le.mp fun q => h ((nI_leI hb' ha).mpr q)))
theorem kn_le (hx : p.tables.exec = Jvm.exec) (hb : c.code = cc) {a b : Nat} (ha : a < 2 ^ 31) (hb' : b < 2 ^ 31) {off : Int} {tgt : Nat} (hdg : decode cc pc = .ok (.if_icmp .le off, 3)) (ht : (pc : Int) + off = (tgt : Int))
    (kt : a ≤ b → W p l e R s m args below meth c H locs cells slots Q (F0 m tgt ls rest)) (kf : b < a → W p l e R s m args below meth c H locs cells slots Q (F0 m (pc + 3) ls rest)) : W p l e R s m args below meth c H locs cells slots Q (F0 m pc ls (.int (nI b) :: .int (nI a) :: rest)) :=
  lv_icmp_le hx hb hdg ht (fun h => kt ((nI_leI ha hb').mp h)) (fun h => kf (Nat.not_le.mp fun q => h ((nI_leI ha hb').mpr q)))
theorem kn_iflt (hx : p.tables.exec = Jvm.exec) (hb : c.code = cc) {a : Nat} (ha : a < 2 ^ 31) {off : Int} {tgt : Nat} (hdg : decode cc pc = .ok (.ifCond .lt off, 3)) (ht : (pc : Int) + off = (tgt : Int))
    (kf : W p l e R s m args below meth c H locs cells slots Q (F0 m (pc + 3) ls rest)) : W p l e R s m args below meth c H locs cells slots Q (F0 m pc ls (.int (nI a) :: rest)) :=
  lv_if_lt hx hb hdg ht (fun h => absurd h (nI_pos ha)) (fun _ => kf)
theorem ka_lald (hx : p.tables.exec = Jvm.exec) (hb : c.code = cc) (hK : va_K D cl tys s) (hP : va_P D cl ws H) (q0 t0 : Nat) {cA : ClassId} {n : Nat} {f : Nat → Int64} (ha : ws[q0]? = some (a, .inl (cA, n, .inr (.inl f)))) (ht : tys[t0]? = some (cA, .long)) {i : Nat} (hi : i < n) (hn : n < 2 ^ 31) (hdg : decode cc pc = .ok (.laload, 1))
    (k : W p l e R s m args below meth c H locs cells slots Q (F0 m (pc + 1) ls (.long (f i) :: rest))) : W p l e R s m args below meth c H locs cells slots Q (F0 m pc ls (.int (nI i) :: .ref a :: rest)) :=
  va_lald hx hb hK hP q0 t0 ha ht (vp_in_nI hi hn) hdg (by rw [nI_clamp (Nat.lt_trans hi hn)]; exact k)
theorem ka_iald (hx : p.tables.exec = Jvm.exec) (hb : c.code = cc) (hK : va_K D cl tys s) (hP : va_P D cl ws H) (q0 t0 : Nat) {cA : ClassId} {n : Nat} {f : Nat → Int32} (ha : ws[q0]? = some (a, .inl (cA, n, .inl f))) (ht : tys[t0]? = some (cA, .int)) {i : Nat} (hi : i < n) (hn : n < 2 ^ 31) (hdg : decode cc pc = .ok (.iaload, 1))
    (k : W p l e R s m args below meth c H locs cells slots Q (F0 m (pc + 1) ls (.int (f i) :: rest))) : W p l e R s m args below meth c H locs cells slots Q (F0 m pc ls (.int (nI i) :: .ref a :: rest)) :=
  va_iald hx hb hK hP q0 t0 ha ht (vp_in_nI hi hn) hdg (by rw [nI_clamp (Nat.lt_trans hi hn)]; exact k)
theorem ka_last (hx : p.tables.exec = Jvm.exec) (hb : c.code = cc) (hK : va_K D cl tys s) (hP : va_P D cl ws H) (hD : va_D A ws) (hS : va_S A H0 H locs) (q0 t0 : Nat) {cA : ClassId} {n : Nat} {f : Nat → Int64} (ha : ws[q0]? = some (a, .inl (cA, n, .inr (.inl f)))) (ht : tys[t0]? = some (cA, .long)) {i : Nat} {x : Int64} (hi : i < n) (hn : n < 2 ^ 31) (hdg : decode cc pc = .ok (.lastore, 1))
    (kk : ∀ (H1 : Heap) (locs1 : List Loc), va_P D cl (ws.set q0 (a, .inl (cA, n, .inr (.inl (vp_updL f i x))))) H1 → va_D A (ws.set q0 (a, .inl (cA, n, .inr (.inl (vp_updL f i x))))) → va_S A H0 H1 locs1 → W p l e R s m args below meth c H1 locs1 cells slots Q (F0 m (pc + 1) ls rest)) : W p l e R s m args below meth c H locs cells slots Q (F0 m pc ls (.long x :: .int (nI i) :: .ref a :: rest)) :=
  va_last hx hb hK hP hD hS q0 t0 ha ht (vp_in_nI hi hn) hdg (by rw [nI_clamp (Nat.lt_trans hi hn)]; exact kk)
theorem ka_iast (hx : p.tables.exec = Jvm.exec) (hb : c.code = cc) (hK : va_K D cl tys s) (hP : va_P D cl ws H) (hD : va_D A ws) (hS : va_S A H0 H locs) (q0 t0 : Nat) {cA : ClassId} {n : Nat} {f : Nat → Int32} (ha : ws[q0]? = some (a, .inl (cA, n, .inl f))) (ht : tys[t0]? = some (cA, .int)) {i : Nat} {x : Int32} (hi : i < n) (hn : n < 2 ^ 31) (hdg : decode cc pc = .ok (.iastore, 1))
    (kk : ∀ (H1 : Heap) (locs1 : List Loc), va_P D cl (ws.set q0 (a, .inl (cA, n, .inl (upd f i x)))) H1 → va_D A (ws.set q0 (a, .inl (cA, n, .inl (upd f i x)))) → va_S A H0 H1 locs1 → W p l e R s m args below meth c H1 locs1 cells slots Q (F0 m (pc + 1) ls rest)) : W p l e R s m args below meth c H locs cells slots Q (F0 m pc ls (.int x :: .int (nI i) :: .ref a :: rest)) :=
  va_iast hx hb hK hP hD hS q0 t0 ha ht (vp_in_nI hi hn) hdg (by rw [nI_clamp (Nat.lt_trans hi hn)]; exact kk)
/-- aaload from an array of arrays of longs -/
theorem ka_aald (hx : p.tables.exec = Jvm.exec) (hb : c.code = cc) (hK : va_K D cl tys s) (hP : va_P D cl ws H) (q0 t0 : Nat) {cA : ClassId} {n : Nat} {f : Nat → Option Nat} (ha : ws[q0]? = some (a, .inl (cA, n, .inr (.inr (.inr (.inr f)))))) (ht : tys[t0]? = some (cA, .array .long)) {i q : Nat} (hi : i < n) (hn : n < 2 ^ 31) (hq : f i = some q) (hdg : decode cc pc = .ok (.aaload, 1))
    (k : W p l e R s m args below meth c H locs cells slots Q (F0 m (pc + 1) ls (.ref q :: rest))) : W p l e R s m args below meth c H locs cells slots Q (F0 m pc ls (.int (nI i) :: .ref a :: rest)) := by
  have hcl : (nI i).toNatClampNeg = i := nI_clamp (Nat.lt_trans hi hn)
  exact W.aald (v := .ref q) (ty := .array .long) hx hb (hP q0 _ ha) ((hK.2 t0 _ ht).1 n (fun j => va_rf (f j))) rfl (fun q => by cases q) (by show ¬ (nI i < 0 ∨ (arrV _ _ _).slots.size ≤ _); rw [arrV_size]; exact vp_in_nI hi hn) (by show (arrV _ _ _).slots[_]? = _; rw [hcl, arrV_read _ _ hi, hq]; rfl) rfl rfl hdg k
/-- newarray of longs or ints, whose class stands among the known ones -/
theorem ka_newJ (hx : p.tables.exec = Jvm.exec) (hb : c.code = cc) (harr : (Cond.arrayClass .long).before args s = true) (hK : va_K D cl tys s) (hP : va_P D cl ws H) (hD : va_D A ws) (hS : va_S A H0 H locs) (hA : ∀ q, H0.size ≤ q → A q) (t0 : Nat) {cJ : ClassId} (ht : tys[t0]? = some (cJ, .long)) {n : Nat} (hn : n ≤ 1000) (hc : cells + 1 ≤ R.cells) (hs : slots + n ≤ R.slots) (hdg : decode cc pc = .ok (.newarray .long, 2))
    (kk : ∀ (q : Nat) (H1 : Heap), va_P D cl (ws ++ [(q, .inl (cJ, (n, .inr (.inl (fun _ => 0)))))]) H1 → va_D A (ws ++ [(q, .inl (cJ, (n, .inr (.inl (fun _ => 0)))))]) → va_S A H0 H1 locs → W p l e R s m args below meth c H1 locs (cells + 1) (slots + n) Q (F0 m (pc + 2) ls (.ref q :: rest))) : W p l e R s m args below meth c H locs cells slots Q (F0 m pc ls (.int (nI n) :: rest)) := by
  refine va_newa (atype := .long) (N' := n) (a0 := (n, .inr (.inl (fun _ => 0)))) (ty := .long) hx hb harr rfl hK hP hD hS hA (fun cA => rfl) (nI_pos (by omega)) (nI_clamp (by omega)) (by show n * 8 ≤ _; omega) hc hs hdg (fun q cA H1 hK1 hP1 hD1 hS1 => ?_)
  have h1 : s.vm.findClass ("[" ++ FieldType.long.toString) = some cJ := (hK.2 t0 _ ht).2
  have h2 : s.vm.findClass ("[" ++ FieldType.long.toString) = some cA := (hK1.2 tys.length (cA, .long) (by simp)).2
  have hcc : cA = cJ := Option.some.inj (h2.symm.trans h1)
  subst hcc
  exact kk q H1 hP1 hD1 hS1
theorem ka_newI (hx : p.tables.exec = Jvm.exec) (hb : c.code = cc) (harr : (Cond.arrayClass .int).before args s = true) (hK : va_K D cl tys s) (hP : va_P D cl ws H) (hD : va_D A ws) (hS : va_S A H0 H locs) (hA : ∀ q, H0.size ≤ q → A q) (t0 : Nat) {cI : ClassId} (ht : tys[t0]? = some (cI, .int)) {n : Nat} (hn : n ≤ 1000) (hc : cells + 1 ≤ R.cells) (hs : slots + n ≤ R.slots) (hdg : decode cc pc = .ok (.newarray .int, 2))
    (kk : ∀ (q : Nat) (H1 : Heap), va_P D cl (ws ++ [(q, .inl (cI, (n, .inl (fun _ => 0))))]) H1 → va_D A (ws ++ [(q, .inl (cI, (n, .inl (fun _ => 0))))]) → va_S A H0 H1 locs → W p l e R s m args below meth c H1 locs (cells + 1) (slots + n) Q (F0 m (pc + 2) ls (.ref q :: rest))) : W p l e R s m args below meth c H locs cells slots Q (F0 m pc ls (.int (nI n) :: rest)) := by
  refine va_newa (atype := .int) (N' := n) (a0 := (n, .inl (fun _ => 0))) (ty := .int) hx hb harr rfl hK hP hD hS hA (fun cA => rfl) (nI_pos (by omega)) (nI_clamp (by omega)) (by show n * 4 ≤ _; omega) hc hs hdg (fun q cA H1 hK1 hP1 hD1 hS1 => ?_)
  have h1 : s.vm.findClass ("[" ++ FieldType.int.toString) = some cI := (hK.2 t0 _ ht).2
  have h2 : s.vm.findClass ("[" ++ FieldType.int.toString) = some cA := (hK1.2 tys.length (cA, .int) (by simp)).2
  have hcc : cA = cI := Option.some.inj (h2.symm.trans h1)
  subst hcc
  exact kk q H1 hP1 hD1 hS1
end KA
theorem ka_ext {cA : ClassId} {n : Nat} {f g : Nat → Int64} (h : ∀ j, j < n → f j = g j) : vp_cell cA (n, .inr (.inl f)) = vp_cell cA (n, .inr (.inl g)) := by
  simp only [vp_cell, arrV, Cell.mk.injEq, true_and, and_true]
  congr 1
  funext j
  rw [h j.val j.isLt]
theorem ka_extI {cA : ClassId} {n : Nat} {f g : Nat → Int32} (h : ∀ j, j < n → f j = g j) : vp_cell cA (n, .inl f) = vp_cell cA (n, .inl g) := by
  simp only [vp_cell, arrV, Cell.mk.injEq, true_and, and_true]
  congr 1
  funext j
  rw [h j.val j.isLt]
/-- the array at one place of a world may be told by any function that agrees with it -/
theorem ka_swap {D : va_G} {cl : List vw_C} {ws : va_W} {H : Heap} (hP : va_P D cl ws H) (q0 : Nat) {a : Nat} {cA : ClassId} {x y : vp_A} (ha : ws[q0]? = some (a, .inl (cA, x))) (h : vp_cell cA x = vp_cell cA y) : va_P D cl (ws.set q0 (a, .inl (cA, y))) H := by
  intro k q hk
  by_cases hkq : k = q0
  · subst hkq
    rw [List.getElem?_set_self (List.getElem?_eq_some_iff.mp ha).1] at hk
    cases hk
    have := hP k _ ha
    show H[a]? = some (vp_cell cA y)
    rw [← h]
    exact this
  · rw [List.getElem?_set_ne (Ne.symm hkq)] at hk
    exact hP k q hk
/-- what a walk has in hand at a point: its cells, that they are apart, and what has changed since the start -/
def kc_at (D : va_G) (A : Nat → Prop) (H0 H : Heap) (locs : List Loc) (ws : va_W) : Prop := va_P D kc_cl ws H ∧ va_D A ws ∧ va_S A H0 H locs
abbrev kc_ty (cJ cI cX : ClassId) : List (ClassId × FieldType) := [(cJ, .long), (cI, .int), (cX, .array .long)]
end
section
/-! the pure picture: the register, the path, the offsets (tables printed by gen06.py), the round, the sponge -/
def kc_lf (n : Nat) : Nat := ([1, 2, 4, 8, 16, 32, 64, 128, 113, 226, 181, 27, 54, 108, 216, 193, 243, 151, 95, 190, 13, 26, 52, 104, 208, 209, 211, 215, 223, 207, 239, 175, 47, 94, 188, 9, 18, 36, 72, 144, 81, 162, 53, 106, 212, 217, 195, 247, 159, 79, 158, 77, 154, 69, 138, 101, 202, 229, 187, 7, 14, 28, 56, 112, 224, 177, 19, 38, 76, 152, 65, 130, 117, 234, 165, 59, 118, 236, 169, 35, 70, 140, 105, 210, 213, 219, 199, 255, 143, 111, 222, 205, 235, 167, 63, 126, 252, 137, 99, 198, 253, 139, 103, 206, 237, 171, 39, 78, 156, 73, 146, 85, 170, 37, 74, 148, 89, 178, 21, 42, 84, 168, 33, 66, 132, 121, 242, 149, 91, 182, 29, 58, 116, 232, 161, 51, 102, 204, 233, 163, 55, 110, 220, 201, 227, 183, 31, 62, 124, 248, 129, 115, 230, 189, 11, 22, 44, 88, 176, 17, 34, 68, 136, 97, 194, 245, 155, 71, 142, 109] : List Nat).getD n 0
def kc_px (t : Nat) : Nat := ([1, 0, 2, 1, 2, 3, 3, 0, 1, 3, 1, 4, 4, 0, 3, 4, 3, 2, 2, 0, 4, 2, 4, 1, 1] : List Nat).getD t 0
def kc_py (t : Nat) : Nat := ([0, 2, 1, 2, 3, 3, 0, 1, 3, 1, 4, 4, 0, 3, 4, 3, 2, 2, 0, 4, 2, 4, 1, 1, 0] : List Nat).getD t 0
def kc_rho (c : Nat) : Nat := ([0, 1, 62, 28, 27, 36, 44, 6, 55, 20, 3, 10, 43, 25, 39, 41, 45, 15, 21, 8, 18, 2, 61, 56, 14] : List Nat).getD c 0
def kc_pos (c : Nat) : Nat := ([99, 0, 18, 6, 12, 7, 23, 2, 9, 22, 1, 3, 17, 16, 20, 13, 8, 4, 5, 15, 19, 10, 21, 14, 11] : List Nat).getD c 0
def kc_src (c : Nat) : Nat := (3 * (c / 5) + c % 5) % 5 + 5 * (c % 5)
theorem kc_lf_K : ∀ n, n < 168 → (nI (kc_lf n) <<< (nI 1 &&& 31)) ^^^ ((nI (kc_lf n) >>> (nI 7 &&& 31)) * nI 369) = nI (kc_lf (n + 1)) := by decide +kernel
theorem kc_lf_M : ∀ n, n < 168 → (if ((nI (kc_lf n) <<< (nI 1 &&& 31)) &&& nI 256) = 0 then nI (kc_lf n) <<< (nI 1 &&& 31) else (nI (kc_lf n) <<< (nI 1 &&& 31)) ^^^ nI 369) &&& nI 255 = nI (kc_lf (n + 1)) := by decide +kernel
theorem kc_lf_b : ∀ n, n < 168 → nI (kc_lf n) &&& nI 1 = nI (kc_lf n % 2) := by decide +kernel
theorem kc_path : ∀ t, t < 24 → kc_px (t + 1) = kc_py t ∧ kc_py (t + 1) = (2 * kc_px t + 3 * kc_py t) % 5 ∧ kc_px t < 5 ∧ kc_py t < 5 ∧ (t + 1) * (t + 2) / 2 % 64 = kc_rho (kc_px t + 5 * kc_py t) ∧ kc_px t + 5 * kc_py t ≠ 0 := by decide +kernel
theorem kc_path_c : ∀ t, t < 24 → ∀ c, c < 25 → kc_pos c < t + 1 → kc_pos c < t ∨ c = kc_px t + 5 * kc_py t := by decide +kernel
theorem kc_path_d : ∀ t, t < 24 → ∀ c, c < 25 → kc_pos (kc_src c) < t + 1 → kc_pos (kc_src c) < t ∨ c = 5 * kc_py (t + 1) + kc_py t := by decide +kernel
theorem kc_path_e : ∀ t, t < 24 → kc_src (5 * kc_py (t + 1) + kc_py t) = 5 * kc_py t + kc_px t ∧ kc_py (t + 1) < 5 ∧ 5 * kc_py (t + 1) + kc_py t ≠ 0 := by decide +kernel
theorem kc_path_z : ∀ c, c < 25 → c = 0 ∨ (kc_pos c < 24 ∧ kc_pos (kc_src c) < 24) := by decide +kernel
theorem kc_src_lt : ∀ c, c < 25 → kc_src c < 25 := by decide +kernel
theorem kc_src_xy : ∀ x, x < 5 → ∀ y, y < 5 → kc_src (y + 5 * ((2 * x + 3 * y) % 5)) = x + 5 * y ∧ y + 5 * ((2 * x + 3 * y) % 5) < 25 := by decide +kernel
theorem kc_rho_lt : ∀ c, c < 25 → kc_rho c < 64 := by decide +kernel
/-- which target cells are written by then, in the component's double loop -/
theorem kc_src_in : ∀ c, c < 25 → kc_src c % 5 < 5 ∧ kc_src c / 5 < 5 ∧ c = kc_src c / 5 + 5 * ((2 * (kc_src c % 5) + 3 * (kc_src c / 5)) % 5) := by decide +kernel
def kc_rl (x : Int64) (n : Int32) : Int64 := (x <<< (n.toInt64 &&& 63)) ||| (x.toUInt64 >>> ((-n).toInt64.toUInt64 &&& Int64.toUInt64 63)).toInt64
theorem kc_rl_amt : ∀ k, k < 64 → 0 < k → (nI 64 - nI k).toInt64.toUInt64 &&& Int64.toUInt64 63 = (-nI k).toInt64.toUInt64 &&& Int64.toUInt64 63 := by decide +kernel
theorem kc_rl_0 (x : Int64) : kc_rl x (nI 0) = x := by
  have h1 : (nI 0).toInt64 &&& 63 = 0 := by decide +kernel
  have h2 : (-nI 0).toInt64.toUInt64 &&& Int64.toUInt64 63 = 0 := by decide +kernel
  unfold kc_rl
  rw [h1, h2]
  have e1 : x <<< (0 : Int64) = x := by
    apply Int64.toBitVec_inj.mp
    simp
  have e2 : (x.toUInt64 >>> (0 : UInt64)).toInt64 = x := by
    apply Int64.toBitVec_inj.mp
    simp
  rw [e1, e2]
  apply Int64.toBitVec_inj.mp
  simp
def kc_bit (k : Nat) : Int64 := (1 : Int64) <<< (((nI 1 <<< (nI k &&& 31)) - nI 1).toInt64 &&& 63)
def kc_P (i : Nat) : Nat → Int64
  | 0 => 0
  | k + 1 => if kc_lf (7 * i + k) % 2 = 1 then kc_P i k ||| kc_bit k else kc_P i k
/-- the round's constant; the rotations -/
def kc_R (i : Nat) : Int64 := kc_P i 7
def kc_T (c : Nat) : Int32 := nI (kc_rho c)
def kc_Cc (a : Nat → Int64) (x : Nat) : Int64 := a x ^^^ a (x + 5) ^^^ a (x + 10) ^^^ a (x + 15) ^^^ a (x + 20)
def kc_D (a : Nat → Int64) (x : Nat) : Int64 := kc_Cc a ((x + 4) % 5) ^^^ kc_rl (kc_Cc a ((x + 1) % 5)) (nI 1)
def kc_Bb (a : Nat → Int64) (c : Nat) : Int64 := a c ^^^ kc_D a (c % 5)
def kc_Mm (a : Nat → Int64) (c : Nat) : Int64 := kc_rl (kc_Bb a (kc_src c)) (nI (kc_rho (kc_src c)))
def kc_E (a : Nat → Int64) (c : Nat) : Int64 := kc_Mm a c ^^^ ((kc_Mm a (5 * (c / 5) + (c % 5 + 1) % 5) ^^^ (-1)) &&& kc_Mm a (5 * (c / 5) + (c % 5 + 2) % 5))
def kc_round (rc : Int64) (a : Nat → Int64) (c : Nat) : Int64 := if c = 0 then kc_E a 0 ^^^ rc else kc_E a c
def kc_perm : Nat → (Nat → Int64) → (Nat → Int64)
  | 0, a => a
  | i + 1, a => kc_round (kc_R i) (kc_perm i a)
def kc_eq (a b : Nat → Int64) : Prop := ∀ c, c < 25 → a c = b c
theorem kc_eq_C {a b : Nat → Int64} (h : kc_eq a b) {x : Nat} (hx : x < 5) : kc_Cc a x = kc_Cc b x := by
  unfold kc_Cc
  rw [h x (by omega), h (x + 5) (by omega), h (x + 10) (by omega), h (x + 15) (by omega), h (x + 20) (by omega)]
theorem kc_eq_D {a b : Nat → Int64} (h : kc_eq a b) {x : Nat} : kc_D a x = kc_D b x := by
  unfold kc_D
  rw [kc_eq_C h (x := (x + 4) % 5) (by omega), kc_eq_C h (x := (x + 1) % 5) (by omega)]
theorem kc_eq_B {a b : Nat → Int64} (h : kc_eq a b) {c : Nat} (hc : c < 25) : kc_Bb a c = kc_Bb b c := by
  unfold kc_Bb
  rw [h c hc, kc_eq_D h]
theorem kc_eq_M {a b : Nat → Int64} (h : kc_eq a b) {c : Nat} (hc : c < 25) : kc_Mm a c = kc_Mm b c := by
  unfold kc_Mm
  rw [kc_eq_B h (kc_src_lt c hc)]
theorem kc_eq_E {a b : Nat → Int64} (h : kc_eq a b) {c : Nat} (hc : c < 25) : kc_E a c = kc_E b c := by
  unfold kc_E
  rw [kc_eq_M h hc, kc_eq_M h (c := 5 * (c / 5) + (c % 5 + 1) % 5) (by omega), kc_eq_M h (c := 5 * (c / 5) + (c % 5 + 2) % 5) (by omega)]
theorem kc_eq_round {a b : Nat → Int64} (h : kc_eq a b) (rc : Int64) : kc_eq (kc_round rc a) (kc_round rc b) := by
  intro c hc
  unfold kc_round
  rw [kc_eq_E h hc, kc_eq_E h (c := 0) (by omega)]
theorem kc_eq_perm {a b : Nat → Int64} (h : kc_eq a b) : ∀ n, kc_eq (kc_perm n a) (kc_perm n b)
  | 0 => h
  | n + 1 => kc_eq_round (kc_eq_perm h n) _
theorem kc_eq.symm {a b : Nat → Int64} (h : kc_eq a b) : kc_eq b a := fun c hc => (h c hc).symm
theorem kc_eq.trans {a b d : Nat → Int64} (h : kc_eq a b) (h2 : kc_eq b d) : kc_eq a d := fun c hc => (h c hc).trans (h2 c hc)
theorem kc_eq.rf {a : Nat → Int64} : kc_eq a a := fun _ _ => rfl
/-- one byte goes in at place p -/
def kc_byte (a : Nat → Int64) (p : Nat) (v : Int64) : Nat → Int64 := fun c => if c = p / 8 then a c ^^^ (v <<< ((nI (8 * (p % 8))).toInt64 &&& 63)) else a c
theorem kc_eq_byte {a b : Nat → Int64} (h : kc_eq a b) (p : Nat) (v : Int64) : kc_eq (kc_byte a p v) (kc_byte b p v) := by
  intro c hc
  unfold kc_byte
  rw [h c hc]
abbrev kc_st : Type := (Nat → Int64) × Nat
def kc_put (q : kc_st) (v : Int64) : kc_st := if q.2 + 1 < 136 then (kc_byte q.1 q.2 v, q.2 + 1) else (kc_perm 24 (kc_byte q.1 q.2 v), 0)
def kc_steps (vs : Nat → Int64) : Nat → kc_st → kc_st
  | 0, q => q
  | n + 1, q => kc_put (kc_steps vs n q) (vs n)
def kc_same (q r : kc_st) : Prop := kc_eq q.1 r.1 ∧ q.2 = r.2
theorem kc_same_put {q r : kc_st} (h : kc_same q r) (v : Int64) : kc_same (kc_put q v) (kc_put r v) := by
  obtain ⟨h1, h2⟩ := h
  unfold kc_put
  rw [h2]
  split
  · exact ⟨kc_eq_byte h1 _ _, rfl⟩
  · exact ⟨kc_eq_perm (kc_eq_byte h1 _ _) _, rfl⟩
theorem kc_same_steps {q r : kc_st} (h : kc_same q r) (vs : Nat → Int64) : ∀ n, kc_same (kc_steps vs n q) (kc_steps vs n r)
  | 0 => h
  | n + 1 => kc_same_put (kc_same_steps h vs n) _
theorem kc_put_lt {q : kc_st} (v : Int64) : (kc_put q v).2 < 136 := by
  unfold kc_put
  split
  · assumption
  · show 0 < 136; decide
theorem kc_steps_lt {q : kc_st} (h : q.2 < 136) (vs : Nat → Int64) : ∀ n, (kc_steps vs n q).2 < 136
  | 0 => h
  | n + 1 => kc_put_lt _
/-- a digest's padding; its bytes turned about -/
def kc_pad (a : Nat → Int64) (p : Nat) : Nat → Int64 := fun c => if c = 16 then kc_byte a p 1 c ^^^ (-9223372036854775808) else kc_byte a p 1 c
theorem kc_eq_pad {a b : Nat → Int64} (h : kc_eq a b) (p : Nat) : kc_eq (kc_pad a p) (kc_pad b p) := by
  intro c hc
  unfold kc_pad
  rw [kc_eq_byte h p 1 c hc]
def kc_dig (x : Int64) : Nat → Int64
  | 0 => 0
  | i + 1 => (kc_dig x i <<< ((nI 8).toInt64 &&& 63)) ||| ((x.toUInt64 >>> ((nI (8 * i)).toInt64.toUInt64 &&& Int64.toUInt64 63)).toInt64 &&& 255)
end
section
/-! worlds of the component and of the model; contracts over a world; entering, returning, calling -/
abbrev kc_C (h : Nat → Nat) (cJ cI : ClassId) (P : Nat → Int32) (L N S : Nat → Int64) : va_W := [(h 0, .inr (0, [.ref (h 2), .ref (h 3), .ref (h 1)])), (h 1, .inl (cI, (9, .inl P))), (h 2, .inr (1, [.ref (h 4), .ref (h 5), .ref (h 6), .ref (h 7)])), (h 3, .inl (cJ, (225, .inr (.inl L)))), (h 4, .inl (cJ, (24, .inr (.inl kc_R)))), (h 5, .inl (cI, (25, .inl kc_T))), (h 6, .inl (cJ, (25, .inr (.inl N)))), (h 7, .inl (cJ, (5, .inr (.inl S))))]
abbrev kc_rows (h : Nat → Nat) (cJ : ClassId) (M : Nat → Nat → Int64) : va_W := [(h 7, .inl (cJ, (25, .inr (.inl (M 0))))), (h 8, .inl (cJ, (25, .inr (.inl (M 1))))), (h 9, .inl (cJ, (25, .inr (.inl (M 2))))), (h 10, .inl (cJ, (25, .inr (.inl (M 3))))), (h 11, .inl (cJ, (25, .inr (.inl (M 4))))), (h 12, .inl (cJ, (25, .inr (.inl (M 5))))), (h 13, .inl (cJ, (25, .inr (.inl (M 6))))), (h 14, .inl (cJ, (25, .inr (.inl (M 7)))))]
abbrev kc_Mw (h : Nat → Nat) (cJ cI cX : ClassId) (fl : Int32) (P : Nat → Int32) (La Co Mv : Nat → Int64) (M : Nat → Nat → Int64) : va_W := (h 0, .inr (2, [.int fl, .ref (h 1), .ref (h 2), .ref (h 3), .ref (h 4), .ref (h 5), .ref (h 6)])) :: (h 1, .inl (cX, (8, .inr (.inr (.inr (.inr (fun i => some (h (7 + i))))))))) :: (h 2, .inl (cI, (8, .inl P))) :: (h 3, .inl (cJ, (25, .inr (.inl La)))) :: (h 4, .inl (cJ, (5, .inr (.inl Co)))) :: (h 5, .inl (cJ, (25, .inr (.inl Mv)))) :: (h 6, .inl (cJ, (24, .inr (.inl kc_R)))) :: kc_rows h cJ M
/-- a row of the model by its number -/
theorem kc_row_at (h : Nat → Nat) (cJ cI cX : ClassId) (fl : Int32) (P : Nat → Int32) (La Co Mv : Nat → Int64) (M : Nat → Nat → Int64) {j : Nat} (hj : j < 8) : (kc_Mw h cJ cI cX fl P La Co Mv M)[7 + j]? = some (h (7 + j), .inl (cJ, (25, .inr (.inl (M j))))) := by
  rcases j with _ | _ | _ | _ | _ | _ | _ | _ | j <;> first | rfl | omega
theorem kc_row_set (h : Nat → Nat) (cJ cI cX : ClassId) (fl : Int32) (P : Nat → Int32) (La Co Mv : Nat → Int64) (M : Nat → Nat → Int64) {j : Nat} (hj : j < 8) (g : Nat → Int64) : (kc_Mw h cJ cI cX fl P La Co Mv M).set (7 + j) (h (7 + j), .inl (cJ, (25, .inr (.inl g)))) = kc_Mw h cJ cI cX fl P La Co Mv (va_up M j g) := by
  rcases j with _ | _ | _ | _ | _ | _ | _ | _ | j <;> first | rfl | omega
def kc_pre (D : va_G) (tys : List (ClassId × FieldType)) (ws : va_W) (sz : Nat) (U : State) : Prop := U.heap.size = sz ∧ va_P D kc_cl ws U.heap ∧ va_K D kc_cl tys U ∧ va_D (fun _ => True) ws
def kc_post (D : va_G) (A : Nat → Prop) (ws : va_W) (t : State) : Prop := va_P D kc_cl ws t.heap ∧ va_D A ws
theorem kc_blind {av : List Value} {D : va_G} {tys : List (ClassId × FieldType)} {ws : va_W} {sz : Nat} : FrameBlind (va_Pc av (kc_pre D tys ws sz)) := fun a U g mk q => ⟨q.1, q.2.1, q.2.2.1, va_K.moved (u := U) (U := U.calling g mk a) (Vm.Alike.refl U.vm) q.2.2.2.1, q.2.2.2.2⟩
theorem kc_toPre {s : State} {H : Heap} {A : Nat → Prop} {D : va_G} {tys : List (ClassId × FieldType)} {ws : va_W} (hK : va_K D kc_cl tys s) (hP : va_P D kc_cl ws H) (hD : va_D A ws) : ∀ U : State, U.heap = H → s.WarmedH U.vm → kc_pre D tys ws H.size U := fun U hU hW => ⟨by rw [hU], by rw [hU]; exact hP, va_K.moved hW.alike hK, hD.weaken (fun _ _ _ _ => trivial)⟩
theorem kc_free {A : Nat → Prop} {ws : va_W} {H0 H : Heap} {locs : List Loc} (hD : va_D A ws) (hS : va_S A H0 H locs) (hA : ∀ q, H0.size ≤ q → A q) : ∀ q, va_A ws H.size q → A q := by
  intro q h
  rcases h with ⟨k, e, h⟩ | h
  · exact hD.2 k (q, e) h
  · exact hA q (Nat.le_trans hS.1 h)
theorem kc_at_r {wr ws : va_W} {k : Nat} {q : Nat × va_E} (h : ws[k]? = some q) : (wr ++ ws)[wr.length + k]? = some q := by
  rw [List.getElem?_append_right (by omega), Nat.add_sub_cancel_left]
  exact h
theorem kc_at_l {wr ws : va_W} {k : Nat} {q : Nat × va_E} (h : wr[k]? = some q) : (wr ++ ws)[k]? = some q := by
  rw [List.getElem?_append_left (List.getElem?_eq_some_iff.mp h).1]
  exact h
theorem kc_P_r {D : va_G} {cl : List vw_C} {wr ws : va_W} {H : Heap} (h : va_P D cl (wr ++ ws) H) : va_P D cl ws H := fun _ _ hk => h _ _ (kc_at_r hk)
theorem kc_P_l {D : va_G} {cl : List vw_C} {wr ws : va_W} {H : Heap} (h : va_P D cl (wr ++ ws) H) : va_P D cl wr H := fun _ _ hk => h _ _ (kc_at_l hk)
theorem kc_D_r {A : Nat → Prop} {wr ws : va_W} (h : va_D A (wr ++ ws)) : va_D A ws := ⟨fun i j p q hi hj e => by have := h.1 _ _ p q (kc_at_r (wr := wr) hi) (kc_at_r (wr := wr) hj) e; omega, fun _ _ hk => h.2 _ _ (kc_at_r (wr := wr) hk)⟩
theorem kc_D_l {A : Nat → Prop} {wr ws : va_W} (h : va_D A (wr ++ ws)) : va_D A wr := ⟨fun i j p q hi hj e => h.1 _ _ p q (kc_at_l hi) (kc_at_l hj) e, fun _ _ hk => h.2 _ _ (kc_at_l hk)⟩
theorem kc_D_x {A : Nat → Prop} {wr ws : va_W} (h : va_D A (wr ++ ws)) {i j : Nat} {p q : Nat × va_E} (hi : wr[i]? = some p) (hj : ws[j]? = some q) : p.1 ≠ q.1 := fun e => by
  have := h.1 _ _ p q (kc_at_l (ws := ws) hi) (kc_at_r (wr := wr) hj) e
  have := (List.getElem?_eq_some_iff.mp hi).1
  omega
/-- the frame rule: a callee has the cells ws; the rest wr is as it was -/
theorem kc_joinR {A0 : Nat → Prop} {D : va_G} {cl : List vw_C} {wr ws w1 : va_W} {H H1 : Heap} (hP : va_P D cl (wr ++ ws) H) (hD : va_D A0 (wr ++ ws)) (hk : ∀ q : Nat, q < H.size → ¬ va_A ws H.size q → H1[q]? = H[q]?) (hF : ∀ q, va_A ws H.size q → A0 q) (hP1 : va_P D cl w1 H1) (hD1 : va_D (va_A ws H.size) w1) : va_P D cl (wr ++ w1) H1 ∧ va_D A0 (wr ++ w1) := by
  have apart : ∀ (k : Nat) (q : Nat × va_E), wr[k]? = some q → q.1 < H.size ∧ ¬ va_A ws H.size q.1 := by
    intro k q hq
    have hl := (hP k q (kc_at_l hq)).lt
    refine ⟨hl, fun h => ?_⟩
    rcases h with ⟨k2, e, h⟩ | h
    · exact kc_D_x hD hq h rfl
    · omega
  refine ⟨va_P.app (fun k q hq => ?_) hP1, va_D.app (kc_D_l hD) (hD1.weaken (fun k q _ h => hF q.1 h)) (fun i j x y hx hy hxy => ?_)⟩
  · obtain ⟨g1, g2⟩ := apart k q hq
    exact (hP k q (kc_at_l hq)).kept (hk q.1 g1 g2)
  · exact (apart i x hx).2 (by rw [hxy]; exact hD1.2 j y hy)
/-- contracts: from the cells ws (heap of sz cells) to the cells ws1 u; void, int, long -/
abbrev kc_Mv (l : Launch) (y : MethodName) (w : List Cond) (rm : Room) (av : List Value) (D : va_G) (tys : List (ClassId × FieldType)) (ws : va_W) (sz : Nat) {S : Type} (post : S → Prop) (ws1 : S → va_W) (mc ms : Nat) : Prop := Met l y w rm (va_Pc av (kc_pre D tys ws sz)) (va_Qv post (fun u t => kc_post D (va_A ws sz) (ws1 u) t) (va_A ws sz)) mc ms (va_A ws sz)
abbrev kc_Mi (l : Launch) (y : MethodName) (w : List Cond) (rm : Room) (av : List Value) (D : va_G) (tys : List (ClassId × FieldType)) (ws : va_W) (sz : Nat) {S : Type} (post : Int32 → S → Prop) (ws1 : S → va_W) (mc ms : Nat) : Prop := Met l y w rm (va_Pc av (kc_pre D tys ws sz)) (va_Qi post (fun u t => kc_post D (va_A ws sz) (ws1 u) t) (va_A ws sz)) mc ms (va_A ws sz)
abbrev kc_Ml (l : Launch) (y : MethodName) (w : List Cond) (rm : Room) (av : List Value) (D : va_G) (tys : List (ClassId × FieldType)) (ws : va_W) (sz : Nat) {S : Type} (post : Int64 → S → Prop) (ws1 : S → va_W) (mc ms : Nat) : Prop := Met l y w rm (va_Pc av (kc_pre D tys ws sz)) (va_Ql post (fun u t => kc_post D (va_A ws sz) (ws1 u) t) (va_A ws sz)) mc ms (va_A ws sz)
theorem kc_tail {cd : Cond} {args : Array Value} {s : State} (h : (allAtoms (cd :: kc_tbl)).before args s = true) : ∀ w ∈ kc_tbl, w.before args s = true := fun w hw => atoms_spec (ws := cd :: kc_tbl) h w (List.mem_cons_of_mem _ hw)
theorem kc_ofW {l : Launch} {y : MethodName} {rm : Room} {av : List Value} {D : va_G} {tys : List (ClassId × FieldType)} {ws : va_W} {sz : Nat} {QA : (Nat → Prop) → Array Value → State → Outcome → State → Prop} {mc ms : Nat} {cc : ByteArray} {maxL : Nat} {ret : Option FieldType} {w : List Cond} (hy : plainName y.cls = true) (hw : w = Cond.code y cc maxL ret :: kc_tbl) (hlen : (lg_sl av).length ≤ maxL)
    (body : ∀ (p : Program) (e : Env) (s : State) (m : MethodId) (below : List Frame) (meth : Method) (c : Code) (A : Nat → Prop) (ls : Array Slot), CallFix p m c cc maxL s av.toArray kc_tbl y.cls → meth.sig.returnType = ret → meth.locks = false → meth.name = y.name → va_K D kc_cl tys s → va_P D kc_cl ws s.heap → va_D A ws → (∀ q, s.heap.size ≤ q → A q) → lv_has ls maxL (lv_args 0 av) → sz = s.heap.size →
      W p l e rm s m av.toArray below meth c s.heap [] 0 0 (MQ below (QA A) av.toArray s mc ms A) (F0 m 0 ls [])) : Met l y w rm (va_Pc av (kc_pre D tys ws sz)) (QA (va_A ws sz)) mc ms (va_A ws sz) := by
  refine Met.ofW (cc := cc) (maxL := maxL) (ret := ret) hy hw ?_
  intro p e s m args below meth c s₁ B hml hv
  subst hw
  obtain ⟨rfl, hsz, hP, hK, hD0⟩ := hv
  subst hsz
  rw [lg_entry_eq]
  exact body p e s m below meth c (va_A ws s.heap.size) _ ⟨B.exec, B.bytes, hml, findClass_of_methodNamed B.named, kc_tail B.pre⟩ B.returns B.notSynchronized (name_of_methodNamed B.named B.method).1 hK hP hD0.self (fun q h => Or.inr h) (lv_entry av hlen) rfl
theorem kc_ofWv {l : Launch} {y : MethodName} {rm : Room} {av : List Value} {D : va_G} {tys : List (ClassId × FieldType)} {ws : va_W} {sz : Nat} {S : Type} {post : S → Prop} {ws1 : S → va_W} {mc ms : Nat} {cc : ByteArray} {maxL : Nat} {w : List Cond} (hy : plainName y.cls = true) (hw : w = Cond.code y cc maxL none :: kc_tbl) (hlen : (lg_sl av).length ≤ maxL)
    (body : ∀ (p : Program) (e : Env) (s : State) (m : MethodId) (below : List Frame) (meth : Method) (c : Code) (A : Nat → Prop) (ls : Array Slot), CallFix p m c cc maxL s av.toArray kc_tbl y.cls → meth.sig.returnType = none → meth.locks = false → meth.name = y.name → va_K D kc_cl tys s → va_P D kc_cl ws s.heap → va_D A ws → (∀ q, s.heap.size ≤ q → A q) → lv_has ls maxL (lv_args 0 av) → sz = s.heap.size →
      W p l e rm s m av.toArray below meth c s.heap [] 0 0 (MQ below (va_Qv post (fun u t => kc_post D A (ws1 u) t) A) av.toArray s mc ms A) (F0 m 0 ls [])) : kc_Mv l y w rm av D tys ws sz post ws1 mc ms :=
  kc_ofW (QA := fun A => va_Qv post (fun u t => kc_post D A (ws1 u) t) A) hy hw hlen body
theorem kc_ofWi {l : Launch} {y : MethodName} {rm : Room} {av : List Value} {D : va_G} {tys : List (ClassId × FieldType)} {ws : va_W} {sz : Nat} {S : Type} {post : Int32 → S → Prop} {ws1 : S → va_W} {mc ms : Nat} {cc : ByteArray} {maxL : Nat} {ret : Option FieldType} {w : List Cond} (hy : plainName y.cls = true) (hw : w = Cond.code y cc maxL ret :: kc_tbl) (hlen : (lg_sl av).length ≤ maxL)
    (body : ∀ (p : Program) (e : Env) (s : State) (m : MethodId) (below : List Frame) (meth : Method) (c : Code) (A : Nat → Prop) (ls : Array Slot), CallFix p m c cc maxL s av.toArray kc_tbl y.cls → meth.sig.returnType = ret → meth.locks = false → meth.name = y.name → va_K D kc_cl tys s → va_P D kc_cl ws s.heap → va_D A ws → (∀ q, s.heap.size ≤ q → A q) → lv_has ls maxL (lv_args 0 av) → sz = s.heap.size →
      W p l e rm s m av.toArray below meth c s.heap [] 0 0 (MQ below (va_Qi post (fun u t => kc_post D A (ws1 u) t) A) av.toArray s mc ms A) (F0 m 0 ls [])) : kc_Mi l y w rm av D tys ws sz post ws1 mc ms :=
  kc_ofW (QA := fun A => va_Qi post (fun u t => kc_post D A (ws1 u) t) A) hy hw hlen body
theorem kc_ofWl {l : Launch} {y : MethodName} {rm : Room} {av : List Value} {D : va_G} {tys : List (ClassId × FieldType)} {ws : va_W} {sz : Nat} {S : Type} {post : Int64 → S → Prop} {ws1 : S → va_W} {mc ms : Nat} {cc : ByteArray} {maxL : Nat} {ret : Option FieldType} {w : List Cond} (hy : plainName y.cls = true) (hw : w = Cond.code y cc maxL ret :: kc_tbl) (hlen : (lg_sl av).length ≤ maxL)
    (body : ∀ (p : Program) (e : Env) (s : State) (m : MethodId) (below : List Frame) (meth : Method) (c : Code) (A : Nat → Prop) (ls : Array Slot), CallFix p m c cc maxL s av.toArray kc_tbl y.cls → meth.sig.returnType = ret → meth.locks = false → meth.name = y.name → va_K D kc_cl tys s → va_P D kc_cl ws s.heap → va_D A ws → (∀ q, s.heap.size ≤ q → A q) → lv_has ls maxL (lv_args 0 av) → sz = s.heap.size →
      W p l e rm s m av.toArray below meth c s.heap [] 0 0 (MQ below (va_Ql post (fun u t => kc_post D A (ws1 u) t) A) av.toArray s mc ms A) (F0 m 0 ls [])) : kc_Ml l y w rm av D tys ws sz post ws1 mc ms :=
  kc_ofW (QA := fun A => va_Ql post (fun u t => kc_post D A (ws1 u) t) A) hy hw hlen body
/-- a pure static method: no cell is read or written -/
theorem kc_ofWp {l : Launch} {y : MethodName} {rm : Room} {av : List Value} {Qc : Array Value → State → Outcome → State → Prop} {cc : ByteArray} {maxL : Nat} {ret : Option FieldType} {w : List Cond} (hy : plainName y.cls = true) (hw : w = Cond.code y cc maxL ret :: kc_tbl) (hlen : (lg_sl av).length ≤ maxL)
    (body : ∀ (p : Program) (e : Env) (s : State) (m : MethodId) (below : List Frame) (meth : Method) (c : Code) (ls : Array Slot), CallFix p m c cc maxL s av.toArray kc_tbl y.cls → meth.sig.returnType = ret → meth.locks = false → lv_has ls maxL (lv_args 0 av) →
      W p l e rm s m av.toArray below meth c s.heap [] 0 0 (MQ below Qc av.toArray s 0 0 (fun _ => False)) (F0 m 0 ls [])) : Met l y w rm (va_Pc av (fun _ => True)) Qc 0 0 (fun _ => False) := by
  refine Met.ofW (cc := cc) (maxL := maxL) (ret := ret) hy hw ?_
  intro p e s m args below meth c s₁ B hml hv
  subst hw
  obtain ⟨rfl, -⟩ := hv
  rw [lg_entry_eq]
  exact body p e s m below meth c _ ⟨B.exec, B.bytes, hml, findClass_of_methodNamed B.named, kc_tail B.pre⟩ B.returns B.notSynchronized (lv_entry av hlen)
section KC
variable {p : Program} {l : Launch} {e : Env} {R : Room} {s : State} {m : MethodId} {args : Array Value} {below : List Frame} {meth : Method} {c : Code} {H H0 : Heap} {locs : List Loc} {cells slots : Nat} {Q : State → Prop}
variable {cc : ByteArray} {pc : Nat} {ls : Array Slot} {rest st0 : List Value} {D : va_G} {A : Nat → Prop} {a : Nat} {tys : List (ClassId × FieldType)} {ws wr : va_W}
theorem kc_vret {S : Type} {post : S → Prop} {ws1 : S → va_W} (hx : p.tables.exec = Jvm.exec) (hb : c.code = cc) (hr : meth.sig.returnType = none) (hlk : meth.locks = false) (u : S) (hp : post u) (hP : va_P D kc_cl (ws1 u) H) (hD : va_D A (ws1 u)) (hS : va_S A s.heap H locs) (hdg : decode cc pc = .ok (.return_, 1)) : W p l e R s m args below meth c H locs cells slots (MQ below (va_Qv post (fun u t => kc_post D A (ws1 u) t) A) args s cells slots A) (F0 m pc ls []) :=
  W.vret hx hb hr (fun t ht _ => ⟨⟨u, rfl, hp, by rw [ht]; exact hP, hD⟩, hS.F ht⟩) hS.2.2 hdg hlk
theorem kc_iret {S : Type} {post : Int32 → S → Prop} {ws1 : S → va_W} {v : Int32} (hx : p.tables.exec = Jvm.exec) (hb : c.code = cc) (hr : meth.sig.returnType = some .int) (hlk : meth.locks = false) (u : S) (hp : post v u) (hP : va_P D kc_cl (ws1 u) H) (hD : va_D A (ws1 u)) (hS : va_S A s.heap H locs) (hdg : decode cc pc = .ok (.ireturn, 1)) : W p l e R s m args below meth c H locs cells slots (MQ below (va_Qi post (fun u t => kc_post D A (ws1 u) t) A) args s cells slots A) (F0 m pc ls [.int v]) :=
  W.iret hx hb hr (fun t ht _ => ⟨⟨v, u, rfl, hp, by rw [ht]; exact hP, hD⟩, hS.F ht⟩) hS.2.2 hdg hlk
theorem kc_zret {S : Type} {post : Int32 → S → Prop} {ws1 : S → va_W} {v : Int32} {ty : FieldType} (hx : p.tables.exec = Jvm.exec) (hb : c.code = cc) (hr : meth.sig.returnType = some ty) (hn : narrow ty (.int v) = .int v) (hlk : meth.locks = false) (u : S) (hp : post v u) (hP : va_P D kc_cl (ws1 u) H) (hD : va_D A (ws1 u)) (hS : va_S A s.heap H locs) (hdg : decode cc pc = .ok (.ireturn, 1)) : W p l e R s m args below meth c H locs cells slots (MQ below (va_Qi post (fun u t => kc_post D A (ws1 u) t) A) args s cells slots A) (F0 m pc ls [.int v]) :=
  W.zret hx hb hr hn (fun t ht _ => ⟨⟨v, u, rfl, hp, by rw [ht]; exact hP, hD⟩, hS.F ht⟩) hS.2.2 hdg hlk
theorem kc_lret {S : Type} {post : Int64 → S → Prop} {ws1 : S → va_W} {v : Int64} (hx : p.tables.exec = Jvm.exec) (hb : c.code = cc) (hr : meth.sig.returnType = some .long) (hlk : meth.locks = false) (u : S) (hp : post v u) (hP : va_P D kc_cl (ws1 u) H) (hD : va_D A (ws1 u)) (hS : va_S A s.heap H locs) (hdg : decode cc pc = .ok (.lreturn, 1)) : W p l e R s m args below meth c H locs cells slots (MQ below (va_Ql post (fun u t => kc_post D A (ws1 u) t) A) args s cells slots A) (F0 m pc ls [.long v]) :=
  W.lret hx hb hr (fun t ht _ => ⟨⟨v, u, rfl, hp, by rw [ht]; exact hP, hD⟩, hS.F ht⟩) hS.2.2 hdg hlk
variable {y : MethodName} {bytes : ByteArray} {maxL nL mc ms n index : Nat} {ret : Option FieldType} {w : List Cond} {rm : Room} {own C : String} {b : Addr} {As : List Value}
/-- what a run of a callee over the cells ws leaves, the rest wr untouched -/
theorem kc_goV {S : Type} {post : S → Prop} {ws1 : S → va_W} {av : Array Value} (hr : va_Run p l e R s m args below meth c H locs cells slots mc ms (F0 m pc ls st0) rest (va_Qv post (fun u t => kc_post D (va_A ws H.size) (ws1 u) t) (va_A ws H.size) av) (va_A ws H.size)) (hP : va_P D kc_cl (wr ++ ws) H) (hD : va_D A (wr ++ ws)) (hS : va_S A H0 H locs) (hA : ∀ q, H0.size ≤ q → A q)
    (kk : ∀ (u : S) (H1 : Heap) (locs1 : List Loc), post u → va_P D kc_cl (wr ++ ws1 u) H1 → va_D A (wr ++ ws1 u) → va_S A H0 H1 locs1 → W p l e R s m args below meth c H1 locs1 (cells + mc) (slots + ms) Q (F0 m (pc + 3) ls rest)) : W p l e R s m args below meth c H locs cells slots Q (F0 m pc ls st0) := by
  have hF := kc_free (kc_D_r hD) hS hA
  refine va_callv hr hS (fun q _ h => hF q h) hF (fun u t H1 locs1 ht _ hp hB _ hk1 hS1 => ?_)
  obtain ⟨hP1, hD1⟩ := hB
  rw [ht] at hP1
  obtain ⟨hP2, hD2⟩ := kc_joinR hP hD hk1 hF hP1 hD1
  exact kk u H1 locs1 hp hP2 hD2 hS1
theorem kc_goI {S : Type} {post : Int32 → S → Prop} {ws1 : S → va_W} {av : Array Value} (hr : va_Run p l e R s m args below meth c H locs cells slots mc ms (F0 m pc ls st0) rest (va_Qi post (fun u t => kc_post D (va_A ws H.size) (ws1 u) t) (va_A ws H.size) av) (va_A ws H.size)) (hP : va_P D kc_cl (wr ++ ws) H) (hD : va_D A (wr ++ ws)) (hS : va_S A H0 H locs) (hA : ∀ q, H0.size ≤ q → A q)
    (kk : ∀ (r : Int32) (u : S) (H1 : Heap) (locs1 : List Loc), post r u → va_P D kc_cl (wr ++ ws1 u) H1 → va_D A (wr ++ ws1 u) → va_S A H0 H1 locs1 → W p l e R s m args below meth c H1 locs1 (cells + mc) (slots + ms) Q (F0 m (pc + 3) ls (.int r :: rest))) : W p l e R s m args below meth c H locs cells slots Q (F0 m pc ls st0) := by
  have hF := kc_free (kc_D_r hD) hS hA
  refine va_calli hr hS (fun q _ h => hF q h) hF (fun r u t H1 locs1 ht _ hp hB _ hk1 hS1 => ?_)
  obtain ⟨hP1, hD1⟩ := hB
  rw [ht] at hP1
  obtain ⟨hP2, hD2⟩ := kc_joinR hP hD hk1 hF hP1 hD1
  exact kk r u H1 locs1 hp hP2 hD2 hS1
theorem kc_goL {S : Type} {post : Int64 → S → Prop} {ws1 : S → va_W} {av : Array Value} (hr : va_Run p l e R s m args below meth c H locs cells slots mc ms (F0 m pc ls st0) rest (va_Ql post (fun u t => kc_post D (va_A ws H.size) (ws1 u) t) (va_A ws H.size) av) (va_A ws H.size)) (hP : va_P D kc_cl (wr ++ ws) H) (hD : va_D A (wr ++ ws)) (hS : va_S A H0 H locs) (hA : ∀ q, H0.size ≤ q → A q)
    (kk : ∀ (r : Int64) (u : S) (H1 : Heap) (locs1 : List Loc), post r u → va_P D kc_cl (wr ++ ws1 u) H1 → va_D A (wr ++ ws1 u) → va_S A H0 H1 locs1 → W p l e R s m args below meth c H1 locs1 (cells + mc) (slots + ms) Q (F0 m (pc + 3) ls (.long r :: rest))) : W p l e R s m args below meth c H locs cells slots Q (F0 m pc ls st0) := by
  have hF := kc_free (kc_D_r hD) hS hA
  refine va_calll hr hS (fun q _ h => hF q h) hF (fun r u t H1 locs1 ht _ hp hB _ hk1 hS1 => ?_)
  obtain ⟨hP1, hD1⟩ := hB
  rw [ht] at hP1
  obtain ⟨hP2, hD2⟩ := kc_joinR hP hD hk1 hF hP1 hD1
  exact kk r u H1 locs1 hp hP2 hD2 hS1
/-- the start of a virtual call on an object of the world -/
theorem kc_preV {q0 ci : Nat} {q : vw_C} {fs : List Value} (hK : va_K D kc_cl tys s) (hP : va_P D kc_cl (wr ++ ws) H) (hD : va_D A (wr ++ ws)) (hc : kc_cl[ci]? = some q) (he : ws[q0]? = some (b, .inr (ci, fs))) : PreV s H q.1 b (va_Pc (.ref b :: As) (kc_pre D tys ws H.size)) As :=
  ⟨kc_blind, va_recv hK (kc_P_r hP) hc he, fun U hU hW => ⟨rfl, kc_toPre hK (kc_P_r hP) (kc_D_r hD) U hU hW⟩⟩
theorem kc_preS (hK : va_K D kc_cl tys s) (hP : va_P D kc_cl (wr ++ ws) H) (hD : va_D A (wr ++ ws)) : PreS s H (va_Pc As (kc_pre D tys ws H.size)) As :=
  ⟨kc_blind, fun U hU hW => ⟨rfl, kc_toPre hK (kc_P_r hP) (kc_D_r hD) U hU hW⟩⟩
theorem kc_preP : PreS s H (va_Pc As (fun _ => True)) As := ⟨fun _ _ _ _ q => ⟨q.1, trivial⟩, fun _ _ _ => ⟨rfl, trivial⟩⟩
/-- getfield, by class -/
theorem kg_K (hx : p.tables.exec = Jvm.exec) (hb : c.code = cc) (hts : ∀ w ∈ kc_tbl, w.before args s = true) (hown : s.vm.findClass R_K = some m.cls) (hK : va_K D kc_cl tys s) (hP : va_P D kc_cl ws H) (q0 : Nat) {fs : List Value} (he : ws[q0]? = some (a, .inr (0, fs))) (k : Nat) (hk : k < 3) (hl : Cond.fieldLink "KeccakLanes" index "KeccakLanes" (F_K k).2.1 (F_K k).2.2.1 ∈ kc_tbl) {v : Value} (hv : fs[k]? = some v) (hdg : decode cc pc = .ok (.getfield index, 3)) (kk : W p l e R s m args below meth c H locs cells slots Q (F0 m (pc + 3) ls (v :: rest))) : W p l e R s m args below meth c H locs cells slots Q (F0 m pc ls (.ref a :: rest)) :=
  va_get (D := D) (ci := 0) (C := R_K) (T := F_K) (N := 3) (own := R_K) (ref := "KeccakLanes") hx hb hts u_K_in hown hK hP q0 he rfl k hk (hts _ hl) (by rcases k with _ | _ | _ | k <;> first | exact fun _ h9 => h9 | omega) hv hdg kk
theorem kg_X (hx : p.tables.exec = Jvm.exec) (hb : c.code = cc) (hts : ∀ w ∈ kc_tbl, w.before args s = true) (hown : s.vm.findClass R_X = some m.cls) (hK : va_K D kc_cl tys s) (hP : va_P D kc_cl ws H) (q0 : Nat) {fs : List Value} (he : ws[q0]? = some (a, .inr (1, fs))) (k : Nat) (hk : k < 4) (hl : Cond.fieldLink "KeccakLanes$Mixer" index "KeccakLanes$Mixer" (F_X k).2.1 (F_X k).2.2.1 ∈ kc_tbl) {v : Value} (hv : fs[k]? = some v) (hdg : decode cc pc = .ok (.getfield index, 3)) (kk : W p l e R s m args below meth c H locs cells slots Q (F0 m (pc + 3) ls (v :: rest))) : W p l e R s m args below meth c H locs cells slots Q (F0 m pc ls (.ref a :: rest)) :=
  va_get (D := D) (ci := 1) (C := R_X) (T := F_X) (N := 4) (own := R_X) (ref := "KeccakLanes$Mixer") hx hb hts u_X_in hown hK hP q0 he rfl k hk (hts _ hl) (by rcases k with _ | _ | _ | _ | k <;> first | exact fun _ h9 => h9 | omega) hv hdg kk
theorem kg_M (hx : p.tables.exec = Jvm.exec) (hb : c.code = cc) (hts : ∀ w ∈ kc_tbl, w.before args s = true) (hown : s.vm.findClass R_M = some m.cls) (hK : va_K D kc_cl tys s) (hP : va_P D kc_cl ws H) (q0 : Nat) {fs : List Value} (he : ws[q0]? = some (a, .inr (2, fs))) (k : Nat) (hk : k < 7) (hl : Cond.fieldLink "KeccakLanesModel" index "KeccakLanesModel" (F_M k).2.1 (F_M k).2.2.1 ∈ kc_tbl) {v : Value} (hv : fs[k]? = some v) (hdg : decode cc pc = .ok (.getfield index, 3)) (kk : W p l e R s m args below meth c H locs cells slots Q (F0 m (pc + 3) ls (v :: rest))) : W p l e R s m args below meth c H locs cells slots Q (F0 m pc ls (.ref a :: rest)) :=
  va_get (D := D) (ci := 2) (C := R_M) (T := F_M) (N := 7) (own := R_M) (ref := "KeccakLanesModel") hx hb hts u_M_in hown hK hP q0 he rfl k hk (hts _ hl) (by rcases k with _ | _ | _ | _ | _ | _ | _ | k <;> first | exact fun _ h9 => h9 | omega) hv hdg kk
end KC
theorem kn_i1 (i : Nat) : nI i + Int32.ofInt 1 = nI (i + 1) := by rw [show Int32.ofInt 1 = nI 1 by decide +kernel]; exact nI_add i 1
theorem kn_i5 (i : Nat) : nI i + Int32.ofInt 5 = nI (i + 5) := by rw [show Int32.ofInt 5 = nI 5 by decide +kernel]; exact nI_add i 5
end
section
/-! pure rows for the loops of a round -/
def kc_row (L : Nat → Int64) (q : Nat) : Nat → Int64 := fun c => L (25 * q + c)
theorem kc_row_upd (L : Nat → Int64) (q e : Nat) (x : Int64) : kc_row (vp_updL L (25 * q + e) x) q = vp_updL (kc_row L q) e x := by
  funext c
  simp only [kc_row, vp_updL]
  by_cases h : c = e
  · rw [if_pos h, if_pos (by omega)]
  · rw [if_neg h, if_neg (by omega)]
def kc_fr (q : Nat) (L L0 : Nat → Int64) : Prop := ∀ j, j < 25 * q ∨ 25 * q + 25 ≤ j → L j = L0 j
theorem kc_fr_rf {q : Nat} {L : Nat → Int64} : kc_fr q L L := fun _ _ => rfl
theorem kc_fr_upd {q : Nat} {L L0 : Nat → Int64} (h : kc_fr q L L0) {e : Nat} (he : e < 25) (x : Int64) : kc_fr q (vp_updL L (25 * q + e) x) L0 := fun j hj => by
  rw [pk_uLn (by omega)]
  exact h j hj
theorem kc_fr_tr {q : Nat} {L L1 L0 : Nat → Int64} (h : kc_fr q L L1) (h2 : kc_fr q L1 L0) : kc_fr q L L0 := fun j hj => (h j hj).trans (h2 j hj)
/-- the columns' sums so far -/
theorem kc_cs_step {a S : Nat → Int64} {x : Nat} {v : Int64} (h : ∀ j, j < x → S j = kc_Cc a j) (hv : v = kc_Cc a x) : ∀ j, j < x + 1 → vp_updL S x v j = kc_Cc a j := by
  intro j hj
  by_cases hjx : j = x
  · subst hjx; rw [pk_uLs, hv]
  · rw [pk_uLn hjx]; exact h j (by omega)
def kc_th (a r : Nat → Int64) (x k : Nat) : Prop := ∀ c, c < 25 → r c = if c % 5 < x ∨ (c % 5 = x ∧ c / 5 < k) then kc_Bb a c else a c
theorem kc_th_0 {a r : Nat → Int64} (h : kc_eq r a) : kc_th a r 0 0 := fun c hc => by rw [if_neg (by omega)]; exact h c hc
theorem kc_th_step {a r : Nat → Int64} {x k : Nat} {v : Int64} (h : kc_th a r x k) (hx : x < 5) (hk : k < 5) (hv : v = r (x + 5 * k) ^^^ kc_D a x) : kc_th a (vp_updL r (x + 5 * k) v) x (k + 1) := by
  intro c hc
  by_cases hcx : c = x + 5 * k
  · subst hcx
    rw [pk_uLs, hv, if_pos (by omega), h _ hc, if_neg (by omega)]
    unfold kc_Bb
    rw [show (x + 5 * k) % 5 = x by omega]
  · rw [pk_uLn hcx, h c hc]
    by_cases h1 : c % 5 < x ∨ (c % 5 = x ∧ c / 5 < k)
    · rw [if_pos h1, if_pos (by omega)]
    · rw [if_neg h1, if_neg (by omega)]
theorem kc_th_next {a r : Nat → Int64} {x : Nat} (h : kc_th a r x 5) : kc_th a r (x + 1) 0 := fun c hc => by
  rw [h c hc]
  by_cases h1 : c % 5 < x ∨ (c % 5 = x ∧ c / 5 < 5)
  · rw [if_pos h1, if_pos (by omega)]
  · rw [if_neg h1, if_neg (by omega)]
theorem kc_th_end {a r : Nat → Int64} (h : kc_th a r 5 0) : kc_eq r (kc_Bb a) := fun c hc => by rw [h c hc, if_pos (by omega)]
def kc_rp (a N : Nat → Int64) (x y : Nat) : Prop := ∀ c, c < 25 → (kc_src c % 5 < x ∨ (kc_src c % 5 = x ∧ kc_src c / 5 < y)) → N c = kc_Mm a c
theorem kc_rp_0 {a N : Nat → Int64} : kc_rp a N 0 0 := fun c _ h => by omega
theorem kc_rp_step {a N : Nat → Int64} {x y : Nat} {v : Int64} (h : kc_rp a N x y) (hx : x < 5) (hy : y < 5) (hv : v = kc_rl (kc_Bb a (x + 5 * y)) (nI (kc_rho (x + 5 * y)))) : kc_rp a (vp_updL N (y + 5 * ((2 * x + 3 * y) % 5)) v) x (y + 1) := by
  intro c hc hp
  have hs := kc_src_xy x hx y hy
  by_cases hcx : c = y + 5 * ((2 * x + 3 * y) % 5)
  · rw [hcx, pk_uLs, hv]
    unfold kc_Mm
    rw [hs.1]
  · rw [pk_uLn hcx]
    refine h c hc ?_
    have h2 := kc_src_in c hc
    rcases hp with hp | ⟨h3, h4⟩
    · exact Or.inl hp
    · refine Or.inr ⟨h3, ?_⟩
      by_cases h5 : kc_src c / 5 = y
      · rw [h3, h5] at h2; exact absurd h2.2.2 hcx
      · omega
theorem kc_rp_next {a N : Nat → Int64} {x : Nat} (h : kc_rp a N x 5) : kc_rp a N (x + 1) 0 := fun c hc hp => h c hc (by have := kc_src_lt c hc; omega)
theorem kc_rp_end {a N : Nat → Int64} (h : kc_rp a N 5 0) : kc_eq N (kc_Mm a) := fun c hc => h c hc (by omega)
theorem kc_E_xy (a : Nat → Int64) {x k : Nat} (hx : x < 5) : kc_E a (x + 5 * k) = kc_Mm a (x + 5 * k) ^^^ ((kc_Mm a ((x + 1) % 5 + 5 * k) ^^^ (-1)) &&& kc_Mm a ((x + 2) % 5 + 5 * k)) := by
  unfold kc_E
  rw [show 5 * ((x + 5 * k) / 5) + ((x + 5 * k) % 5 + 1) % 5 = (x + 1) % 5 + 5 * k by omega, show 5 * ((x + 5 * k) / 5) + ((x + 5 * k) % 5 + 2) % 5 = (x + 2) % 5 + 5 * k by omega]
def kc_ch (a r : Nat → Int64) (n : Nat) : Prop := ∀ c, c < n → r c = kc_E a c
theorem kc_ch_step {a r N : Nat → Int64} {x k : Nat} {v : Int64} (h : kc_ch a r (x + 5 * k)) (hx : x < 5) (hk : k < 5) (hN : kc_eq N (kc_Mm a)) (hv : v = N (x + 5 * k) ^^^ ((N ((x + 1) % 5 + 5 * k) ^^^ (-1)) &&& N ((x + 2) % 5 + 5 * k))) : kc_ch a (vp_updL r (x + 5 * k) v) (x + 1 + 5 * k) := by
  intro c hc
  by_cases hcx : c = x + 5 * k
  · rw [hcx, pk_uLs, hv, hN _ (by omega), hN ((x + 1) % 5 + 5 * k) (by omega), hN ((x + 2) % 5 + 5 * k) (by omega), kc_E_xy a hx]
  · rw [pk_uLn hcx]; exact h c (by omega)
theorem kc_round_end {a r : Nat → Int64} {rc v : Int64} (h : kc_ch a r 25) (hv : v = r 0 ^^^ rc) : kc_eq (vp_updL r 0 v) (kc_round rc a) := by
  intro c hc
  unfold kc_round
  by_cases h0 : c = 0
  · subst h0; rw [pk_uLs, if_pos rfl, hv, h 0 hc]
  · rw [pk_uLn h0, if_neg h0, h c hc]
/-- the model's walk along the path -/
def kc_mp (a Mv : Nat → Int64) (t : Nat) : Prop := Mv 0 = kc_Mm a 0 ∧ ∀ c, c < 25 → kc_pos (kc_src c) < t → Mv c = kc_Mm a c
theorem kc_M0 (a : Nat → Int64) : kc_Mm a 0 = kc_Bb a 0 := by
  unfold kc_Mm
  rw [show kc_src 0 = 0 by decide, show kc_rho 0 = 0 by decide, kc_rl_0]
theorem kc_mp_step {a Mv : Nat → Int64} {t : Nat} {v : Int64} (h : kc_mp a Mv t) (ht : t < 24) (hv : v = kc_rl (kc_Bb a (5 * kc_py t + kc_px t)) (nI ((t + 1) * (t + 2) / 2 % 64))) : kc_mp a (vp_updL Mv (5 * kc_py (t + 1) + kc_py t) v) (t + 1) := by
  obtain ⟨e1, e2, e3⟩ := kc_path_e t ht
  obtain ⟨-, -, -, -, p5, -⟩ := kc_path t ht
  refine ⟨by rw [pk_uLn (Ne.symm e3)]; exact h.1, fun c hc hp => ?_⟩
  by_cases hcx : c = 5 * kc_py (t + 1) + kc_py t
  · rw [hcx, pk_uLs, hv]
    unfold kc_Mm
    rw [e1, p5, Nat.add_comm (kc_px t)]
  · rw [pk_uLn hcx]
    rcases kc_path_d t ht c hc hp with h1 | h1
    · exact h.2 c hc h1
    · exact absurd h1 hcx
theorem kc_mp_end {a Mv : Nat → Int64} (h : kc_mp a Mv 24) : kc_eq Mv (kc_Mm a) := fun c hc => by
  rcases kc_path_z c hc with rfl | ⟨-, h1⟩
  · exact h.1
  · exact h.2 c hc h1
end
section
/-! Long.rotateLeft, Mixer.turn, Mixer.mix (rows printed by gen09.py) -/
abbrev r_0 : Room := { frames := 0, cells := 0, slots := 0, locals := 0 }
theorem c_J_rotateLeft (l : Launch) (x : Int64) (n : Int32) : Met l y_J_rotateLeft w_J_rotateLeft r_0 (va_Pc [.long x, .int n] (fun _ => True)) (vp_Sl (fun r => r = kc_rl x n)) 0 0 (fun _ => False) := by
  refine kc_ofWp (cc := b_J_rotateLeft) (maxL := 3) (by decide) rfl (Nat.le_of_ble_eq_true rfl) ?_
  intro p e s m below meth c ls S hr hlk hl
  obtain ⟨hx, hb, hml, hown, hts⟩ := S
  have hl : lv_has ls 3 [(0, .long (x)), (2, .int (n))] := hl
  refine lv_lload_n hx hb d_J_rotateLeft_0 rfl (lv_at hl 0 rfl) ?_
  refine lv_iload_n hx hb d_J_rotateLeft_1 rfl (lv_at hl 1 rfl) ?_
  refine lv_lshl hx hb d_J_rotateLeft_2 rfl ?_
  refine lv_lload_n hx hb d_J_rotateLeft_3 rfl (lv_at hl 0 rfl) ?_
  refine lv_iload_n hx hb d_J_rotateLeft_4 rfl (lv_at hl 1 rfl) ?_
  refine lv_ineg hx hb d_J_rotateLeft_5 ?_
  refine lv_lushr hx hb d_J_rotateLeft_6 rfl ?_
  refine lv_lor hx hb d_J_rotateLeft_7 ?_
  exact W.lret hx hb hr (fun t ht _ => ⟨_, rfl, rfl, ht⟩) (fun q h => by cases h) d_J_rotateLeft_8 hlk
theorem c_X_turn (l : Launch) (x : Int64) (k : Nat) (hk : k < 64) : Met l y_X_turn w_X_turn r_0 (va_Pc [.long x, .int (nI k)] (fun _ => True)) (vp_Sl (fun r => r = kc_rl x (nI k))) 0 0 (fun _ => False) := by
  refine kc_ofWp (cc := b_X_turn) (maxL := 3) (by decide) rfl (Nat.le_of_ble_eq_true rfl) ?_
  intro p e s m below meth c ls S hr hlk hl
  obtain ⟨hx, hb, hml, hown, hts⟩ := S
  have hl : lv_has ls 3 [(0, .long (x)), (2, .int (nI (k)))] := hl
  by_cases hk0 : k = 0
  · refine lv_iload_n hx hb d_X_turn_0 rfl (lv_at hl 1 rfl) ?_
    refine lv_if_ne (tgt := 8) hx hb d_X_turn_1 (by decide) (fun hc => absurd hc (by rw [hk0]; decide)) (fun _ => ?_)
    refine lv_lload_n hx hb d_X_turn_4 rfl (lv_at hl 0 rfl) ?_
    refine lv_goto (tgt := 18) hx hb d_X_turn_5 (by decide) ?_
    exact W.lret hx hb hr (fun t ht _ => ⟨_, rfl, by rw [hk0, kc_rl_0], ht⟩) (fun q h => by cases h) d_X_turn_18 hlk
  · refine lv_iload_n hx hb d_X_turn_0 rfl (lv_at hl 1 rfl) ?_
    refine lv_if_ne (tgt := 8) hx hb d_X_turn_1 (by decide) (fun _ => ?_) (fun hc => absurd hc (nI_ne0 (by omega) (by omega)))
    refine lv_lload_n hx hb d_X_turn_8 rfl (lv_at hl 0 rfl) ?_
    refine lv_iload_n hx hb d_X_turn_9 rfl (lv_at hl 1 rfl) ?_
    refine lv_lshl hx hb d_X_turn_10 rfl ?_
    refine lv_lload_n hx hb d_X_turn_11 rfl (lv_at hl 0 rfl) ?_
    refine lv_bipush (v := nI 64) hx hb d_X_turn_12 (by decide +kernel) ?_
    refine lv_iload_n hx hb d_X_turn_14 rfl (lv_at hl 1 rfl) ?_
    refine lv_isub hx hb d_X_turn_15 ?_
    refine lv_lushr hx hb d_X_turn_16 rfl ?_
    refine lv_lor hx hb d_X_turn_17 ?_
    exact W.lret hx hb hr (fun t ht _ => ⟨_, rfl, by unfold kc_rl; rw [kc_rl_amt k hk (by omega)], ht⟩) (fun q h => by cases h) d_X_turn_18 hlk
abbrev r_X_mix : Room := { frames := 1, cells := 0, slots := 0, locals := 22 }
section XMIX
variable {p : Program} {l : Launch} {e : Env} {s : State} {m : MethodId} {args : Array Value} {below : List Frame} {meth : Method} {c : Code} {Q : State → Prop} {D : va_G} {A : Nat → Prop} {h : Nat → Nat} {cJ cI cX : ClassId} {P : Nat → Int32}
set_option maxHeartbeats 4000000 in
theorem X_mix_C (S : CallFix p m c b_X_mix 8 s args kc_tbl R_X) (hK : va_K D kc_cl (kc_ty cJ cI cX) s) {L N : Nat → Int64} {q i : Nat} (hq : q < 9) (n : Nat) : ∀ (x : Nat) (H : Heap) (locs : List Loc) (ls : Array Slot) (Sd : Nat → Int64), x + n = 5 → lv_has ls 8 [(4, .int (nI (x))), (3, .int (nI (i))), (0, .ref (h 2)), (1, .ref (h 3)), (2, .int (nI (25 * q)))] → kc_at D A s.heap H locs (kc_C h cJ cI (P) (L) (N) (Sd)) → (∀ j, j < x → Sd j = kc_Cc (kc_row L q) j) → (∀ (H : Heap) (locs : List Loc) (ls : Array Slot) (Sd : Nat → Int64), lv_has ls 8 [(4, .int (nI (5))), (3, .int (nI (i))), (0, .ref (h 2)), (1, .ref (h 3)), (2, .int (nI (25 * q)))] → kc_at D A s.heap H locs (kc_C h cJ cI (P) (L) (N) (Sd)) → (∀ j, j < 5 → Sd j = kc_Cc (kc_row L q) j) → W p l e r_X_mix s m args below meth c H locs 0 0 Q (F0 m 75 ls [])) → W p l e r_X_mix s m args below meth c H locs 0 0 Q (F0 m 11 ls []) := by
  obtain ⟨hx, hb, hml, hown, hts⟩ := S
  induction n with
  | zero =>
    intro x H locs ls Sd hn hl hw hinv K
    obtain ⟨hP, hD, hS⟩ := hw
    obtain rfl : x = 5 := by omega
    refine lv_iload hx hb d_X_mix_11 (lv_at hl 0 rfl) ?_
    refine lv_iconst (v := nI 5) hx hb d_X_mix_13 (by decide +kernel) ?_
    refine kn_ge (tgt := 75) hx hb (by omega) (by omega) d_X_mix_14 (by decide) (fun _ => ?_) (fun hc => absurd hc (by omega))
    exact K H locs ls Sd hl ⟨hP, hD, hS⟩ hinv
  | succ n ih =>
    intro x H locs ls Sd hn hl hw hinv K
    obtain ⟨hP, hD, hS⟩ := hw
    refine lv_iload hx hb d_X_mix_11 (lv_at hl 0 rfl) ?_
    refine lv_iconst (v := nI 5) hx hb d_X_mix_13 (by decide +kernel) ?_
    refine kn_ge (tgt := 75) hx hb (by omega) (by omega) d_X_mix_14 (by decide) (fun hc => absurd hc (by omega)) (fun _ => ?_)
    refine lv_aload_n hx hb d_X_mix_17 rfl (lv_at hl 2 rfl) ?_
    refine kg_X hx hb hts hown hK hP 2 rfl 3 (by decide) kw_26 (v := .ref (h 7)) rfl d_X_mix_18 ?_
    refine lv_iload hx hb d_X_mix_21 (lv_at hl 0 rfl) ?_
    refine lv_aload_n hx hb d_X_mix_23 rfl (lv_at hl 3 rfl) ?_
    refine lv_iload_n hx hb d_X_mix_24 rfl (lv_at hl 4 rfl) ?_
    refine lv_iload hx hb d_X_mix_25 (lv_at hl 0 rfl) ?_
    refine kn_add hx hb d_X_mix_27 ?_
    refine ka_lald (f := L) hx hb hK hP 3 0 rfl rfl (i := 25 * q + x) (by omega) (by decide) d_X_mix_28 ?_
    refine lv_aload_n hx hb d_X_mix_29 rfl (lv_at hl 3 rfl) ?_
    refine lv_iload_n hx hb d_X_mix_30 rfl (lv_at hl 4 rfl) ?_
    refine lv_iload hx hb d_X_mix_31 (lv_at hl 0 rfl) ?_
    refine kn_add hx hb d_X_mix_33 ?_
    refine lv_iconst (v := nI 5) hx hb d_X_mix_34 (by decide +kernel) ?_
    refine kn_add hx hb d_X_mix_35 ?_
    refine ka_lald (f := L) hx hb hK hP 3 0 rfl rfl (i := 25 * q + x + 5) (by omega) (by decide) d_X_mix_36 ?_
    refine lv_lxor hx hb d_X_mix_37 ?_
    refine lv_aload_n hx hb d_X_mix_38 rfl (lv_at hl 3 rfl) ?_
    refine lv_iload_n hx hb d_X_mix_39 rfl (lv_at hl 4 rfl) ?_
    refine lv_iload hx hb d_X_mix_40 (lv_at hl 0 rfl) ?_
    refine kn_add hx hb d_X_mix_42 ?_
    refine lv_bipush (v := nI 10) hx hb d_X_mix_43 (by decide +kernel) ?_
    refine kn_add hx hb d_X_mix_45 ?_
    refine ka_lald (f := L) hx hb hK hP 3 0 rfl rfl (i := 25 * q + x + 10) (by omega) (by decide) d_X_mix_46 ?_
    refine lv_lxor hx hb d_X_mix_47 ?_
    refine lv_aload_n hx hb d_X_mix_48 rfl (lv_at hl 3 rfl) ?_
    refine lv_iload_n hx hb d_X_mix_49 rfl (lv_at hl 4 rfl) ?_
    refine lv_iload hx hb d_X_mix_50 (lv_at hl 0 rfl) ?_
    refine kn_add hx hb d_X_mix_52 ?_
    refine lv_bipush (v := nI 15) hx hb d_X_mix_53 (by decide +kernel) ?_
    refine kn_add hx hb d_X_mix_55 ?_
    refine ka_lald (f := L) hx hb hK hP 3 0 rfl rfl (i := 25 * q + x + 15) (by omega) (by decide) d_X_mix_56 ?_
    refine lv_lxor hx hb d_X_mix_57 ?_
    refine lv_aload_n hx hb d_X_mix_58 rfl (lv_at hl 3 rfl) ?_
    refine lv_iload_n hx hb d_X_mix_59 rfl (lv_at hl 4 rfl) ?_
    refine lv_iload hx hb d_X_mix_60 (lv_at hl 0 rfl) ?_
    refine kn_add hx hb d_X_mix_62 ?_
    refine lv_bipush (v := nI 20) hx hb d_X_mix_63 (by decide +kernel) ?_
    refine kn_add hx hb d_X_mix_65 ?_
    refine ka_lald (f := L) hx hb hK hP 3 0 rfl rfl (i := 25 * q + x + 20) (by omega) (by decide) d_X_mix_66 ?_
    refine lv_lxor hx hb d_X_mix_67 ?_
    refine lv_topl (fun v1 e_v1 => ?_)
    refine ka_last (f := Sd) hx hb hK hP hD hS 7 0 rfl rfl (i := x) (by omega) (by decide) d_X_mix_68 (fun H locs hP hD hS => ?_)
    have hP : va_P D kc_cl (kc_C h cJ cI (P) (L) (N) (vp_updL Sd (x) (v1))) H := hP
    have hD : va_D A (kc_C h cJ cI (P) (L) (N) (vp_updL Sd (x) (v1))) := hD
    refine lv_iinc (k := 0) hx hb d_X_mix_69 hl rfl (kn_i1 _) (by decide) rfl (fun ls hl => ?_)
    have hl : lv_has ls 8 [(4, .int (nI (x + 1))), (3, .int (nI (i))), (0, .ref (h 2)), (1, .ref (h 3)), (2, .int (nI (25 * q)))] := hl
    refine lv_goto (tgt := 11) hx hb d_X_mix_72 (by decide) ?_
    exact ih (x + 1) H locs ls _ (by omega) hl ⟨hP, hD, hS⟩ (kc_cs_step hinv (by rw [e_v1]; rfl)) K
set_option maxHeartbeats 4000000 in
theorem X_mix_Y (S : CallFix p m c b_X_mix 8 s args kc_tbl R_X) (hK : va_K D kc_cl (kc_ty cJ cI cX) s) {N Sd a L0 : Nat → Int64} {q i x : Nat} (hq : q < 9) (hx5 : x < 5) (n : Nat) : ∀ (k : Nat) (H : Heap) (locs : List Loc) (ls : Array Slot) (L : Nat → Int64), k + n = 5 → lv_has ls 8 [(7, .int (nI (5 * k))), (5, .long (kc_D a x)), (4, .int (nI (x))), (3, .int (nI (i))), (0, .ref (h 2)), (1, .ref (h 3)), (2, .int (nI (25 * q)))] → kc_at D A s.heap H locs (kc_C h cJ cI (P) (L) (N) (Sd)) → (kc_th a (kc_row L q) x k) → (kc_fr q L L0) → (∀ (H : Heap) (locs : List Loc) (ls : Array Slot) (L : Nat → Int64), lv_has ls 8 [(7, .int (nI (5 * 5))), (5, .long (kc_D a x)), (4, .int (nI (x))), (3, .int (nI (i))), (0, .ref (h 2)), (1, .ref (h 3)), (2, .int (nI (25 * q)))] → kc_at D A s.heap H locs (kc_C h cJ cI (P) (L) (N) (Sd)) → (kc_th a (kc_row L q) x 5) → (kc_fr q L L0) → W p l e r_X_mix s m args below meth c H locs 0 0 Q (F0 m 143 ls [])) → W p l e r_X_mix s m args below meth c H locs 0 0 Q (F0 m 116 ls []) := by
  obtain ⟨hx, hb, hml, hown, hts⟩ := S
  induction n with
  | zero =>
    intro k H locs ls L hn hl hw hth hfr K
    obtain ⟨hP, hD, hS⟩ := hw
    obtain rfl : k = 5 := by omega
    refine lv_iload hx hb d_X_mix_116 (lv_at hl 0 rfl) ?_
    refine lv_bipush (v := nI 25) hx hb d_X_mix_118 (by decide +kernel) ?_
    refine kn_ge (tgt := 143) hx hb (by omega) (by omega) d_X_mix_120 (by decide) (fun _ => ?_) (fun hc => absurd hc (by omega))
    exact K H locs ls L hl ⟨hP, hD, hS⟩ hth hfr
  | succ n ih =>
    intro k H locs ls L hn hl hw hth hfr K
    obtain ⟨hP, hD, hS⟩ := hw
    refine lv_iload hx hb d_X_mix_116 (lv_at hl 0 rfl) ?_
    refine lv_bipush (v := nI 25) hx hb d_X_mix_118 (by decide +kernel) ?_
    refine kn_ge (tgt := 143) hx hb (by omega) (by omega) d_X_mix_120 (by decide) (fun hc => absurd hc (by omega)) (fun _ => ?_)
    refine lv_aload_n hx hb d_X_mix_123 rfl (lv_at hl 5 rfl) ?_
    refine lv_iload_n hx hb d_X_mix_124 rfl (lv_at hl 6 rfl) ?_
    refine lv_iload hx hb d_X_mix_125 (lv_at hl 2 rfl) ?_
    refine kn_add hx hb d_X_mix_127 ?_
    refine lv_iload hx hb d_X_mix_128 (lv_at hl 0 rfl) ?_
    refine kn_add hx hb d_X_mix_130 ?_
    refine kv_i (y := (nI (25 * q + (x + 5 * k)))) (by rw [Nat.add_assoc]) ?_
    refine lv_dup2_11 hx hb d_X_mix_131 rfl rfl ?_
    refine ka_lald (f := L) hx hb hK hP 3 0 rfl rfl (i := 25 * q + (x + 5 * k)) (by omega) (by decide) d_X_mix_132 ?_
    refine lv_lload hx hb d_X_mix_133 (lv_at hl 1 rfl) ?_
    refine lv_lxor hx hb d_X_mix_135 ?_
    refine lv_topl (fun v1 e_v1 => ?_)
    refine ka_last (f := L) hx hb hK hP hD hS 3 0 rfl rfl (i := 25 * q + (x + 5 * k)) (by omega) (by decide) d_X_mix_136 (fun H locs hP hD hS => ?_)
    have hP : va_P D kc_cl (kc_C h cJ cI (P) (vp_updL L (25 * q + (x + 5 * k)) (v1)) (N) (Sd)) H := hP
    have hD : va_D A (kc_C h cJ cI (P) (vp_updL L (25 * q + (x + 5 * k)) (v1)) (N) (Sd)) := hD
    refine lv_iinc (k := 0) hx hb d_X_mix_137 hl rfl (kn_i5 _) (by decide) rfl (fun ls hl => ?_)
    have hl : lv_has ls 8 [(7, .int (nI (5 * k + 5))), (5, .long (kc_D a x)), (4, .int (nI (x))), (3, .int (nI (i))), (0, .ref (h 2)), (1, .ref (h 3)), (2, .int (nI (25 * q)))] := hl
    refine lv_goto (tgt := 116) hx hb d_X_mix_140 (by decide) ?_
    have hl : lv_has ls 8 [(7, .int (nI (5 * (k + 1)))), (5, .long (kc_D a x)), (4, .int (nI (x))), (3, .int (nI (i))), (0, .ref (h 2)), (1, .ref (h 3)), (2, .int (nI (25 * q)))] := lv_sub hl [0, 1, 2, 3, 4, 5, 6] rfl
    exact ih (k + 1) H locs ls _ (by omega) hl ⟨hP, hD, hS⟩ (by rw [kc_row_upd]; exact kc_th_step hth (by omega) (by omega) (by rw [e_v1]; rfl)) (kc_fr_upd hfr (by omega) _) K
set_option maxHeartbeats 4000000 in
theorem X_mix_T (S : CallFix p m c b_X_mix 8 s args kc_tbl R_X) (hK : va_K D kc_cl (kc_ty cJ cI cX) s) {N Sd a L0 : Nat → Int64} {q i : Nat} (hq : q < 9) (hSd : ∀ j, j < 5 → Sd j = kc_Cc a j) (n : Nat) : ∀ (x : Nat) (H : Heap) (locs : List Loc) (ls : Array Slot) (L : Nat → Int64), x + n = 5 → lv_has ls 8 [(4, .int (nI (x))), (3, .int (nI (i))), (0, .ref (h 2)), (1, .ref (h 3)), (2, .int (nI (25 * q)))] → kc_at D A s.heap H locs (kc_C h cJ cI (P) (L) (N) (Sd)) → (kc_th a (kc_row L q) x 0) → (kc_fr q L L0) → (∀ (H : Heap) (locs : List Loc) (ls : Array Slot) (L : Nat → Int64), lv_has ls 8 [(4, .int (nI (5))), (3, .int (nI (i))), (0, .ref (h 2)), (1, .ref (h 3)), (2, .int (nI (25 * q)))] → kc_at D A s.heap H locs (kc_C h cJ cI (P) (L) (N) (Sd)) → (kc_th a (kc_row L q) 5 0) → (kc_fr q L L0) → W p l e r_X_mix s m args below meth c H locs 0 0 Q (F0 m 149 ls [])) → W p l e r_X_mix s m args below meth c H locs 0 0 Q (F0 m 78 ls []) := by
  obtain ⟨hx, hb, hml, hown, hts⟩ := S
  induction n with
  | zero =>
    intro x H locs ls L hn hl hw hth hfr K
    obtain ⟨hP, hD, hS⟩ := hw
    obtain rfl : x = 5 := by omega
    refine lv_iload hx hb d_X_mix_78 (lv_at hl 0 rfl) ?_
    refine lv_iconst (v := nI 5) hx hb d_X_mix_80 (by decide +kernel) ?_
    refine kn_ge (tgt := 149) hx hb (by omega) (by omega) d_X_mix_81 (by decide) (fun _ => ?_) (fun hc => absurd hc (by omega))
    exact K H locs ls L hl ⟨hP, hD, hS⟩ hth hfr
  | succ n ih =>
    intro x H locs ls L hn hl hw hth hfr K
    obtain ⟨hP, hD, hS⟩ := hw
    refine lv_iload hx hb d_X_mix_78 (lv_at hl 0 rfl) ?_
    refine lv_iconst (v := nI 5) hx hb d_X_mix_80 (by decide +kernel) ?_
    refine kn_ge (tgt := 149) hx hb (by omega) (by omega) d_X_mix_81 (by decide) (fun hc => absurd hc (by omega)) (fun _ => ?_)
    refine lv_aload_n hx hb d_X_mix_84 rfl (lv_at hl 2 rfl) ?_
    refine kg_X hx hb hts hown hK hP 2 rfl 3 (by decide) kw_26 (v := .ref (h 7)) rfl d_X_mix_85 ?_
    refine lv_iload hx hb d_X_mix_88 (lv_at hl 0 rfl) ?_
    refine lv_iconst (v := nI 4) hx hb d_X_mix_90 (by decide +kernel) ?_
    refine kn_add hx hb d_X_mix_91 ?_
    refine lv_iconst (v := nI 5) hx hb d_X_mix_92 (by decide +kernel) ?_
    refine kn_rem hx hb (by omega) (by decide) (by decide) d_X_mix_93 ?_
    refine ka_lald (f := Sd) hx hb hK hP 7 0 rfl rfl (i := (x + 4) % 5) (by omega) (by decide) d_X_mix_94 ?_
    refine lv_aload_n hx hb d_X_mix_95 rfl (lv_at hl 2 rfl) ?_
    refine kg_X hx hb hts hown hK hP 2 rfl 3 (by decide) kw_26 (v := .ref (h 7)) rfl d_X_mix_96 ?_
    refine lv_iload hx hb d_X_mix_99 (lv_at hl 0 rfl) ?_
    refine lv_iconst (v := nI 1) hx hb d_X_mix_101 (by decide +kernel) ?_
    refine kn_add hx hb d_X_mix_102 ?_
    refine lv_iconst (v := nI 5) hx hb d_X_mix_103 (by decide +kernel) ?_
    refine kn_rem hx hb (by omega) (by decide) (by decide) d_X_mix_104 ?_
    refine ka_lald (f := Sd) hx hb hK hP 7 0 rfl rfl (i := (x + 1) % 5) (by omega) (by decide) d_X_mix_105 ?_
    refine lv_iconst (v := nI 1) hx hb d_X_mix_106 (by decide +kernel) ?_
    refine vp_callSl (va_Run.run (va_runS (As := [.long (Sd ((x + 1) % 5)), .int (nI (1))]) (rest := [.long (Sd ((x + 4) % 5))]) ⟨hx, hb, hml, hown, hts⟩ (c_X_turn l (Sd ((x + 1) % 5)) 1 (by omega)) (va_cwS 2 hts (kc_inS kw_136 kw_137 kw_2 kw_138) rfl rfl rfl (by decide +kernel) ⟨by decide, by decide⟩) kc_preP rfl rfl hl.1 rfl (lv_room (Nat.le_of_ble_eq_true rfl)) d_X_mix_107 ⟨by decide, by decide⟩)) (fun r1 e_r1 => ?_)
    subst e_r1
    refine lv_lxor hx hb d_X_mix_110 ?_
    refine kv_l (y := (kc_D a x)) (by rw [hSd _ (by omega), hSd _ (by omega)]; rfl) ?_
    refine lv_lstore hx hb d_X_mix_111 hl (by decide) rfl (fun ls hl => ?_)
    have hl : lv_has ls 8 [(5, .long (kc_D a x)), (4, .int (nI (x))), (3, .int (nI (i))), (0, .ref (h 2)), (1, .ref (h 3)), (2, .int (nI (25 * q)))] := hl
    refine lv_iconst (v := nI 0) hx hb d_X_mix_113 (by decide +kernel) ?_
    refine lv_istore hx hb d_X_mix_114 hl (by decide) rfl (fun ls hl => ?_)
    have hl : lv_has ls 8 [(7, .int (nI (0))), (5, .long (kc_D a x)), (4, .int (nI (x))), (3, .int (nI (i))), (0, .ref (h 2)), (1, .ref (h 3)), (2, .int (nI (25 * q)))] := hl
    have hl : lv_has ls 8 [(7, .int (nI (5 * 0))), (5, .long (kc_D a x)), (4, .int (nI (x))), (3, .int (nI (i))), (0, .ref (h 2)), (1, .ref (h 3)), (2, .int (nI (25 * q)))] := hl
    have hl : lv_has ls 8 [(7, .int (nI (0))), (5, .long (kc_D a x)), (4, .int (nI (x))), (3, .int (nI (i))), (0, .ref (h 2)), (1, .ref (h 3)), (2, .int (nI (25 * q)))] := lv_sub hl [0, 1, 2, 3, 4, 5, 6] rfl
    refine X_mix_Y ⟨hx, hb, hml, hown, hts⟩ hK hq (by omega) 5 0 H locs ls L (by omega) hl ⟨hP, hD, hS⟩ hth hfr (fun H locs ls L hl hw hth hfr => ?_)
    obtain ⟨hP, hD, hS⟩ := hw
    refine lv_iinc (k := 2) hx hb d_X_mix_143 hl rfl (kn_i1 _) (by decide) rfl (fun ls hl => ?_)
    have hl : lv_has ls 8 [(4, .int (nI (x + 1))), (7, .int (nI (5 * 5))), (5, .long (kc_D a x)), (3, .int (nI (i))), (0, .ref (h 2)), (1, .ref (h 3)), (2, .int (nI (25 * q)))] := hl
    refine lv_goto (tgt := 78) hx hb d_X_mix_146 (by decide) ?_
    have hl : lv_has ls 8 [(4, .int (nI (x + 1))), (3, .int (nI (i))), (0, .ref (h 2)), (1, .ref (h 3)), (2, .int (nI (25 * q)))] := lv_sub hl [0, 3, 4, 5, 6] rfl
    exact ih (x + 1) H locs ls L (by omega) hl ⟨hP, hD, hS⟩ (kc_th_next hth) hfr K
set_option maxHeartbeats 4000000 in
theorem X_mix_P (S : CallFix p m c b_X_mix 8 s args kc_tbl R_X) (hK : va_K D kc_cl (kc_ty cJ cI cX) s) {L Sd a : Nat → Int64} {q i x : Nat} (hq : q < 9) (hx5 : x < 5) (hB : kc_eq (kc_row L q) (kc_Bb a)) (n : Nat) : ∀ (y : Nat) (H : Heap) (locs : List Loc) (ls : Array Slot) (N : Nat → Int64), y + n = 5 → lv_has ls 8 [(5, .int (nI (y))), (4, .int (nI (x))), (3, .int (nI (i))), (0, .ref (h 2)), (1, .ref (h 3)), (2, .int (nI (25 * q)))] → kc_at D A s.heap H locs (kc_C h cJ cI (P) (L) (N) (Sd)) → (kc_rp a N x y) → (∀ (H : Heap) (locs : List Loc) (ls : Array Slot) (N : Nat → Int64), lv_has ls 8 [(5, .int (nI (5))), (4, .int (nI (x))), (3, .int (nI (i))), (0, .ref (h 2)), (1, .ref (h 3)), (2, .int (nI (25 * q)))] → kc_at D A s.heap H locs (kc_C h cJ cI (P) (L) (N) (Sd)) → (kc_rp a N x 5) → W p l e r_X_mix s m args below meth c H locs 0 0 Q (F0 m 220 ls [])) → W p l e r_X_mix s m args below meth c H locs 0 0 Q (F0 m 161 ls []) := by
  obtain ⟨hx, hb, hml, hown, hts⟩ := S
  induction n with
  | zero =>
    intro y H locs ls N hn hl hw hrp K
    obtain ⟨hP, hD, hS⟩ := hw
    obtain rfl : y = 5 := by omega
    refine lv_iload hx hb d_X_mix_161 (lv_at hl 0 rfl) ?_
    refine lv_iconst (v := nI 5) hx hb d_X_mix_163 (by decide +kernel) ?_
    refine kn_ge (tgt := 220) hx hb (by omega) (by omega) d_X_mix_164 (by decide) (fun _ => ?_) (fun hc => absurd hc (by omega))
    exact K H locs ls N hl ⟨hP, hD, hS⟩ hrp
  | succ n ih =>
    intro y H locs ls N hn hl hw hrp K
    obtain ⟨hP, hD, hS⟩ := hw
    refine lv_iload hx hb d_X_mix_161 (lv_at hl 0 rfl) ?_
    refine lv_iconst (v := nI 5) hx hb d_X_mix_163 (by decide +kernel) ?_
    refine kn_ge (tgt := 220) hx hb (by omega) (by omega) d_X_mix_164 (by decide) (fun hc => absurd hc (by omega)) (fun _ => ?_)
    refine lv_aload_n hx hb d_X_mix_167 rfl (lv_at hl 3 rfl) ?_
    refine kg_X hx hb hts hown hK hP 2 rfl 2 (by decide) kw_25 (v := .ref (h 6)) rfl d_X_mix_168 ?_
    refine lv_iload hx hb d_X_mix_171 (lv_at hl 0 rfl) ?_
    refine lv_iconst (v := nI 5) hx hb d_X_mix_173 (by decide +kernel) ?_
    refine lv_iconst (v := nI 2) hx hb d_X_mix_174 (by decide +kernel) ?_
    refine lv_iload hx hb d_X_mix_175 (lv_at hl 1 rfl) ?_
    refine kn_mul hx hb d_X_mix_177 ?_
    refine lv_iconst (v := nI 3) hx hb d_X_mix_178 (by decide +kernel) ?_
    refine lv_iload hx hb d_X_mix_179 (lv_at hl 0 rfl) ?_
    refine kn_mul hx hb d_X_mix_181 ?_
    refine kn_add hx hb d_X_mix_182 ?_
    refine lv_iconst (v := nI 5) hx hb d_X_mix_183 (by decide +kernel) ?_
    refine kn_rem hx hb (by omega) (by decide) (by decide) d_X_mix_184 ?_
    refine kn_mul hx hb d_X_mix_185 ?_
    refine kn_add hx hb d_X_mix_186 ?_
    refine lv_aload_n hx hb d_X_mix_187 rfl (lv_at hl 4 rfl) ?_
    refine lv_iload_n hx hb d_X_mix_188 rfl (lv_at hl 5 rfl) ?_
    refine lv_iload hx hb d_X_mix_189 (lv_at hl 1 rfl) ?_
    refine kn_add hx hb d_X_mix_191 ?_
    refine lv_iconst (v := nI 5) hx hb d_X_mix_192 (by decide +kernel) ?_
    refine lv_iload hx hb d_X_mix_193 (lv_at hl 0 rfl) ?_
    refine kn_mul hx hb d_X_mix_195 ?_
    refine kn_add hx hb d_X_mix_196 ?_
    refine kv_i (y := (nI (25 * q + (x + 5 * y)))) (by rw [Nat.add_assoc]) ?_
    refine ka_lald (f := L) hx hb hK hP 3 0 rfl rfl (i := 25 * q + (x + 5 * y)) (by omega) (by decide) d_X_mix_197 ?_
    refine lv_aload_n hx hb d_X_mix_198 rfl (lv_at hl 3 rfl) ?_
    refine kg_X hx hb hts hown hK hP 2 rfl 1 (by decide) kw_24 (v := .ref (h 5)) rfl d_X_mix_199 ?_
    refine lv_iload hx hb d_X_mix_202 (lv_at hl 1 rfl) ?_
    refine lv_iconst (v := nI 5) hx hb d_X_mix_204 (by decide +kernel) ?_
    refine lv_iload hx hb d_X_mix_205 (lv_at hl 0 rfl) ?_
    refine kn_mul hx hb d_X_mix_207 ?_
    refine kn_add hx hb d_X_mix_208 ?_
    refine ka_iald (f := kc_T) hx hb hK hP 5 1 rfl rfl (i := x + 5 * y) (by omega) (by decide) d_X_mix_209 ?_
    refine kv_i (y := (nI (kc_rho (x + 5 * y)))) (rfl) ?_
    refine vp_callSl (va_Run.run (va_runS (As := [.long (L (25 * q + (x + 5 * y))), .int (nI (kc_rho (x + 5 * y)))]) (rest := [.int (nI (y + (5 * ((2 * x + 3 * y) % 5)))), .ref (h 6)]) ⟨hx, hb, hml, hown, hts⟩ (c_X_turn l (L (25 * q + (x + 5 * y))) (kc_rho (x + 5 * y)) (kc_rho_lt _ (by omega))) (va_cwS 2 hts (kc_inS kw_136 kw_137 kw_2 kw_138) rfl rfl rfl (by decide +kernel) ⟨by decide, by decide⟩) kc_preP rfl rfl hl.1 rfl (lv_room (Nat.le_of_ble_eq_true rfl)) d_X_mix_210 ⟨by decide, by decide⟩)) (fun r1 e_r1 => ?_)
    subst e_r1
    refine lv_topl (fun v2 e_v2 => ?_)
    refine ka_last (f := N) hx hb hK hP hD hS 6 0 rfl rfl (i := y + (5 * ((2 * x + 3 * y) % 5))) (by omega) (by decide) d_X_mix_213 (fun H locs hP hD hS => ?_)
    have hP : va_P D kc_cl (kc_C h cJ cI (P) (L) (vp_updL N (y + (5 * ((2 * x + 3 * y) % 5))) (v2)) (Sd)) H := hP
    have hD : va_D A (kc_C h cJ cI (P) (L) (vp_updL N (y + (5 * ((2 * x + 3 * y) % 5))) (v2)) (Sd)) := hD
    refine lv_iinc (k := 0) hx hb d_X_mix_214 hl rfl (kn_i1 _) (by decide) rfl (fun ls hl => ?_)
    have hl : lv_has ls 8 [(5, .int (nI (y + 1))), (4, .int (nI (x))), (3, .int (nI (i))), (0, .ref (h 2)), (1, .ref (h 3)), (2, .int (nI (25 * q)))] := hl
    refine lv_goto (tgt := 161) hx hb d_X_mix_217 (by decide) ?_
    have hl : lv_has ls 8 [(5, .int (nI (y + 1))), (4, .int (nI (x))), (3, .int (nI (i))), (0, .ref (h 2)), (1, .ref (h 3)), (2, .int (nI (25 * q)))] := lv_sub hl [0, 1, 2, 3, 4, 5] rfl
    exact ih (y + 1) H locs ls _ (by omega) hl ⟨hP, hD, hS⟩ (kc_rp_step hrp (by omega) (by omega) (by rw [e_v2]; exact congrArg (fun z => kc_rl z _) (hB (x + 5 * y) (by omega)))) K
set_option maxHeartbeats 4000000 in
theorem X_mix_R (S : CallFix p m c b_X_mix 8 s args kc_tbl R_X) (hK : va_K D kc_cl (kc_ty cJ cI cX) s) {L Sd a : Nat → Int64} {q i : Nat} (hq : q < 9) (hB : kc_eq (kc_row L q) (kc_Bb a)) (n : Nat) : ∀ (x : Nat) (H : Heap) (locs : List Loc) (ls : Array Slot) (N : Nat → Int64), x + n = 5 → lv_has ls 8 [(4, .int (nI (x))), (3, .int (nI (i))), (0, .ref (h 2)), (1, .ref (h 3)), (2, .int (nI (25 * q)))] → kc_at D A s.heap H locs (kc_C h cJ cI (P) (L) (N) (Sd)) → (kc_rp a N x 0) → (∀ (H : Heap) (locs : List Loc) (ls : Array Slot) (N : Nat → Int64), lv_has ls 8 [(4, .int (nI (5))), (3, .int (nI (i))), (0, .ref (h 2)), (1, .ref (h 3)), (2, .int (nI (25 * q)))] → kc_at D A s.heap H locs (kc_C h cJ cI (P) (L) (N) (Sd)) → (kc_rp a N 5 0) → W p l e r_X_mix s m args below meth c H locs 0 0 Q (F0 m 226 ls [])) → W p l e r_X_mix s m args below meth c H locs 0 0 Q (F0 m 152 ls []) := by
  obtain ⟨hx, hb, hml, hown, hts⟩ := S
  induction n with
  | zero =>
    intro x H locs ls N hn hl hw hrp K
    obtain ⟨hP, hD, hS⟩ := hw
    obtain rfl : x = 5 := by omega
    refine lv_iload hx hb d_X_mix_152 (lv_at hl 0 rfl) ?_
    refine lv_iconst (v := nI 5) hx hb d_X_mix_154 (by decide +kernel) ?_
    refine kn_ge (tgt := 226) hx hb (by omega) (by omega) d_X_mix_155 (by decide) (fun _ => ?_) (fun hc => absurd hc (by omega))
    exact K H locs ls N hl ⟨hP, hD, hS⟩ hrp
  | succ n ih =>
    intro x H locs ls N hn hl hw hrp K
    obtain ⟨hP, hD, hS⟩ := hw
    refine lv_iload hx hb d_X_mix_152 (lv_at hl 0 rfl) ?_
    refine lv_iconst (v := nI 5) hx hb d_X_mix_154 (by decide +kernel) ?_
    refine kn_ge (tgt := 226) hx hb (by omega) (by omega) d_X_mix_155 (by decide) (fun hc => absurd hc (by omega)) (fun _ => ?_)
    refine lv_iconst (v := nI 0) hx hb d_X_mix_158 (by decide +kernel) ?_
    refine lv_istore hx hb d_X_mix_159 hl (by decide) rfl (fun ls hl => ?_)
    have hl : lv_has ls 8 [(5, .int (nI (0))), (4, .int (nI (x))), (3, .int (nI (i))), (0, .ref (h 2)), (1, .ref (h 3)), (2, .int (nI (25 * q)))] := hl
    have hl : lv_has ls 8 [(5, .int (nI (0))), (4, .int (nI (x))), (3, .int (nI (i))), (0, .ref (h 2)), (1, .ref (h 3)), (2, .int (nI (25 * q)))] := lv_sub hl [0, 1, 2, 3, 4, 5] rfl
    refine X_mix_P ⟨hx, hb, hml, hown, hts⟩ hK hq (by omega) hB 5 0 H locs ls N (by omega) hl ⟨hP, hD, hS⟩ hrp (fun H locs ls N hl hw hrp => ?_)
    obtain ⟨hP, hD, hS⟩ := hw
    refine lv_iinc (k := 1) hx hb d_X_mix_220 hl rfl (kn_i1 _) (by decide) rfl (fun ls hl => ?_)
    have hl : lv_has ls 8 [(4, .int (nI (x + 1))), (5, .int (nI (5))), (3, .int (nI (i))), (0, .ref (h 2)), (1, .ref (h 3)), (2, .int (nI (25 * q)))] := hl
    refine lv_goto (tgt := 152) hx hb d_X_mix_223 (by decide) ?_
    have hl : lv_has ls 8 [(4, .int (nI (x + 1))), (3, .int (nI (i))), (0, .ref (h 2)), (1, .ref (h 3)), (2, .int (nI (25 * q)))] := lv_sub hl [0, 2, 3, 4, 5] rfl
    exact ih (x + 1) H locs ls N (by omega) hl ⟨hP, hD, hS⟩ (kc_rp_next hrp) K
set_option maxHeartbeats 4000000 in
theorem X_mix_H (S : CallFix p m c b_X_mix 8 s args kc_tbl R_X) (hK : va_K D kc_cl (kc_ty cJ cI cX) s) {N Sd a L0 : Nat → Int64} {q i k : Nat} (hq : q < 9) (hk5 : k < 5) (hN : kc_eq N (kc_Mm a)) (n : Nat) : ∀ (x : Nat) (H : Heap) (locs : List Loc) (ls : Array Slot) (L : Nat → Int64), x + n = 5 → lv_has ls 8 [(5, .int (nI (x))), (4, .int (nI (5 * k))), (3, .int (nI (i))), (0, .ref (h 2)), (1, .ref (h 3)), (2, .int (nI (25 * q)))] → kc_at D A s.heap H locs (kc_C h cJ cI (P) (L) (N) (Sd)) → (kc_ch a (kc_row L q) (x + 5 * k)) → (kc_fr q L L0) → (∀ (H : Heap) (locs : List Loc) (ls : Array Slot) (L : Nat → Int64), lv_has ls 8 [(5, .int (nI (5))), (4, .int (nI (5 * k))), (3, .int (nI (i))), (0, .ref (h 2)), (1, .ref (h 3)), (2, .int (nI (25 * q)))] → kc_at D A s.heap H locs (kc_C h cJ cI (P) (L) (N) (Sd)) → (kc_ch a (kc_row L q) (5 + 5 * k)) → (kc_fr q L L0) → W p l e r_X_mix s m args below meth c H locs 0 0 Q (F0 m 304 ls [])) → W p l e r_X_mix s m args below meth c H locs 0 0 Q (F0 m 239 ls []) := by
  obtain ⟨hx, hb, hml, hown, hts⟩ := S
  induction n with
  | zero =>
    intro x H locs ls L hn hl hw hch hfr K
    obtain ⟨hP, hD, hS⟩ := hw
    obtain rfl : x = 5 := by omega
    refine lv_iload hx hb d_X_mix_239 (lv_at hl 0 rfl) ?_
    refine lv_iconst (v := nI 5) hx hb d_X_mix_241 (by decide +kernel) ?_
    refine kn_ge (tgt := 304) hx hb (by omega) (by omega) d_X_mix_242 (by decide) (fun _ => ?_) (fun hc => absurd hc (by omega))
    exact K H locs ls L hl ⟨hP, hD, hS⟩ hch hfr
  | succ n ih =>
    intro x H locs ls L hn hl hw hch hfr K
    obtain ⟨hP, hD, hS⟩ := hw
    refine lv_iload hx hb d_X_mix_239 (lv_at hl 0 rfl) ?_
    refine lv_iconst (v := nI 5) hx hb d_X_mix_241 (by decide +kernel) ?_
    refine kn_ge (tgt := 304) hx hb (by omega) (by omega) d_X_mix_242 (by decide) (fun hc => absurd hc (by omega)) (fun _ => ?_)
    refine lv_aload_n hx hb d_X_mix_245 rfl (lv_at hl 4 rfl) ?_
    refine lv_iload_n hx hb d_X_mix_246 rfl (lv_at hl 5 rfl) ?_
    refine lv_iload hx hb d_X_mix_247 (lv_at hl 0 rfl) ?_
    refine kn_add hx hb d_X_mix_249 ?_
    refine lv_iload hx hb d_X_mix_250 (lv_at hl 1 rfl) ?_
    refine kn_add hx hb d_X_mix_252 ?_
    refine kv_i (y := (nI (25 * q + (x + 5 * k)))) (by rw [Nat.add_assoc]) ?_
    refine lv_aload_n hx hb d_X_mix_253 rfl (lv_at hl 3 rfl) ?_
    refine kg_X hx hb hts hown hK hP 2 rfl 2 (by decide) kw_25 (v := .ref (h 6)) rfl d_X_mix_254 ?_
    refine lv_iload hx hb d_X_mix_257 (lv_at hl 0 rfl) ?_
    refine lv_iload hx hb d_X_mix_259 (lv_at hl 1 rfl) ?_
    refine kn_add hx hb d_X_mix_261 ?_
    refine ka_lald (f := N) hx hb hK hP 6 0 rfl rfl (i := x + 5 * k) (by omega) (by decide) d_X_mix_262 ?_
    refine lv_aload_n hx hb d_X_mix_263 rfl (lv_at hl 3 rfl) ?_
    refine kg_X hx hb hts hown hK hP 2 rfl 2 (by decide) kw_25 (v := .ref (h 6)) rfl d_X_mix_264 ?_
    refine lv_iload hx hb d_X_mix_267 (lv_at hl 0 rfl) ?_
    refine lv_iconst (v := nI 1) hx hb d_X_mix_269 (by decide +kernel) ?_
    refine kn_add hx hb d_X_mix_270 ?_
    refine lv_iconst (v := nI 5) hx hb d_X_mix_271 (by decide +kernel) ?_
    refine kn_rem hx hb (by omega) (by decide) (by decide) d_X_mix_272 ?_
    refine lv_iload hx hb d_X_mix_273 (lv_at hl 1 rfl) ?_
    refine kn_add hx hb d_X_mix_275 ?_
    refine ka_lald (f := N) hx hb hK hP 6 0 rfl rfl (i := (x + 1) % 5 + 5 * k) (by omega) (by decide) d_X_mix_276 ?_
    refine lv_ldc2 (v := (-1)) hx hb hown (hts _ kw_139) d_X_mix_277 ?_
    refine lv_lxor hx hb d_X_mix_280 ?_
    refine lv_aload_n hx hb d_X_mix_281 rfl (lv_at hl 3 rfl) ?_
    refine kg_X hx hb hts hown hK hP 2 rfl 2 (by decide) kw_25 (v := .ref (h 6)) rfl d_X_mix_282 ?_
    refine lv_iload hx hb d_X_mix_285 (lv_at hl 0 rfl) ?_
    refine lv_iconst (v := nI 2) hx hb d_X_mix_287 (by decide +kernel) ?_
    refine kn_add hx hb d_X_mix_288 ?_
    refine lv_iconst (v := nI 5) hx hb d_X_mix_289 (by decide +kernel) ?_
    refine kn_rem hx hb (by omega) (by decide) (by decide) d_X_mix_290 ?_
    refine lv_iload hx hb d_X_mix_291 (lv_at hl 1 rfl) ?_
    refine kn_add hx hb d_X_mix_293 ?_
    refine ka_lald (f := N) hx hb hK hP 6 0 rfl rfl (i := (x + 2) % 5 + 5 * k) (by omega) (by decide) d_X_mix_294 ?_
    refine lv_land hx hb d_X_mix_295 ?_
    refine lv_lxor hx hb d_X_mix_296 ?_
    refine lv_topl (fun v1 e_v1 => ?_)
    refine ka_last (f := L) hx hb hK hP hD hS 3 0 rfl rfl (i := 25 * q + (x + 5 * k)) (by omega) (by decide) d_X_mix_297 (fun H locs hP hD hS => ?_)
    have hP : va_P D kc_cl (kc_C h cJ cI (P) (vp_updL L (25 * q + (x + 5 * k)) (v1)) (N) (Sd)) H := hP
    have hD : va_D A (kc_C h cJ cI (P) (vp_updL L (25 * q + (x + 5 * k)) (v1)) (N) (Sd)) := hD
    refine lv_iinc (k := 0) hx hb d_X_mix_298 hl rfl (kn_i1 _) (by decide) rfl (fun ls hl => ?_)
    have hl : lv_has ls 8 [(5, .int (nI (x + 1))), (4, .int (nI (5 * k))), (3, .int (nI (i))), (0, .ref (h 2)), (1, .ref (h 3)), (2, .int (nI (25 * q)))] := hl
    refine lv_goto (tgt := 239) hx hb d_X_mix_301 (by decide) ?_
    have hl : lv_has ls 8 [(5, .int (nI (x + 1))), (4, .int (nI (5 * k))), (3, .int (nI (i))), (0, .ref (h 2)), (1, .ref (h 3)), (2, .int (nI (25 * q)))] := lv_sub hl [0, 1, 2, 3, 4, 5] rfl
    exact ih (x + 1) H locs ls _ (by omega) hl ⟨hP, hD, hS⟩ (by rw [kc_row_upd]; exact kc_ch_step hch (by omega) (by omega) hN (by rw [e_v1])) (kc_fr_upd hfr (by omega) _) K
set_option maxHeartbeats 4000000 in
theorem X_mix_I (S : CallFix p m c b_X_mix 8 s args kc_tbl R_X) (hK : va_K D kc_cl (kc_ty cJ cI cX) s) {N Sd a L0 : Nat → Int64} {q i : Nat} (hq : q < 9) (hN : kc_eq N (kc_Mm a)) (n : Nat) : ∀ (k : Nat) (H : Heap) (locs : List Loc) (ls : Array Slot) (L : Nat → Int64), k + n = 5 → lv_has ls 8 [(4, .int (nI (5 * k))), (3, .int (nI (i))), (0, .ref (h 2)), (1, .ref (h 3)), (2, .int (nI (25 * q)))] → kc_at D A s.heap H locs (kc_C h cJ cI (P) (L) (N) (Sd)) → (kc_ch a (kc_row L q) (5 * k)) → (kc_fr q L L0) → (∀ (H : Heap) (locs : List Loc) (ls : Array Slot) (L : Nat → Int64), lv_has ls 8 [(4, .int (nI (5 * 5))), (3, .int (nI (i))), (0, .ref (h 2)), (1, .ref (h 3)), (2, .int (nI (25 * q)))] → kc_at D A s.heap H locs (kc_C h cJ cI (P) (L) (N) (Sd)) → (kc_ch a (kc_row L q) (5 * 5)) → (kc_fr q L L0) → W p l e r_X_mix s m args below meth c H locs 0 0 Q (F0 m 310 ls [])) → W p l e r_X_mix s m args below meth c H locs 0 0 Q (F0 m 229 ls []) := by
  obtain ⟨hx, hb, hml, hown, hts⟩ := S
  induction n with
  | zero =>
    intro k H locs ls L hn hl hw hch hfr K
    obtain ⟨hP, hD, hS⟩ := hw
    obtain rfl : k = 5 := by omega
    refine lv_iload hx hb d_X_mix_229 (lv_at hl 0 rfl) ?_
    refine lv_bipush (v := nI 25) hx hb d_X_mix_231 (by decide +kernel) ?_
    refine kn_ge (tgt := 310) hx hb (by omega) (by omega) d_X_mix_233 (by decide) (fun _ => ?_) (fun hc => absurd hc (by omega))
    exact K H locs ls L hl ⟨hP, hD, hS⟩ hch hfr
  | succ n ih =>
    intro k H locs ls L hn hl hw hch hfr K
    obtain ⟨hP, hD, hS⟩ := hw
    refine lv_iload hx hb d_X_mix_229 (lv_at hl 0 rfl) ?_
    refine lv_bipush (v := nI 25) hx hb d_X_mix_231 (by decide +kernel) ?_
    refine kn_ge (tgt := 310) hx hb (by omega) (by omega) d_X_mix_233 (by decide) (fun hc => absurd hc (by omega)) (fun _ => ?_)
    refine lv_iconst (v := nI 0) hx hb d_X_mix_236 (by decide +kernel) ?_
    refine lv_istore hx hb d_X_mix_237 hl (by decide) rfl (fun ls hl => ?_)
    have hl : lv_has ls 8 [(5, .int (nI (0))), (4, .int (nI (5 * k))), (3, .int (nI (i))), (0, .ref (h 2)), (1, .ref (h 3)), (2, .int (nI (25 * q)))] := hl
    have hl : lv_has ls 8 [(5, .int (nI (0))), (4, .int (nI (5 * k))), (3, .int (nI (i))), (0, .ref (h 2)), (1, .ref (h 3)), (2, .int (nI (25 * q)))] := lv_sub hl [0, 1, 2, 3, 4, 5] rfl
    refine X_mix_H ⟨hx, hb, hml, hown, hts⟩ hK hq (by omega) hN 5 0 H locs ls L (by omega) hl ⟨hP, hD, hS⟩ (by rw [Nat.zero_add]; exact hch) hfr (fun H locs ls L hl hw hch hfr => ?_)
    obtain ⟨hP, hD, hS⟩ := hw
    refine lv_iinc (k := 1) hx hb d_X_mix_304 hl rfl (kn_i5 _) (by decide) rfl (fun ls hl => ?_)
    have hl : lv_has ls 8 [(4, .int (nI (5 * k + 5))), (5, .int (nI (5))), (3, .int (nI (i))), (0, .ref (h 2)), (1, .ref (h 3)), (2, .int (nI (25 * q)))] := hl
    refine lv_goto (tgt := 229) hx hb d_X_mix_307 (by decide) ?_
    have hl : lv_has ls 8 [(4, .int (nI (5 * (k + 1)))), (3, .int (nI (i))), (0, .ref (h 2)), (1, .ref (h 3)), (2, .int (nI (25 * q)))] := lv_sub hl [0, 2, 3, 4, 5] rfl
    exact ih (k + 1) H locs ls L (by omega) hl ⟨hP, hD, hS⟩ (by rw [show 5 * (k + 1) = 5 + 5 * k by omega]; exact hch) hfr K
set_option maxHeartbeats 4000000 in
theorem X_mix_L (S : CallFix p m c b_X_mix 8 s args kc_tbl R_X) (hK : va_K D kc_cl (kc_ty cJ cI cX) s) {L0 a0 : Nat → Int64} {q : Nat} (hq : q < 9) (n : Nat) : ∀ (i : Nat) (H : Heap) (locs : List Loc) (ls : Array Slot) (L N Sd : Nat → Int64), i + n = 24 → lv_has ls 8 [(3, .int (nI (i))), (0, .ref (h 2)), (1, .ref (h 3)), (2, .int (nI (25 * q)))] → kc_at D A s.heap H locs (kc_C h cJ cI (P) (L) (N) (Sd)) → (kc_eq (kc_row L q) (kc_perm i a0)) → (kc_fr q L L0) → (∀ (H : Heap) (locs : List Loc) (ls : Array Slot) (L N Sd : Nat → Int64), lv_has ls 8 [(3, .int (nI (24))), (0, .ref (h 2)), (1, .ref (h 3)), (2, .int (nI (25 * q)))] → kc_at D A s.heap H locs (kc_C h cJ cI (P) (L) (N) (Sd)) → (kc_eq (kc_row L q) (kc_perm 24 a0)) → (kc_fr q L L0) → W p l e r_X_mix s m args below meth c H locs 0 0 Q (F0 m 330 ls [])) → W p l e r_X_mix s m args below meth c H locs 0 0 Q (F0 m 2 ls []) := by
  obtain ⟨hx, hb, hml, hown, hts⟩ := S
  induction n with
  | zero =>
    intro i H locs ls L N Sd hn hl hw hpm hfr K
    obtain ⟨hP, hD, hS⟩ := hw
    obtain rfl : i = 24 := by omega
    refine lv_iload_n hx hb d_X_mix_2 rfl (lv_at hl 0 rfl) ?_
    refine lv_bipush (v := nI 24) hx hb d_X_mix_3 (by decide +kernel) ?_
    refine kn_ge (tgt := 330) hx hb (by omega) (by omega) d_X_mix_5 (by decide) (fun _ => ?_) (fun hc => absurd hc (by omega))
    exact K H locs ls L N Sd hl ⟨hP, hD, hS⟩ hpm hfr
  | succ n ih =>
    intro i H locs ls L N Sd hn hl hw hpm hfr K
    obtain ⟨hP, hD, hS⟩ := hw
    refine lv_iload_n hx hb d_X_mix_2 rfl (lv_at hl 0 rfl) ?_
    refine lv_bipush (v := nI 24) hx hb d_X_mix_3 (by decide +kernel) ?_
    refine kn_ge (tgt := 330) hx hb (by omega) (by omega) d_X_mix_5 (by decide) (fun hc => absurd hc (by omega)) (fun _ => ?_)
    refine lv_iconst (v := nI 0) hx hb d_X_mix_8 (by decide +kernel) ?_
    refine lv_istore hx hb d_X_mix_9 hl (by decide) rfl (fun ls hl => ?_)
    have hl : lv_has ls 8 [(4, .int (nI (0))), (3, .int (nI (i))), (0, .ref (h 2)), (1, .ref (h 3)), (2, .int (nI (25 * q)))] := hl
    have hl : lv_has ls 8 [(4, .int (nI (0))), (3, .int (nI (i))), (0, .ref (h 2)), (1, .ref (h 3)), (2, .int (nI (25 * q)))] := lv_sub hl [0, 1, 2, 3, 4] rfl
    refine X_mix_C ⟨hx, hb, hml, hown, hts⟩ hK hq 5 0 H locs ls Sd (by omega) hl ⟨hP, hD, hS⟩ (fun j hj => absurd hj (by omega)) (fun H locs ls Sd hl hw hSd => ?_)
    obtain ⟨hP, hD, hS⟩ := hw
    refine lv_iconst (v := nI 0) hx hb d_X_mix_75 (by decide +kernel) ?_
    refine lv_istore hx hb d_X_mix_76 hl (by decide) rfl (fun ls hl => ?_)
    have hl : lv_has ls 8 [(4, .int (nI (0))), (3, .int (nI (i))), (0, .ref (h 2)), (1, .ref (h 3)), (2, .int (nI (25 * q)))] := hl
    have hl : lv_has ls 8 [(4, .int (nI (0))), (3, .int (nI (i))), (0, .ref (h 2)), (1, .ref (h 3)), (2, .int (nI (25 * q)))] := lv_sub hl [0, 1, 2, 3, 4] rfl
    obtain ⟨a, ha⟩ : ∃ a, a = kc_row L q := ⟨_, rfl⟩
    rw [← ha] at hSd
    refine X_mix_T ⟨hx, hb, hml, hown, hts⟩ hK (a := a) (L0 := L) hq hSd 5 0 H locs ls L (by omega) hl ⟨hP, hD, hS⟩ (kc_th_0 (by rw [ha]; exact kc_eq.rf)) kc_fr_rf (fun H locs ls L1 hl hw hth hfr1 => ?_)
    obtain ⟨hP, hD, hS⟩ := hw
    refine lv_iconst (v := nI 0) hx hb d_X_mix_149 (by decide +kernel) ?_
    refine lv_istore hx hb d_X_mix_150 hl (by decide) rfl (fun ls hl => ?_)
    have hl : lv_has ls 8 [(4, .int (nI (0))), (3, .int (nI (i))), (0, .ref (h 2)), (1, .ref (h 3)), (2, .int (nI (25 * q)))] := hl
    have hl : lv_has ls 8 [(4, .int (nI (0))), (3, .int (nI (i))), (0, .ref (h 2)), (1, .ref (h 3)), (2, .int (nI (25 * q)))] := lv_sub hl [0, 1, 2, 3, 4] rfl
    refine X_mix_R ⟨hx, hb, hml, hown, hts⟩ hK (a := a) hq (kc_th_end hth) 5 0 H locs ls N (by omega) hl ⟨hP, hD, hS⟩ kc_rp_0 (fun H locs ls N hl hw hrp => ?_)
    obtain ⟨hP, hD, hS⟩ := hw
    refine lv_iconst (v := nI 0) hx hb d_X_mix_226 (by decide +kernel) ?_
    refine lv_istore hx hb d_X_mix_227 hl (by decide) rfl (fun ls hl => ?_)
    have hl : lv_has ls 8 [(4, .int (nI (0))), (3, .int (nI (i))), (0, .ref (h 2)), (1, .ref (h 3)), (2, .int (nI (25 * q)))] := hl
    have hl : lv_has ls 8 [(4, .int (nI (5 * 0))), (3, .int (nI (i))), (0, .ref (h 2)), (1, .ref (h 3)), (2, .int (nI (25 * q)))] := lv_sub hl [0, 1, 2, 3, 4] rfl
    refine X_mix_I ⟨hx, hb, hml, hown, hts⟩ hK (a := a) (L0 := L) hq (kc_rp_end hrp) 5 0 H locs ls L1 (by omega) hl ⟨hP, hD, hS⟩ (fun c hc => absurd hc (by omega)) hfr1 (fun H locs ls L2 hl hw hch hfr2 => ?_)
    obtain ⟨hP, hD, hS⟩ := hw
    refine lv_aload_n hx hb d_X_mix_310 rfl (lv_at hl 3 rfl) ?_
    refine lv_iload_n hx hb d_X_mix_311 rfl (lv_at hl 4 rfl) ?_
    refine lv_iconst (v := nI 0) hx hb d_X_mix_312 (by decide +kernel) ?_
    refine kn_add hx hb d_X_mix_313 ?_
    refine lv_dup2_11 hx hb d_X_mix_314 rfl rfl ?_
    refine ka_lald (f := L2) hx hb hK hP 3 0 rfl rfl (i := 25 * q + 0) (by omega) (by decide) d_X_mix_315 ?_
    refine lv_aload_n hx hb d_X_mix_316 rfl (lv_at hl 2 rfl) ?_
    refine kg_X hx hb hts hown hK hP 2 rfl 0 (by decide) kw_23 (v := .ref (h 4)) rfl d_X_mix_317 ?_
    refine lv_iload_n hx hb d_X_mix_320 rfl (lv_at hl 1 rfl) ?_
    refine ka_lald (f := kc_R) hx hb hK hP 4 0 rfl rfl (i := i) (by omega) (by decide) d_X_mix_321 ?_
    refine lv_lxor hx hb d_X_mix_322 ?_
    refine lv_topl (fun v1 e_v1 => ?_)
    refine ka_last (f := L2) hx hb hK hP hD hS 3 0 rfl rfl (i := 25 * q + 0) (by omega) (by decide) d_X_mix_323 (fun H locs hP hD hS => ?_)
    have hP : va_P D kc_cl (kc_C h cJ cI (P) (vp_updL L2 (25 * q + 0) (v1)) (N) (Sd)) H := hP
    have hD : va_D A (kc_C h cJ cI (P) (vp_updL L2 (25 * q + 0) (v1)) (N) (Sd)) := hD
    refine lv_iinc (k := 1) hx hb d_X_mix_324 hl rfl (kn_i1 _) (by decide) rfl (fun ls hl => ?_)
    have hl : lv_has ls 8 [(3, .int (nI (i + 1))), (4, .int (nI (5 * 5))), (0, .ref (h 2)), (1, .ref (h 3)), (2, .int (nI (25 * q)))] := hl
    refine lv_goto (tgt := 2) hx hb d_X_mix_327 (by decide) ?_
    have hl : lv_has ls 8 [(3, .int (nI (i + 1))), (0, .ref (h 2)), (1, .ref (h 3)), (2, .int (nI (25 * q)))] := lv_sub hl [0, 2, 3, 4] rfl
    have hend : kc_eq (kc_row (vp_updL L2 (25 * q + 0) v1) q) (kc_round (kc_R i) a) := by rw [kc_row_upd]; exact kc_round_end hch (by rw [e_v1]; rfl)
    exact ih (i + 1) H locs ls _ N Sd (by omega) hl ⟨hP, hD, hS⟩ (hend.trans (kc_eq_round (by rw [ha]; exact hpm) _)) (kc_fr_tr (kc_fr_upd hfr2 (by omega) _) hfr) K
end XMIX
set_option maxHeartbeats 4000000 in
/-- Mixer.mix(lanes, 25 q): row q is permuted, the other rows stay -/
theorem c_X_mix (l : Launch) (D : va_G) (h : Nat → Nat) (cJ cI cX : ClassId) (P : Nat → Int32) (L N Sd : Nat → Int64) (q sz : Nat) (hq : q < 9) : kc_Mv l y_X_mix w_X_mix r_X_mix [.ref (h 2), .ref (h 3), .int (nI (25 * q))] D (kc_ty cJ cI cX) (kc_C h cJ cI P L N Sd) sz (fun u : (Nat → Int64) × (Nat → Int64) × (Nat → Int64) => kc_eq (kc_row u.1 q) (kc_perm 24 (kc_row L q)) ∧ kc_fr q u.1 L) (fun u => kc_C h cJ cI P u.1 u.2.1 u.2.2) 0 0 := by
  refine kc_ofWv (cc := b_X_mix) (maxL := 8) (by decide) rfl (Nat.le_of_ble_eq_true rfl) ?_
  intro p e s m below meth c A ls S hr hlk hin hK hP hD hA hl hsz
  obtain ⟨hx, hb, hml, hown, hts⟩ := S
  have hS : va_S A s.heap s.heap [] := va_S.rf
  have hl : lv_has ls 8 [(0, .ref (h 2)), (1, .ref (h 3)), (2, .int (nI (25 * q)))] := hl
  refine lv_iconst (v := nI 0) hx hb d_X_mix_0 (by decide +kernel) ?_
  refine lv_istore_n hx hb d_X_mix_1 rfl hl (by decide) rfl (fun ls hl => ?_)
  have hl : lv_has ls 8 [(3, .int (nI (0))), (0, .ref (h 2)), (1, .ref (h 3)), (2, .int (nI (25 * q)))] := hl
  have hl : lv_has ls 8 [(3, .int (nI (0))), (0, .ref (h 2)), (1, .ref (h 3)), (2, .int (nI (25 * q)))] := lv_sub hl [0, 1, 2, 3] rfl
  refine X_mix_L ⟨hx, hb, hml, hown, hts⟩ hK (L0 := L) (a0 := kc_row L q) hq 24 0 s.heap [] ls L N Sd (by omega) hl ⟨hP, hD, hS⟩ kc_eq.rf kc_fr_rf (fun H locs ls L N Sd hl hw hpm hfr => ?_)
  obtain ⟨hP, hD, hS⟩ := hw
  exact kc_vret hx hb hr hlk (L, N, Sd) ⟨hpm, hfr⟩ hP hD hS d_X_mix_330
end
section
/-! KeccakLanesModel.permute (rows printed by gen10.py) -/
abbrev r_M_permute : Room := { frames := 1, cells := 0, slots := 0, locals := 22 }
section MPERM
variable {p : Program} {l : Launch} {e : Env} {s : State} {m : MethodId} {args : Array Value} {below : List Frame} {meth : Method} {c : Code} {Q : State → Prop} {D : va_G} {A : Nat → Prop} {h : Nat → Nat} {cJ cI cX : ClassId} {fl : Int32} {P : Nat → Int32} {M : Nat → Nat → Int64}
set_option maxHeartbeats 4000000 in
theorem M_perm_C (S : CallFix p m c b_M_permute 6 s args kc_tbl R_M) (hK : va_K D kc_cl (kc_ty cJ cI cX) s) {La Mv : Nat → Int64} {i : Nat} (n : Nat) : ∀ (x : Nat) (H : Heap) (locs : List Loc) (ls : Array Slot) (Co : Nat → Int64), x + n = 5 → lv_has ls 6 [(2, .int (nI (x))), (1, .int (nI (i))), (0, .ref (h 0))] → kc_at D A s.heap H locs (kc_Mw h cJ cI cX (fl) (P) (La) (Co) (Mv) (M)) → (∀ j, j < x → Co j = kc_Cc La j) → (∀ (H : Heap) (locs : List Loc) (ls : Array Slot) (Co : Nat → Int64), lv_has ls 6 [(2, .int (nI (5))), (1, .int (nI (i))), (0, .ref (h 0))] → kc_at D A s.heap H locs (kc_Mw h cJ cI cX (fl) (P) (La) (Co) (Mv) (M)) → (∀ j, j < 5 → Co j = kc_Cc La j) → W p l e r_M_permute s m args below meth c H locs 0 0 Q (F0 m 72 ls [])) → W p l e r_M_permute s m args below meth c H locs 0 0 Q (F0 m 10 ls []) := by
  obtain ⟨hx, hb, hml, hown, hts⟩ := S
  induction n with
  | zero =>
    intro x H locs ls Co hn hl hw hinv K
    obtain ⟨hP, hD, hS⟩ := hw
    obtain rfl : x = 5 := by omega
    refine lv_iload_n hx hb d_M_permute_10 rfl (lv_at hl 0 rfl) ?_
    refine lv_iconst (v := nI 5) hx hb d_M_permute_11 (by decide +kernel) ?_
    refine kn_ge (tgt := 72) hx hb (by omega) (by omega) d_M_permute_12 (by decide) (fun _ => ?_) (fun hc => absurd hc (by omega))
    exact K H locs ls Co hl ⟨hP, hD, hS⟩ hinv
  | succ n ih =>
    intro x H locs ls Co hn hl hw hinv K
    obtain ⟨hP, hD, hS⟩ := hw
    refine lv_iload_n hx hb d_M_permute_10 rfl (lv_at hl 0 rfl) ?_
    refine lv_iconst (v := nI 5) hx hb d_M_permute_11 (by decide +kernel) ?_
    refine kn_ge (tgt := 72) hx hb (by omega) (by omega) d_M_permute_12 (by decide) (fun hc => absurd hc (by omega)) (fun _ => ?_)
    refine lv_aload_n hx hb d_M_permute_15 rfl (lv_at hl 2 rfl) ?_
    refine kg_M hx hb hts hown hK hP 0 rfl 4 (by decide) kw_195 (v := .ref (h 4)) rfl d_M_permute_16 ?_
    refine lv_iload_n hx hb d_M_permute_19 rfl (lv_at hl 0 rfl) ?_
    refine lv_aload_n hx hb d_M_permute_20 rfl (lv_at hl 2 rfl) ?_
    refine kg_M hx hb hts hown hK hP 0 rfl 3 (by decide) kw_194 (v := .ref (h 3)) rfl d_M_permute_21 ?_
    refine lv_iload_n hx hb d_M_permute_24 rfl (lv_at hl 0 rfl) ?_
    refine ka_lald (f := La) hx hb hK hP 3 0 rfl rfl (i := x) (by omega) (by decide) d_M_permute_25 ?_
    refine lv_aload_n hx hb d_M_permute_26 rfl (lv_at hl 2 rfl) ?_
    refine kg_M hx hb hts hown hK hP 0 rfl 3 (by decide) kw_194 (v := .ref (h 3)) rfl d_M_permute_27 ?_
    refine lv_iload_n hx hb d_M_permute_30 rfl (lv_at hl 0 rfl) ?_
    refine lv_iconst (v := nI 5) hx hb d_M_permute_31 (by decide +kernel) ?_
    refine kn_add hx hb d_M_permute_32 ?_
    refine ka_lald (f := La) hx hb hK hP 3 0 rfl rfl (i := x + 5) (by omega) (by decide) d_M_permute_33 ?_
    refine lv_lxor hx hb d_M_permute_34 ?_
    refine lv_aload_n hx hb d_M_permute_35 rfl (lv_at hl 2 rfl) ?_
    refine kg_M hx hb hts hown hK hP 0 rfl 3 (by decide) kw_194 (v := .ref (h 3)) rfl d_M_permute_36 ?_
    refine lv_iload_n hx hb d_M_permute_39 rfl (lv_at hl 0 rfl) ?_
    refine lv_bipush (v := nI 10) hx hb d_M_permute_40 (by decide +kernel) ?_
    refine kn_add hx hb d_M_permute_42 ?_
    refine ka_lald (f := La) hx hb hK hP 3 0 rfl rfl (i := x + 10) (by omega) (by decide) d_M_permute_43 ?_
    refine lv_lxor hx hb d_M_permute_44 ?_
    refine lv_aload_n hx hb d_M_permute_45 rfl (lv_at hl 2 rfl) ?_
    refine kg_M hx hb hts hown hK hP 0 rfl 3 (by decide) kw_194 (v := .ref (h 3)) rfl d_M_permute_46 ?_
    refine lv_iload_n hx hb d_M_permute_49 rfl (lv_at hl 0 rfl) ?_
    refine lv_bipush (v := nI 15) hx hb d_M_permute_50 (by decide +kernel) ?_
    refine kn_add hx hb d_M_permute_52 ?_
    refine ka_lald (f := La) hx hb hK hP 3 0 rfl rfl (i := x + 15) (by omega) (by decide) d_M_permute_53 ?_
    refine lv_lxor hx hb d_M_permute_54 ?_
    refine lv_aload_n hx hb d_M_permute_55 rfl (lv_at hl 2 rfl) ?_
    refine kg_M hx hb hts hown hK hP 0 rfl 3 (by decide) kw_194 (v := .ref (h 3)) rfl d_M_permute_56 ?_
    refine lv_iload_n hx hb d_M_permute_59 rfl (lv_at hl 0 rfl) ?_
    refine lv_bipush (v := nI 20) hx hb d_M_permute_60 (by decide +kernel) ?_
    refine kn_add hx hb d_M_permute_62 ?_
    refine ka_lald (f := La) hx hb hK hP 3 0 rfl rfl (i := x + 20) (by omega) (by decide) d_M_permute_63 ?_
    refine lv_lxor hx hb d_M_permute_64 ?_
    refine lv_topl (fun v1 e_v1 => ?_)
    refine ka_last (f := Co) hx hb hK hP hD hS 4 0 rfl rfl (i := x) (by omega) (by decide) d_M_permute_65 (fun H locs hP hD hS => ?_)
    have hP : va_P D kc_cl (kc_Mw h cJ cI cX (fl) (P) (La) (vp_updL Co (x) (v1)) (Mv) (M)) H := hP
    have hD : va_D A (kc_Mw h cJ cI cX (fl) (P) (La) (vp_updL Co (x) (v1)) (Mv) (M)) := hD
    refine lv_iinc (k := 0) hx hb d_M_permute_66 hl rfl (kn_i1 _) (by decide) rfl (fun ls hl => ?_)
    have hl : lv_has ls 6 [(2, .int (nI (x + 1))), (1, .int (nI (i))), (0, .ref (h 0))] := hl
    refine lv_goto (tgt := 10) hx hb d_M_permute_69 (by decide) ?_
    have hl : lv_has ls 6 [(2, .int (nI (x + 1))), (1, .int (nI (i))), (0, .ref (h 0))] := lv_sub hl [0, 1, 2] rfl
    exact ih (x + 1) H locs ls _ (by omega) hl ⟨hP, hD, hS⟩ (kc_cs_step hinv (by rw [e_v1]; rfl)) K
set_option maxHeartbeats 4000000 in
theorem M_perm_Y (S : CallFix p m c b_M_permute 6 s args kc_tbl R_M) (hK : va_K D kc_cl (kc_ty cJ cI cX) s) {Co Mv a : Nat → Int64} {i x : Nat} (hx5 : x < 5) (n : Nat) : ∀ (k : Nat) (H : Heap) (locs : List Loc) (ls : Array Slot) (La : Nat → Int64), k + n = 5 → lv_has ls 6 [(5, .int (nI (5 * k))), (3, .long (kc_D a x)), (2, .int (nI (x))), (1, .int (nI (i))), (0, .ref (h 0))] → kc_at D A s.heap H locs (kc_Mw h cJ cI cX (fl) (P) (La) (Co) (Mv) (M)) → (kc_th a La x k) → (∀ (H : Heap) (locs : List Loc) (ls : Array Slot) (La : Nat → Int64), lv_has ls 6 [(5, .int (nI (5 * 5))), (3, .long (kc_D a x)), (2, .int (nI (x))), (1, .int (nI (i))), (0, .ref (h 0))] → kc_at D A s.heap H locs (kc_Mw h cJ cI cX (fl) (P) (La) (Co) (Mv) (M)) → (kc_th a La x 5) → W p l e r_M_permute s m args below meth c H locs 0 0 Q (F0 m 134 ls [])) → W p l e r_M_permute s m args below meth c H locs 0 0 Q (F0 m 108 ls []) := by
  obtain ⟨hx, hb, hml, hown, hts⟩ := S
  induction n with
  | zero =>
    intro k H locs ls La hn hl hw hth K
    obtain ⟨hP, hD, hS⟩ := hw
    obtain rfl : k = 5 := by omega
    refine lv_iload hx hb d_M_permute_108 (lv_at hl 0 rfl) ?_
    refine lv_bipush (v := nI 25) hx hb d_M_permute_110 (by decide +kernel) ?_
    refine kn_ge (tgt := 134) hx hb (by omega) (by omega) d_M_permute_112 (by decide) (fun _ => ?_) (fun hc => absurd hc (by omega))
    exact K H locs ls La hl ⟨hP, hD, hS⟩ hth
  | succ n ih =>
    intro k H locs ls La hn hl hw hth K
    obtain ⟨hP, hD, hS⟩ := hw
    refine lv_iload hx hb d_M_permute_108 (lv_at hl 0 rfl) ?_
    refine lv_bipush (v := nI 25) hx hb d_M_permute_110 (by decide +kernel) ?_
    refine kn_ge (tgt := 134) hx hb (by omega) (by omega) d_M_permute_112 (by decide) (fun hc => absurd hc (by omega)) (fun _ => ?_)
    refine lv_aload_n hx hb d_M_permute_115 rfl (lv_at hl 4 rfl) ?_
    refine kg_M hx hb hts hown hK hP 0 rfl 3 (by decide) kw_194 (v := .ref (h 3)) rfl d_M_permute_116 ?_
    refine lv_iload hx hb d_M_permute_119 (lv_at hl 0 rfl) ?_
    refine lv_iload_n hx hb d_M_permute_121 rfl (lv_at hl 2 rfl) ?_
    refine kn_add hx hb d_M_permute_122 ?_
    refine kv_i (y := (nI (x + 5 * k))) (by rw [Nat.add_comm]) ?_
    refine lv_dup2_11 hx hb d_M_permute_123 rfl rfl ?_
    refine ka_lald (f := La) hx hb hK hP 3 0 rfl rfl (i := x + 5 * k) (by omega) (by decide) d_M_permute_124 ?_
    refine lv_lload_n hx hb d_M_permute_125 rfl (lv_at hl 1 rfl) ?_
    refine lv_lxor hx hb d_M_permute_126 ?_
    refine lv_topl (fun v1 e_v1 => ?_)
    refine ka_last (f := La) hx hb hK hP hD hS 3 0 rfl rfl (i := x + 5 * k) (by omega) (by decide) d_M_permute_127 (fun H locs hP hD hS => ?_)
    have hP : va_P D kc_cl (kc_Mw h cJ cI cX (fl) (P) (vp_updL La (x + 5 * k) (v1)) (Co) (Mv) (M)) H := hP
    have hD : va_D A (kc_Mw h cJ cI cX (fl) (P) (vp_updL La (x + 5 * k) (v1)) (Co) (Mv) (M)) := hD
    refine lv_iinc (k := 0) hx hb d_M_permute_128 hl rfl (kn_i5 _) (by decide) rfl (fun ls hl => ?_)
    have hl : lv_has ls 6 [(5, .int (nI (5 * k + 5))), (3, .long (kc_D a x)), (2, .int (nI (x))), (1, .int (nI (i))), (0, .ref (h 0))] := hl
    refine lv_goto (tgt := 108) hx hb d_M_permute_131 (by decide) ?_
    have hl : lv_has ls 6 [(5, .int (nI (5 * (k + 1)))), (3, .long (kc_D a x)), (2, .int (nI (x))), (1, .int (nI (i))), (0, .ref (h 0))] := lv_sub hl [0, 1, 2, 3, 4] rfl
    exact ih (k + 1) H locs ls _ (by omega) hl ⟨hP, hD, hS⟩ (kc_th_step hth (by omega) (by omega) (by rw [e_v1])) K
set_option maxHeartbeats 4000000 in
theorem M_perm_T (S : CallFix p m c b_M_permute 6 s args kc_tbl R_M) (hK : va_K D kc_cl (kc_ty cJ cI cX) s) {Co Mv a : Nat → Int64} {i : Nat} (hCo : ∀ j, j < 5 → Co j = kc_Cc a j) (n : Nat) : ∀ (x : Nat) (H : Heap) (locs : List Loc) (ls : Array Slot) (La : Nat → Int64), x + n = 5 → lv_has ls 6 [(2, .int (nI (x))), (1, .int (nI (i))), (0, .ref (h 0))] → kc_at D A s.heap H locs (kc_Mw h cJ cI cX (fl) (P) (La) (Co) (Mv) (M)) → (kc_th a La x 0) → (∀ (H : Heap) (locs : List Loc) (ls : Array Slot) (La : Nat → Int64), lv_has ls 6 [(2, .int (nI (5))), (1, .int (nI (i))), (0, .ref (h 0))] → kc_at D A s.heap H locs (kc_Mw h cJ cI cX (fl) (P) (La) (Co) (Mv) (M)) → (kc_th a La 5 0) → W p l e r_M_permute s m args below meth c H locs 0 0 Q (F0 m 140 ls [])) → W p l e r_M_permute s m args below meth c H locs 0 0 Q (F0 m 74 ls []) := by
  obtain ⟨hx, hb, hml, hown, hts⟩ := S
  induction n with
  | zero =>
    intro x H locs ls La hn hl hw hth K
    obtain ⟨hP, hD, hS⟩ := hw
    obtain rfl : x = 5 := by omega
    refine lv_iload_n hx hb d_M_permute_74 rfl (lv_at hl 0 rfl) ?_
    refine lv_iconst (v := nI 5) hx hb d_M_permute_75 (by decide +kernel) ?_
    refine kn_ge (tgt := 140) hx hb (by omega) (by omega) d_M_permute_76 (by decide) (fun _ => ?_) (fun hc => absurd hc (by omega))
    exact K H locs ls La hl ⟨hP, hD, hS⟩ hth
  | succ n ih =>
    intro x H locs ls La hn hl hw hth K
    obtain ⟨hP, hD, hS⟩ := hw
    refine lv_iload_n hx hb d_M_permute_74 rfl (lv_at hl 0 rfl) ?_
    refine lv_iconst (v := nI 5) hx hb d_M_permute_75 (by decide +kernel) ?_
    refine kn_ge (tgt := 140) hx hb (by omega) (by omega) d_M_permute_76 (by decide) (fun hc => absurd hc (by omega)) (fun _ => ?_)
    refine lv_aload_n hx hb d_M_permute_79 rfl (lv_at hl 2 rfl) ?_
    refine kg_M hx hb hts hown hK hP 0 rfl 4 (by decide) kw_195 (v := .ref (h 4)) rfl d_M_permute_80 ?_
    refine lv_iload_n hx hb d_M_permute_83 rfl (lv_at hl 0 rfl) ?_
    refine lv_iconst (v := nI 4) hx hb d_M_permute_84 (by decide +kernel) ?_
    refine kn_add hx hb d_M_permute_85 ?_
    refine lv_iconst (v := nI 5) hx hb d_M_permute_86 (by decide +kernel) ?_
    refine kn_rem hx hb (by omega) (by decide) (by decide) d_M_permute_87 ?_
    refine ka_lald (f := Co) hx hb hK hP 4 0 rfl rfl (i := (x + 4) % 5) (by omega) (by decide) d_M_permute_88 ?_
    refine lv_aload_n hx hb d_M_permute_89 rfl (lv_at hl 2 rfl) ?_
    refine kg_M hx hb hts hown hK hP 0 rfl 4 (by decide) kw_195 (v := .ref (h 4)) rfl d_M_permute_90 ?_
    refine lv_iload_n hx hb d_M_permute_93 rfl (lv_at hl 0 rfl) ?_
    refine lv_iconst (v := nI 1) hx hb d_M_permute_94 (by decide +kernel) ?_
    refine kn_add hx hb d_M_permute_95 ?_
    refine lv_iconst (v := nI 5) hx hb d_M_permute_96 (by decide +kernel) ?_
    refine kn_rem hx hb (by omega) (by decide) (by decide) d_M_permute_97 ?_
    refine ka_lald (f := Co) hx hb hK hP 4 0 rfl rfl (i := (x + 1) % 5) (by omega) (by decide) d_M_permute_98 ?_
    refine lv_iconst (v := nI 1) hx hb d_M_permute_99 (by decide +kernel) ?_
    refine vp_callSl (va_Run.run (va_runS (As := [.long (Co ((x + 1) % 5)), .int (nI (1))]) (rest := [.long (Co ((x + 4) % 5))]) ⟨hx, hb, hml, hown, hts⟩ (c_J_rotateLeft l (Co ((x + 1) % 5)) (nI (1))) (va_cwS 2 hts (kc_inS kw_245 kw_246 kw_8 kw_247) rfl rfl rfl (by decide +kernel) ⟨by decide, by decide⟩) kc_preP rfl rfl hl.1 rfl (lv_room (Nat.le_of_ble_eq_true rfl)) d_M_permute_100 ⟨by decide, by decide⟩)) (fun r1 e_r1 => ?_)
    subst e_r1
    refine lv_lxor hx hb d_M_permute_103 ?_
    refine kv_l (y := (kc_D a x)) (by rw [hCo _ (by omega), hCo _ (by omega)]; rfl) ?_
    refine lv_lstore_n hx hb d_M_permute_104 rfl hl (by decide) rfl (fun ls hl => ?_)
    have hl : lv_has ls 6 [(3, .long (kc_D a x)), (2, .int (nI (x))), (1, .int (nI (i))), (0, .ref (h 0))] := hl
    refine lv_iconst (v := nI 0) hx hb d_M_permute_105 (by decide +kernel) ?_
    refine lv_istore hx hb d_M_permute_106 hl (by decide) rfl (fun ls hl => ?_)
    have hl : lv_has ls 6 [(5, .int (nI (0))), (3, .long (kc_D a x)), (2, .int (nI (x))), (1, .int (nI (i))), (0, .ref (h 0))] := hl
    have hl : lv_has ls 6 [(5, .int (nI (5 * 0))), (3, .long (kc_D a x)), (2, .int (nI (x))), (1, .int (nI (i))), (0, .ref (h 0))] := lv_sub hl [0, 1, 2, 3, 4] rfl
    refine M_perm_Y ⟨hx, hb, hml, hown, hts⟩ hK (by omega) 5 0 H locs ls La (by omega) hl ⟨hP, hD, hS⟩ hth (fun H locs ls La hl hw hth => ?_)
    obtain ⟨hP, hD, hS⟩ := hw
    refine lv_iinc (k := 2) hx hb d_M_permute_134 hl rfl (kn_i1 _) (by decide) rfl (fun ls hl => ?_)
    have hl : lv_has ls 6 [(2, .int (nI (x + 1))), (5, .int (nI (5 * 5))), (3, .long (kc_D a x)), (1, .int (nI (i))), (0, .ref (h 0))] := hl
    refine lv_goto (tgt := 74) hx hb d_M_permute_137 (by decide) ?_
    have hl : lv_has ls 6 [(2, .int (nI (x + 1))), (1, .int (nI (i))), (0, .ref (h 0))] := lv_sub hl [0, 3, 4] rfl
    exact ih (x + 1) H locs ls La (by omega) hl ⟨hP, hD, hS⟩ (kc_th_next hth) K
set_option maxHeartbeats 4000000 in
theorem M_perm_R (S : CallFix p m c b_M_permute 6 s args kc_tbl R_M) (hK : va_K D kc_cl (kc_ty cJ cI cX) s) {La Co a : Nat → Int64} {i : Nat} (hB : kc_eq La (kc_Bb a)) (n : Nat) : ∀ (t : Nat) (H : Heap) (locs : List Loc) (ls : Array Slot) (Mv : Nat → Int64), t + n = 24 → lv_has ls 6 [(4, .int (nI (t))), (2, .int (nI (kc_px t))), (3, .int (nI (kc_py t))), (1, .int (nI (i))), (0, .ref (h 0))] → kc_at D A s.heap H locs (kc_Mw h cJ cI cX (fl) (P) (La) (Co) (Mv) (M)) → (kc_mp a Mv t) → (∀ (H : Heap) (locs : List Loc) (ls : Array Slot) (Mv : Nat → Int64), lv_has ls 6 [(4, .int (nI (24))), (2, .int (nI (kc_px 24))), (3, .int (nI (kc_py 24))), (1, .int (nI (i))), (0, .ref (h 0))] → kc_at D A s.heap H locs (kc_Mw h cJ cI cX (fl) (P) (La) (Co) (Mv) (M)) → (kc_mp a Mv 24) → W p l e r_M_permute s m args below meth c H locs 0 0 Q (F0 m 226 ls [])) → W p l e r_M_permute s m args below meth c H locs 0 0 Q (F0 m 159 ls []) := by
  obtain ⟨hx, hb, hml, hown, hts⟩ := S
  induction n with
  | zero =>
    intro t H locs ls Mv hn hl hw hmp K
    obtain ⟨hP, hD, hS⟩ := hw
    obtain rfl : t = 24 := by omega
    refine lv_iload hx hb d_M_permute_159 (lv_at hl 0 rfl) ?_
    refine lv_bipush (v := nI 24) hx hb d_M_permute_161 (by decide +kernel) ?_
    refine kn_ge (tgt := 226) hx hb (by omega) (by omega) d_M_permute_163 (by decide) (fun _ => ?_) (fun hc => absurd hc (by omega))
    exact K H locs ls Mv hl ⟨hP, hD, hS⟩ hmp
  | succ n ih =>
    intro t H locs ls Mv hn hl hw hmp K
    obtain ⟨hP, hD, hS⟩ := hw
    obtain ⟨p1, p2, p3, p4, p5, p6⟩ := kc_path t (by omega)
    obtain ⟨-, q2, -⟩ := kc_path_e t (by omega)
    have q3 := Nat.mul_le_mul (show t + 1 ≤ 24 by omega) (show t + 2 ≤ 25 by omega)
    refine lv_iload hx hb d_M_permute_159 (lv_at hl 0 rfl) ?_
    refine lv_bipush (v := nI 24) hx hb d_M_permute_161 (by decide +kernel) ?_
    refine kn_ge (tgt := 226) hx hb (by omega) (by omega) d_M_permute_163 (by decide) (fun hc => absurd hc (by omega)) (fun _ => ?_)
    refine lv_iconst (v := nI 2) hx hb d_M_permute_166 (by decide +kernel) ?_
    refine lv_iload_n hx hb d_M_permute_167 rfl (lv_at hl 1 rfl) ?_
    refine kn_mul hx hb d_M_permute_168 ?_
    refine lv_iconst (v := nI 3) hx hb d_M_permute_169 (by decide +kernel) ?_
    refine lv_iload_n hx hb d_M_permute_170 rfl (lv_at hl 2 rfl) ?_
    refine kn_mul hx hb d_M_permute_171 ?_
    refine kn_add hx hb d_M_permute_172 ?_
    refine lv_iconst (v := nI 5) hx hb d_M_permute_173 (by decide +kernel) ?_
    refine kn_rem hx hb (by omega) (by decide) (by decide) d_M_permute_174 ?_
    refine kv_i (y := (nI (kc_py (t + 1)))) (by rw [p2]) ?_
    refine lv_istore hx hb d_M_permute_175 hl (by decide) rfl (fun ls hl => ?_)
    have hl : lv_has ls 6 [(5, .int (nI (kc_py (t + 1)))), (4, .int (nI (t))), (2, .int (nI (kc_px t))), (3, .int (nI (kc_py t))), (1, .int (nI (i))), (0, .ref (h 0))] := hl
    refine lv_aload_n hx hb d_M_permute_177 rfl (lv_at hl 5 rfl) ?_
    refine kg_M hx hb hts hown hK hP 0 rfl 5 (by decide) kw_196 (v := .ref (h 5)) rfl d_M_permute_178 ?_
    refine lv_iconst (v := nI 5) hx hb d_M_permute_181 (by decide +kernel) ?_
    refine lv_iload hx hb d_M_permute_182 (lv_at hl 0 rfl) ?_
    refine kn_mul hx hb d_M_permute_184 ?_
    refine lv_iload_n hx hb d_M_permute_185 rfl (lv_at hl 3 rfl) ?_
    refine kn_add hx hb d_M_permute_186 ?_
    refine lv_aload_n hx hb d_M_permute_187 rfl (lv_at hl 5 rfl) ?_
    refine kg_M hx hb hts hown hK hP 0 rfl 3 (by decide) kw_194 (v := .ref (h 3)) rfl d_M_permute_188 ?_
    refine lv_iconst (v := nI 5) hx hb d_M_permute_191 (by decide +kernel) ?_
    refine lv_iload_n hx hb d_M_permute_192 rfl (lv_at hl 3 rfl) ?_
    refine kn_mul hx hb d_M_permute_193 ?_
    refine lv_iload_n hx hb d_M_permute_194 rfl (lv_at hl 2 rfl) ?_
    refine kn_add hx hb d_M_permute_195 ?_
    refine ka_lald (f := La) hx hb hK hP 3 0 rfl rfl (i := 5 * (kc_py t) + kc_px t) (by omega) (by decide) d_M_permute_196 ?_
    refine lv_iload hx hb d_M_permute_197 (lv_at hl 1 rfl) ?_
    refine lv_iconst (v := nI 1) hx hb d_M_permute_199 (by decide +kernel) ?_
    refine kn_add hx hb d_M_permute_200 ?_
    refine lv_iload hx hb d_M_permute_201 (lv_at hl 1 rfl) ?_
    refine lv_iconst (v := nI 2) hx hb d_M_permute_203 (by decide +kernel) ?_
    refine kn_add hx hb d_M_permute_204 ?_
    refine kn_mul hx hb d_M_permute_205 ?_
    refine lv_iconst (v := nI 2) hx hb d_M_permute_206 (by decide +kernel) ?_
    refine kn_div hx hb (by omega) (by decide) (by decide) d_M_permute_207 ?_
    refine lv_bipush (v := nI 64) hx hb d_M_permute_208 (by decide +kernel) ?_
    refine kn_rem hx hb (by omega) (by decide) (by decide) d_M_permute_210 ?_
    refine vp_callSl (va_Run.run (va_runS (As := [.long (La (5 * (kc_py t) + kc_px t)), .int (nI ((((t + 1) * (t + 2)) / 2) % 64))]) (rest := [.int (nI (5 * (kc_py (t + 1)) + kc_py t)), .ref (h 5)]) ⟨hx, hb, hml, hown, hts⟩ (c_J_rotateLeft l (La (5 * (kc_py t) + kc_px t)) (nI ((((t + 1) * (t + 2)) / 2) % 64))) (va_cwS 2 hts (kc_inS kw_245 kw_246 kw_8 kw_247) rfl rfl rfl (by decide +kernel) ⟨by decide, by decide⟩) kc_preP rfl rfl hl.1 rfl (lv_room (Nat.le_of_ble_eq_true rfl)) d_M_permute_211 ⟨by decide, by decide⟩)) (fun r1 e_r1 => ?_)
    subst e_r1
    refine lv_topl (fun v2 e_v2 => ?_)
    refine ka_last (f := Mv) hx hb hK hP hD hS 5 0 rfl rfl (i := 5 * (kc_py (t + 1)) + kc_py t) (by omega) (by decide) d_M_permute_214 (fun H locs hP hD hS => ?_)
    have hP : va_P D kc_cl (kc_Mw h cJ cI cX (fl) (P) (La) (Co) (vp_updL Mv (5 * (kc_py (t + 1)) + kc_py t) (v2)) (M)) H := hP
    have hD : va_D A (kc_Mw h cJ cI cX (fl) (P) (La) (Co) (vp_updL Mv (5 * (kc_py (t + 1)) + kc_py t) (v2)) (M)) := hD
    refine lv_iload_n hx hb d_M_permute_215 rfl (lv_at hl 3 rfl) ?_
    refine lv_istore_n hx hb d_M_permute_216 rfl hl (by decide) rfl (fun ls hl => ?_)
    have hl : lv_has ls 6 [(2, .int (nI (kc_py t))), (5, .int (nI (kc_py (t + 1)))), (4, .int (nI (t))), (3, .int (nI (kc_py t))), (1, .int (nI (i))), (0, .ref (h 0))] := hl
    refine lv_iload hx hb d_M_permute_217 (lv_at hl 1 rfl) ?_
    refine lv_istore_n hx hb d_M_permute_219 rfl hl (by decide) rfl (fun ls hl => ?_)
    have hl : lv_has ls 6 [(3, .int (nI (kc_py (t + 1)))), (2, .int (nI (kc_py t))), (5, .int (nI (kc_py (t + 1)))), (4, .int (nI (t))), (1, .int (nI (i))), (0, .ref (h 0))] := hl
    have hl : lv_has ls 6 [(3, .int (nI (kc_py (t + 1)))), (2, .int (nI (kc_px (t + 1)))), (5, .int (nI (kc_py (t + 1)))), (4, .int (nI (t))), (1, .int (nI (i))), (0, .ref (h 0))] := by rw [p1]; exact hl
    refine lv_iinc (k := 3) hx hb d_M_permute_220 hl rfl (kn_i1 _) (by decide) rfl (fun ls hl => ?_)
    have hl : lv_has ls 6 [(4, .int (nI (t + 1))), (3, .int (nI (kc_py (t + 1)))), (2, .int (nI (kc_px (t + 1)))), (5, .int (nI (kc_py (t + 1)))), (1, .int (nI (i))), (0, .ref (h 0))] := hl
    refine lv_goto (tgt := 159) hx hb d_M_permute_223 (by decide) ?_
    have hl : lv_has ls 6 [(4, .int (nI (t + 1))), (2, .int (nI (kc_px (t + 1)))), (3, .int (nI (kc_py (t + 1)))), (1, .int (nI (i))), (0, .ref (h 0))] := lv_sub hl [0, 2, 1, 4, 5] rfl
    exact ih (t + 1) H locs ls _ (by omega) hl ⟨hP, hD, hS⟩ (kc_mp_step hmp (by omega) (by rw [e_v2, hB _ (by omega)])) K
set_option maxHeartbeats 4000000 in
theorem M_perm_H (S : CallFix p m c b_M_permute 6 s args kc_tbl R_M) (hK : va_K D kc_cl (kc_ty cJ cI cX) s) {Co Mv a : Nat → Int64} {i k : Nat} (hk5 : k < 5) (hN : kc_eq Mv (kc_Mm a)) (n : Nat) : ∀ (x : Nat) (H : Heap) (locs : List Loc) (ls : Array Slot) (La : Nat → Int64), x + n = 5 → lv_has ls 6 [(5, .int (nI (x))), (4, .int (nI (5 * k))), (1, .int (nI (i))), (0, .ref (h 0))] → kc_at D A s.heap H locs (kc_Mw h cJ cI cX (fl) (P) (La) (Co) (Mv) (M)) → (kc_ch a La (x + 5 * k)) → (∀ (H : Heap) (locs : List Loc) (ls : Array Slot) (La : Nat → Int64), lv_has ls 6 [(5, .int (nI (5))), (4, .int (nI (5 * k))), (1, .int (nI (i))), (0, .ref (h 0))] → kc_at D A s.heap H locs (kc_Mw h cJ cI cX (fl) (P) (La) (Co) (Mv) (M)) → (kc_ch a La (5 + 5 * k)) → W p l e r_M_permute s m args below meth c H locs 0 0 Q (F0 m 305 ls [])) → W p l e r_M_permute s m args below meth c H locs 0 0 Q (F0 m 239 ls []) := by
  obtain ⟨hx, hb, hml, hown, hts⟩ := S
  induction n with
  | zero =>
    intro x H locs ls La hn hl hw hch K
    obtain ⟨hP, hD, hS⟩ := hw
    obtain rfl : x = 5 := by omega
    refine lv_iload hx hb d_M_permute_239 (lv_at hl 0 rfl) ?_
    refine lv_iconst (v := nI 5) hx hb d_M_permute_241 (by decide +kernel) ?_
    refine kn_ge (tgt := 305) hx hb (by omega) (by omega) d_M_permute_242 (by decide) (fun _ => ?_) (fun hc => absurd hc (by omega))
    exact K H locs ls La hl ⟨hP, hD, hS⟩ hch
  | succ n ih =>
    intro x H locs ls La hn hl hw hch K
    obtain ⟨hP, hD, hS⟩ := hw
    refine lv_iload hx hb d_M_permute_239 (lv_at hl 0 rfl) ?_
    refine lv_iconst (v := nI 5) hx hb d_M_permute_241 (by decide +kernel) ?_
    refine kn_ge (tgt := 305) hx hb (by omega) (by omega) d_M_permute_242 (by decide) (fun hc => absurd hc (by omega)) (fun _ => ?_)
    refine lv_aload_n hx hb d_M_permute_245 rfl (lv_at hl 3 rfl) ?_
    refine kg_M hx hb hts hown hK hP 0 rfl 3 (by decide) kw_194 (v := .ref (h 3)) rfl d_M_permute_246 ?_
    refine lv_iload hx hb d_M_permute_249 (lv_at hl 1 rfl) ?_
    refine lv_iload hx hb d_M_permute_251 (lv_at hl 0 rfl) ?_
    refine kn_add hx hb d_M_permute_253 ?_
    refine kv_i (y := (nI (x + 5 * k))) (by rw [Nat.add_comm]) ?_
    refine lv_aload_n hx hb d_M_permute_254 rfl (lv_at hl 3 rfl) ?_
    refine kg_M hx hb hts hown hK hP 0 rfl 5 (by decide) kw_196 (v := .ref (h 5)) rfl d_M_permute_255 ?_
    refine lv_iload hx hb d_M_permute_258 (lv_at hl 1 rfl) ?_
    refine lv_iload hx hb d_M_permute_260 (lv_at hl 0 rfl) ?_
    refine kn_add hx hb d_M_permute_262 ?_
    refine kv_i (y := (nI (x + 5 * k))) (by rw [Nat.add_comm]) ?_
    refine ka_lald (f := Mv) hx hb hK hP 5 0 rfl rfl (i := x + 5 * k) (by omega) (by decide) d_M_permute_263 ?_
    refine lv_aload_n hx hb d_M_permute_264 rfl (lv_at hl 3 rfl) ?_
    refine kg_M hx hb hts hown hK hP 0 rfl 5 (by decide) kw_196 (v := .ref (h 5)) rfl d_M_permute_265 ?_
    refine lv_iload hx hb d_M_permute_268 (lv_at hl 1 rfl) ?_
    refine lv_iload hx hb d_M_permute_270 (lv_at hl 0 rfl) ?_
    refine lv_iconst (v := nI 1) hx hb d_M_permute_272 (by decide +kernel) ?_
    refine kn_add hx hb d_M_permute_273 ?_
    refine lv_iconst (v := nI 5) hx hb d_M_permute_274 (by decide +kernel) ?_
    refine kn_rem hx hb (by omega) (by decide) (by decide) d_M_permute_275 ?_
    refine kn_add hx hb d_M_permute_276 ?_
    refine kv_i (y := (nI ((x + 1) % 5 + 5 * k))) (by rw [Nat.add_comm]) ?_
    refine ka_lald (f := Mv) hx hb hK hP 5 0 rfl rfl (i := (x + 1) % 5 + 5 * k) (by omega) (by decide) d_M_permute_277 ?_
    refine lv_ldc2 (v := (-1)) hx hb hown (hts _ kw_248) d_M_permute_278 ?_
    refine lv_lxor hx hb d_M_permute_281 ?_
    refine lv_aload_n hx hb d_M_permute_282 rfl (lv_at hl 3 rfl) ?_
    refine kg_M hx hb hts hown hK hP 0 rfl 5 (by decide) kw_196 (v := .ref (h 5)) rfl d_M_permute_283 ?_
    refine lv_iload hx hb d_M_permute_286 (lv_at hl 1 rfl) ?_
    refine lv_iload hx hb d_M_permute_288 (lv_at hl 0 rfl) ?_
    refine lv_iconst (v := nI 2) hx hb d_M_permute_290 (by decide +kernel) ?_
    refine kn_add hx hb d_M_permute_291 ?_
    refine lv_iconst (v := nI 5) hx hb d_M_permute_292 (by decide +kernel) ?_
    refine kn_rem hx hb (by omega) (by decide) (by decide) d_M_permute_293 ?_
    refine kn_add hx hb d_M_permute_294 ?_
    refine kv_i (y := (nI ((x + 2) % 5 + 5 * k))) (by rw [Nat.add_comm]) ?_
    refine ka_lald (f := Mv) hx hb hK hP 5 0 rfl rfl (i := (x + 2) % 5 + 5 * k) (by omega) (by decide) d_M_permute_295 ?_
    refine lv_land hx hb d_M_permute_296 ?_
    refine lv_lxor hx hb d_M_permute_297 ?_
    refine lv_topl (fun v1 e_v1 => ?_)
    refine ka_last (f := La) hx hb hK hP hD hS 3 0 rfl rfl (i := x + 5 * k) (by omega) (by decide) d_M_permute_298 (fun H locs hP hD hS => ?_)
    have hP : va_P D kc_cl (kc_Mw h cJ cI cX (fl) (P) (vp_updL La (x + 5 * k) (v1)) (Co) (Mv) (M)) H := hP
    have hD : va_D A (kc_Mw h cJ cI cX (fl) (P) (vp_updL La (x + 5 * k) (v1)) (Co) (Mv) (M)) := hD
    refine lv_iinc (k := 0) hx hb d_M_permute_299 hl rfl (kn_i1 _) (by decide) rfl (fun ls hl => ?_)
    have hl : lv_has ls 6 [(5, .int (nI (x + 1))), (4, .int (nI (5 * k))), (1, .int (nI (i))), (0, .ref (h 0))] := hl
    refine lv_goto (tgt := 239) hx hb d_M_permute_302 (by decide) ?_
    have hl : lv_has ls 6 [(5, .int (nI (x + 1))), (4, .int (nI (5 * k))), (1, .int (nI (i))), (0, .ref (h 0))] := lv_sub hl [0, 1, 2, 3] rfl
    exact ih (x + 1) H locs ls _ (by omega) hl ⟨hP, hD, hS⟩ (kc_ch_step hch (by omega) (by omega) hN (by rw [e_v1])) K
set_option maxHeartbeats 4000000 in
theorem M_perm_I (S : CallFix p m c b_M_permute 6 s args kc_tbl R_M) (hK : va_K D kc_cl (kc_ty cJ cI cX) s) {Co Mv a : Nat → Int64} {i : Nat} (hN : kc_eq Mv (kc_Mm a)) (n : Nat) : ∀ (k : Nat) (H : Heap) (locs : List Loc) (ls : Array Slot) (La : Nat → Int64), k + n = 5 → lv_has ls 6 [(4, .int (nI (5 * k))), (1, .int (nI (i))), (0, .ref (h 0))] → kc_at D A s.heap H locs (kc_Mw h cJ cI cX (fl) (P) (La) (Co) (Mv) (M)) → (kc_ch a La (5 * k)) → (∀ (H : Heap) (locs : List Loc) (ls : Array Slot) (La : Nat → Int64), lv_has ls 6 [(4, .int (nI (5 * 5))), (1, .int (nI (i))), (0, .ref (h 0))] → kc_at D A s.heap H locs (kc_Mw h cJ cI cX (fl) (P) (La) (Co) (Mv) (M)) → (kc_ch a La (5 * 5)) → W p l e r_M_permute s m args below meth c H locs 0 0 Q (F0 m 311 ls [])) → W p l e r_M_permute s m args below meth c H locs 0 0 Q (F0 m 229 ls []) := by
  obtain ⟨hx, hb, hml, hown, hts⟩ := S
  induction n with
  | zero =>
    intro k H locs ls La hn hl hw hch K
    obtain ⟨hP, hD, hS⟩ := hw
    obtain rfl : k = 5 := by omega
    refine lv_iload hx hb d_M_permute_229 (lv_at hl 0 rfl) ?_
    refine lv_bipush (v := nI 25) hx hb d_M_permute_231 (by decide +kernel) ?_
    refine kn_ge (tgt := 311) hx hb (by omega) (by omega) d_M_permute_233 (by decide) (fun _ => ?_) (fun hc => absurd hc (by omega))
    exact K H locs ls La hl ⟨hP, hD, hS⟩ hch
  | succ n ih =>
    intro k H locs ls La hn hl hw hch K
    obtain ⟨hP, hD, hS⟩ := hw
    refine lv_iload hx hb d_M_permute_229 (lv_at hl 0 rfl) ?_
    refine lv_bipush (v := nI 25) hx hb d_M_permute_231 (by decide +kernel) ?_
    refine kn_ge (tgt := 311) hx hb (by omega) (by omega) d_M_permute_233 (by decide) (fun hc => absurd hc (by omega)) (fun _ => ?_)
    refine lv_iconst (v := nI 0) hx hb d_M_permute_236 (by decide +kernel) ?_
    refine lv_istore hx hb d_M_permute_237 hl (by decide) rfl (fun ls hl => ?_)
    have hl : lv_has ls 6 [(5, .int (nI (0))), (4, .int (nI (5 * k))), (1, .int (nI (i))), (0, .ref (h 0))] := hl
    have hl : lv_has ls 6 [(5, .int (nI (0))), (4, .int (nI (5 * k))), (1, .int (nI (i))), (0, .ref (h 0))] := lv_sub hl [0, 1, 2, 3] rfl
    refine M_perm_H ⟨hx, hb, hml, hown, hts⟩ hK (by omega) hN 5 0 H locs ls La (by omega) hl ⟨hP, hD, hS⟩ (by rw [Nat.zero_add]; exact hch) (fun H locs ls La hl hw hch => ?_)
    obtain ⟨hP, hD, hS⟩ := hw
    refine lv_iinc (k := 1) hx hb d_M_permute_305 hl rfl (kn_i5 _) (by decide) rfl (fun ls hl => ?_)
    have hl : lv_has ls 6 [(4, .int (nI (5 * k + 5))), (5, .int (nI (5))), (1, .int (nI (i))), (0, .ref (h 0))] := hl
    refine lv_goto (tgt := 229) hx hb d_M_permute_308 (by decide) ?_
    have hl : lv_has ls 6 [(4, .int (nI (5 * (k + 1)))), (1, .int (nI (i))), (0, .ref (h 0))] := lv_sub hl [0, 2, 3] rfl
    exact ih (k + 1) H locs ls La (by omega) hl ⟨hP, hD, hS⟩ (by rw [show 5 * (k + 1) = 5 + 5 * k by omega]; exact hch) K
set_option maxHeartbeats 4000000 in
theorem M_perm_L (S : CallFix p m c b_M_permute 6 s args kc_tbl R_M) (hK : va_K D kc_cl (kc_ty cJ cI cX) s) {a0 : Nat → Int64} (n : Nat) : ∀ (i : Nat) (H : Heap) (locs : List Loc) (ls : Array Slot) (La Co Mv : Nat → Int64), i + n = 24 → lv_has ls 6 [(1, .int (nI (i))), (0, .ref (h 0))] → kc_at D A s.heap H locs (kc_Mw h cJ cI cX (fl) (P) (La) (Co) (Mv) (M)) → (kc_eq La (kc_perm i a0)) → (∀ (H : Heap) (locs : List Loc) (ls : Array Slot) (La Co Mv : Nat → Int64), lv_has ls 6 [(1, .int (nI (24))), (0, .ref (h 0))] → kc_at D A s.heap H locs (kc_Mw h cJ cI cX (fl) (P) (La) (Co) (Mv) (M)) → (kc_eq La (kc_perm 24 a0)) → W p l e r_M_permute s m args below meth c H locs 0 0 Q (F0 m 332 ls [])) → W p l e r_M_permute s m args below meth c H locs 0 0 Q (F0 m 2 ls []) := by
  obtain ⟨hx, hb, hml, hown, hts⟩ := S
  induction n with
  | zero =>
    intro i H locs ls La Co Mv hn hl hw hpm K
    obtain ⟨hP, hD, hS⟩ := hw
    obtain rfl : i = 24 := by omega
    refine lv_iload_n hx hb d_M_permute_2 rfl (lv_at hl 0 rfl) ?_
    refine lv_bipush (v := nI 24) hx hb d_M_permute_3 (by decide +kernel) ?_
    refine kn_ge (tgt := 332) hx hb (by omega) (by omega) d_M_permute_5 (by decide) (fun _ => ?_) (fun hc => absurd hc (by omega))
    exact K H locs ls La Co Mv hl ⟨hP, hD, hS⟩ hpm
  | succ n ih =>
    intro i H locs ls La Co Mv hn hl hw hpm K
    obtain ⟨hP, hD, hS⟩ := hw
    refine lv_iload_n hx hb d_M_permute_2 rfl (lv_at hl 0 rfl) ?_
    refine lv_bipush (v := nI 24) hx hb d_M_permute_3 (by decide +kernel) ?_
    refine kn_ge (tgt := 332) hx hb (by omega) (by omega) d_M_permute_5 (by decide) (fun hc => absurd hc (by omega)) (fun _ => ?_)
    refine lv_iconst (v := nI 0) hx hb d_M_permute_8 (by decide +kernel) ?_
    refine lv_istore_n hx hb d_M_permute_9 rfl hl (by decide) rfl (fun ls hl => ?_)
    have hl : lv_has ls 6 [(2, .int (nI (0))), (1, .int (nI (i))), (0, .ref (h 0))] := hl
    have hl : lv_has ls 6 [(2, .int (nI (0))), (1, .int (nI (i))), (0, .ref (h 0))] := lv_sub hl [0, 1, 2] rfl
    refine M_perm_C ⟨hx, hb, hml, hown, hts⟩ hK 5 0 H locs ls Co (by omega) hl ⟨hP, hD, hS⟩ (fun j hj => absurd hj (by omega)) (fun H locs ls Co hl hw hCo => ?_)
    obtain ⟨hP, hD, hS⟩ := hw
    refine lv_iconst (v := nI 0) hx hb d_M_permute_72 (by decide +kernel) ?_
    refine lv_istore_n hx hb d_M_permute_73 rfl hl (by decide) rfl (fun ls hl => ?_)
    have hl : lv_has ls 6 [(2, .int (nI (0))), (1, .int (nI (i))), (0, .ref (h 0))] := hl
    have hl : lv_has ls 6 [(2, .int (nI (0))), (1, .int (nI (i))), (0, .ref (h 0))] := lv_sub hl [0, 1, 2] rfl
    refine M_perm_T ⟨hx, hb, hml, hown, hts⟩ hK (a := La) hCo 5 0 H locs ls La (by omega) hl ⟨hP, hD, hS⟩ (kc_th_0 kc_eq.rf) (fun H locs ls La1 hl hw hth => ?_)
    obtain ⟨hP, hD, hS⟩ := hw
    have hB := kc_th_end hth
    refine lv_aload_n hx hb d_M_permute_140 rfl (lv_at hl 2 rfl) ?_
    refine kg_M hx hb hts hown hK hP 0 rfl 5 (by decide) kw_196 (v := .ref (h 5)) rfl d_M_permute_141 ?_
    refine lv_iconst (v := nI 0) hx hb d_M_permute_144 (by decide +kernel) ?_
    refine lv_aload_n hx hb d_M_permute_145 rfl (lv_at hl 2 rfl) ?_
    refine kg_M hx hb hts hown hK hP 0 rfl 3 (by decide) kw_194 (v := .ref (h 3)) rfl d_M_permute_146 ?_
    refine lv_iconst (v := nI 0) hx hb d_M_permute_149 (by decide +kernel) ?_
    refine ka_lald (f := La1) hx hb hK hP 3 0 rfl rfl (i := 0) (by omega) (by decide) d_M_permute_150 ?_
    refine lv_topl (fun v1 e_v1 => ?_)
    refine ka_last (f := Mv) hx hb hK hP hD hS 5 0 rfl rfl (i := 0) (by omega) (by decide) d_M_permute_151 (fun H locs hP hD hS => ?_)
    have hP : va_P D kc_cl (kc_Mw h cJ cI cX (fl) (P) (La1) (Co) (vp_updL Mv (0) (v1)) (M)) H := hP
    have hD : va_D A (kc_Mw h cJ cI cX (fl) (P) (La1) (Co) (vp_updL Mv (0) (v1)) (M)) := hD
    refine lv_iconst (v := nI 1) hx hb d_M_permute_152 (by decide +kernel) ?_
    refine lv_istore_n hx hb d_M_permute_153 rfl hl (by decide) rfl (fun ls hl => ?_)
    have hl : lv_has ls 6 [(2, .int (nI (1))), (1, .int (nI (i))), (0, .ref (h 0))] := hl
    refine lv_iconst (v := nI 0) hx hb d_M_permute_154 (by decide +kernel) ?_
    refine lv_istore_n hx hb d_M_permute_155 rfl hl (by decide) rfl (fun ls hl => ?_)
    have hl : lv_has ls 6 [(3, .int (nI (0))), (2, .int (nI (1))), (1, .int (nI (i))), (0, .ref (h 0))] := hl
    refine lv_iconst (v := nI 0) hx hb d_M_permute_156 (by decide +kernel) ?_
    refine lv_istore hx hb d_M_permute_157 hl (by decide) rfl (fun ls hl => ?_)
    have hl : lv_has ls 6 [(4, .int (nI (0))), (3, .int (nI (0))), (2, .int (nI (1))), (1, .int (nI (i))), (0, .ref (h 0))] := hl
    have hl : lv_has ls 6 [(4, .int (nI (0))), (3, .int (nI (kc_py 0))), (2, .int (nI (kc_px 0))), (1, .int (nI (i))), (0, .ref (h 0))] := hl
    have hl : lv_has ls 6 [(4, .int (nI (0))), (2, .int (nI (kc_px 0))), (3, .int (nI (kc_py 0))), (1, .int (nI (i))), (0, .ref (h 0))] := lv_sub hl [0, 2, 1, 3, 4] rfl
    refine M_perm_R ⟨hx, hb, hml, hown, hts⟩ hK (a := La) hB 24 0 H locs ls _ (by omega) hl ⟨hP, hD, hS⟩ ⟨by rw [pk_uLs, e_v1, kc_M0]; exact hB 0 (by omega), fun c _ hc => absurd hc (by omega)⟩ (fun H locs ls Mv1 hl hw hmp => ?_)
    obtain ⟨hP, hD, hS⟩ := hw
    refine lv_iconst (v := nI 0) hx hb d_M_permute_226 (by decide +kernel) ?_
    refine lv_istore hx hb d_M_permute_227 hl (by decide) rfl (fun ls hl => ?_)
    have hl : lv_has ls 6 [(4, .int (nI (0))), (2, .int (nI (kc_px 24))), (3, .int (nI (kc_py 24))), (1, .int (nI (i))), (0, .ref (h 0))] := hl
    have hl : lv_has ls 6 [(4, .int (nI (5 * 0))), (1, .int (nI (i))), (0, .ref (h 0))] := lv_sub hl [0, 3, 4] rfl
    refine M_perm_I ⟨hx, hb, hml, hown, hts⟩ hK (a := La) (kc_mp_end hmp) 5 0 H locs ls La1 (by omega) hl ⟨hP, hD, hS⟩ (fun c hc => absurd hc (by omega)) (fun H locs ls La2 hl hw hch => ?_)
    obtain ⟨hP, hD, hS⟩ := hw
    refine lv_aload_n hx hb d_M_permute_311 rfl (lv_at hl 2 rfl) ?_
    refine kg_M hx hb hts hown hK hP 0 rfl 3 (by decide) kw_194 (v := .ref (h 3)) rfl d_M_permute_312 ?_
    refine lv_iconst (v := nI 0) hx hb d_M_permute_315 (by decide +kernel) ?_
    refine lv_dup2_11 hx hb d_M_permute_316 rfl rfl ?_
    refine ka_lald (f := La2) hx hb hK hP 3 0 rfl rfl (i := 0) (by omega) (by decide) d_M_permute_317 ?_
    refine lv_aload_n hx hb d_M_permute_318 rfl (lv_at hl 2 rfl) ?_
    refine kg_M hx hb hts hown hK hP 0 rfl 6 (by decide) kw_197 (v := .ref (h 6)) rfl d_M_permute_319 ?_
    refine lv_iload_n hx hb d_M_permute_322 rfl (lv_at hl 1 rfl) ?_
    refine ka_lald (f := kc_R) hx hb hK hP 6 0 rfl rfl (i := i) (by omega) (by decide) d_M_permute_323 ?_
    refine lv_lxor hx hb d_M_permute_324 ?_
    refine lv_topl (fun v2 e_v2 => ?_)
    refine ka_last (f := La2) hx hb hK hP hD hS 3 0 rfl rfl (i := 0) (by omega) (by decide) d_M_permute_325 (fun H locs hP hD hS => ?_)
    have hP : va_P D kc_cl (kc_Mw h cJ cI cX (fl) (P) (vp_updL La2 (0) (v2)) (Co) (Mv1) (M)) H := hP
    have hD : va_D A (kc_Mw h cJ cI cX (fl) (P) (vp_updL La2 (0) (v2)) (Co) (Mv1) (M)) := hD
    refine lv_iinc (k := 1) hx hb d_M_permute_326 hl rfl (kn_i1 _) (by decide) rfl (fun ls hl => ?_)
    have hl : lv_has ls 6 [(1, .int (nI (i + 1))), (4, .int (nI (5 * 5))), (0, .ref (h 0))] := hl
    refine lv_goto (tgt := 2) hx hb d_M_permute_329 (by decide) ?_
    have hl : lv_has ls 6 [(1, .int (nI (i + 1))), (0, .ref (h 0))] := lv_sub hl [0, 2] rfl
    have hend : kc_eq (vp_updL La2 0 v2) (kc_round (kc_R i) La) := kc_round_end hch (by rw [e_v2])
    exact ih (i + 1) H locs ls _ Co Mv1 (by omega) hl ⟨hP, hD, hS⟩ (hend.trans (kc_eq_round hpm _)) K
end MPERM
set_option maxHeartbeats 4000000 in
/-- permute(): the work array is permuted -/
theorem c_M_permute (l : Launch) (D : va_G) (h : Nat → Nat) (cJ cI cX : ClassId) (fl : Int32) (P : Nat → Int32) (La Co Mv : Nat → Int64) (M : Nat → Nat → Int64) (sz : Nat) : kc_Mv l y_M_permute w_M_permute r_M_permute [.ref (h 0)] D (kc_ty cJ cI cX) (kc_Mw h cJ cI cX fl P La Co Mv M) sz (fun u : (Nat → Int64) × (Nat → Int64) × (Nat → Int64) => kc_eq u.1 (kc_perm 24 La)) (fun u => kc_Mw h cJ cI cX fl P u.1 u.2.1 u.2.2 M) 0 0 := by
  refine kc_ofWv (cc := b_M_permute) (maxL := 6) (by decide) rfl (Nat.le_of_ble_eq_true rfl) ?_
  intro p e s m below meth c A ls S hr hlk hin hK hP hD hA hl hsz
  obtain ⟨hx, hb, hml, hown, hts⟩ := S
  have hS : va_S A s.heap s.heap [] := va_S.rf
  have hl : lv_has ls 6 [(0, .ref (h 0))] := hl
  refine lv_iconst (v := nI 0) hx hb d_M_permute_0 (by decide +kernel) ?_
  refine lv_istore_n hx hb d_M_permute_1 rfl hl (by decide) rfl (fun ls hl => ?_)
  have hl : lv_has ls 6 [(1, .int (nI (0))), (0, .ref (h 0))] := hl
  have hl : lv_has ls 6 [(1, .int (nI (0))), (0, .ref (h 0))] := lv_sub hl [0, 1] rfl
  refine M_perm_L ⟨hx, hb, hml, hown, hts⟩ hK (a0 := La) 24 0 s.heap [] ls La Co Mv (by omega) hl ⟨hP, hD, hS⟩ kc_eq.rf (fun H locs ls La Co Mv hl hw hpm => ?_)
  obtain ⟨hP, hD, hS⟩ := hw
  exact kc_vret hx hb hr hlk (La, Co, Mv) hpm hP hD hS d_M_permute_332
end
section
/-! small pure rows: bounds, masks, updates -/
theorem kc_gt {k : Nat} (hk : k + 1 < 2 ^ 31) {x : Int32} (h : nI (k + 1) ≤ x) : ¬ x ≤ nI k := fun h2 => by
  have h3 : nI (k + 1) ≤ nI k := Int32.le_trans h h2
  rw [nI_leI hk (by omega)] at h3
  omega
theorem kc_ge0 {k : Nat} (hk : k < 2 ^ 31) {x : Int32} (h : nI k ≤ x) : ¬ x < 0 := fun h2 => by
  rw [Int32.lt_iff_toInt_lt] at h2
  rw [Int32.le_iff_toInt_le, nI_toInt hk] at h
  rw [Int32.toInt_zero] at h2
  omega
theorem kc_up_id {α : Type} (f : Nat → α) (k : Nat) : va_up f k (f k) = f := by
  funext j
  by_cases h : j = k
  · subst h; rw [va_up_self]
  · rw [va_up_ne _ _ h]
theorem kc_mask1 (x : Int64) : (x.toInt32 &&& nI 255).toInt64 = x &&& 255 := by
  obtain ⟨n, hn, rfl⟩ : ∃ n, n < 2 ^ 64 ∧ x = lN n := ⟨x.toBitVec.toNat, x.toBitVec.isLt, Int64.toBitVec_inj.mp (by show x.toBitVec = BitVec.ofNat 64 x.toBitVec.toNat; simp)⟩
  rw [lN_i, show nI n &&& nI 255 = nI (n % 256) from ?_, nI_l (by omega)]
  · apply Int64.toBitVec_inj.mp
    apply BitVec.eq_of_toNat_eq
    have e1 : (lN (n % 256)).toBitVec.toNat = n % 256 := by show (BitVec.ofNat 64 (n % 256)).toNat = _; rw [BitVec.toNat_ofNat]; omega
    have e2 : (lN n &&& 255).toBitVec.toNat = n &&& 255 := by
      show ((lN n).toBitVec &&& (255 : Int64).toBitVec).toNat = _
      rw [BitVec.toNat_and]
      have : (lN n).toBitVec.toNat = n := by show (BitVec.ofNat 64 n).toNat = _; rw [BitVec.toNat_ofNat]; omega
      rw [this]
      rfl
    rw [e1, e2]
    exact (Nat.and_two_pow_sub_one_eq_mod n 8).symm
  · have h1 := pk_and (nI n) (m := nI 255) 8 (by decide)
    rw [h1]
    have : (nI n).toBitVec.toNat = n % 2 ^ 32 := by show (BitVec.ofNat 32 n).toNat = _; rw [BitVec.toNat_ofNat]
    rw [this]
    congr 1
    omega
theorem kc_mask2 (x : Int32) : (x &&& nI 255).toInt64 = x.toInt64 &&& 255 := by
  rw [← kc_mask1]
  congr 2
  exact (Int32.toInt32_toInt64 x).symm
/-- the byte that take and fill put at k -/
def kc_vs (v : Int64) (k : Nat) : Int64 := (v.toUInt64 >>> ((nI (8 * k)).toInt64.toUInt64 &&& Int64.toUInt64 63)).toInt64 &&& 255
def kc_fs (v st : Int32) (k : Nat) : Int64 := (v + nI k * st).toInt64 &&& 255
theorem kc_byte_upd {a : Nat → Int64} {p : Nat} {v x : Int64} (hx : x = a (p / 8) ^^^ (v <<< ((nI (8 * (p % 8))).toInt64 &&& 63))) : vp_updL a (p / 8) x = kc_byte a p v := by
  funext c
  unfold kc_byte vp_updL
  by_cases h : c = p / 8
  · rw [if_pos h, if_pos h, hx, h]
  · rw [if_neg h, if_neg h]
theorem kc_put_lo {q : kc_st} {v : Int64} (h : q.2 + 1 < 136) : kc_put q v = (kc_byte q.1 q.2 v, q.2 + 1) := if_pos h
theorem kc_put_hi {q : kc_st} {v : Int64} (h : 136 ≤ q.2 + 1) : kc_put q v = (kc_perm 24 (kc_byte q.1 q.2 v), 0) := if_neg (by omega)
theorem kc_odd {n : Nat} (h : ¬ nI (n % 2) = 0) : n % 2 = 1 := by
  rcases Nat.mod_two_eq_zero_or_one n with h1 | h1
  · rw [h1] at h; exact absurd rfl h
  · exact h1
theorem kc_even {n : Nat} (h : nI (n % 2) = 0) : ¬ n % 2 = 1 := fun h1 => by
  rw [h1] at h; exact absurd h (by decide)
theorem kc_P_1 {i k : Nat} (h : kc_lf (7 * i + k) % 2 = 1) : kc_P i (k + 1) = kc_P i k ||| kc_bit k := if_pos h
theorem kc_P_0 {i k : Nat} (h : ¬ kc_lf (7 * i + k) % 2 = 1) : kc_P i (k + 1) = kc_P i k := if_neg h
end
section
/-! the model: thrown, fail, out, get, put, taken (rows printed by gen12.py) -/
set_option maxHeartbeats 4000000 in
theorem c_M_thrown (l : Launch) (D : va_G) (h : Nat → Nat) (cJ cI cX : ClassId) (fl : Int32) (P : Nat → Int32) (La Co Mv : Nat → Int64) (M : Nat → Nat → Int64) (sz : Nat) : kc_Mi l y_M_thrown w_M_thrown r_0 [.ref (h 0)] D (kc_ty cJ cI cX) (kc_Mw h cJ cI cX fl P La Co Mv M) sz (fun r (_ : Unit) => r = fl) (fun _ => kc_Mw h cJ cI cX fl P La Co Mv M) 0 0 := by
  refine kc_ofWi (cc := b_M_thrown) (maxL := 1) (by decide) rfl (Nat.le_of_ble_eq_true rfl) ?_
  intro p e s m below meth c A ls S hr hlk hin hK hP hD hA hl hsz
  obtain ⟨hx, hb, hml, hown, hts⟩ := S
  have hS : va_S A s.heap s.heap [] := va_S.rf
  have hl : lv_has ls 1 [(0, .ref (h 0))] := hl
  obtain ⟨H, hH⟩ : ∃ H, H = s.heap := ⟨_, rfl⟩
  obtain ⟨locs, hlo⟩ : ∃ q : List Loc, q = [] := ⟨_, rfl⟩
  rw [← hlo] at hS ⊢
  have hP : va_P D kc_cl _ H := hH ▸ hP
  have hS : va_S A s.heap H locs := by rw [hH]; exact hS
  refine (show W _ _ _ _ _ _ _ _ _ _ H _ _ _ _ _ → W _ _ _ _ _ _ _ _ _ _ s.heap _ _ _ _ _ from by rw [hH]; exact id) ?_
  clear hlo hH
  refine lv_aload_n hx hb d_M_thrown_0 rfl (lv_at hl 0 rfl) ?_
  refine kg_M hx hb hts hown hK hP 0 rfl 0 (by decide) kw_191 (v := .int (fl)) rfl d_M_thrown_1 ?_
  exact kc_iret hx hb hr hlk () rfl hP hD hS d_M_thrown_4
set_option maxHeartbeats 4000000 in
theorem c_M_fail (l : Launch) (D : va_G) (h : Nat → Nat) (cJ cI cX : ClassId) (fl : Int32) (P : Nat → Int32) (La Co Mv : Nat → Int64) (M : Nat → Nat → Int64) (sz : Nat) (cd : Int32) : kc_Mi l y_M_fail w_M_fail r_0 [.ref (h 0), .int cd] D (kc_ty cJ cI cX) (kc_Mw h cJ cI cX fl P La Co Mv M) sz (fun r (_ : Unit) => r = nI 0) (fun _ => kc_Mw h cJ cI cX cd P La Co Mv M) 0 0 := by
  refine kc_ofWi (cc := b_M_fail) (maxL := 2) (by decide) rfl (Nat.le_of_ble_eq_true rfl) ?_
  intro p e s m below meth c A ls S hr hlk hin hK hP hD hA hl hsz
  obtain ⟨hx, hb, hml, hown, hts⟩ := S
  have hS : va_S A s.heap s.heap [] := va_S.rf
  have hl : lv_has ls 2 [(0, .ref (h 0)), (1, .int (cd))] := hl
  obtain ⟨H, hH⟩ : ∃ H, H = s.heap := ⟨_, rfl⟩
  obtain ⟨locs, hlo⟩ : ∃ q : List Loc, q = [] := ⟨_, rfl⟩
  rw [← hlo] at hS ⊢
  have hP : va_P D kc_cl _ H := hH ▸ hP
  have hS : va_S A s.heap H locs := by rw [hH]; exact hS
  refine (show W _ _ _ _ _ _ _ _ _ _ H _ _ _ _ _ → W _ _ _ _ _ _ _ _ _ _ s.heap _ _ _ _ _ from by rw [hH]; exact id) ?_
  clear hlo hH
  refine lv_aload_n hx hb d_M_fail_0 rfl (lv_at hl 0 rfl) ?_
  refine lv_iload_n hx hb d_M_fail_1 rfl (lv_at hl 1 rfl) ?_
  refine va_put (D := D) (ci := 2) (v := .int (cd)) (ty := .int) (C := R_M) (T := F_M) (N := 7) (own := R_M) hx hb hts u_M_in t_M t_M_ok n_M hown hK hP hD hS 0 rfl rfl 0 (by decide) (hts _ kw_191) (fun _ h9 => h9) rfl (by decide +kernel) rfl rfl (Nat.le_of_ble_eq_true rfl) d_M_fail_2 (fun H locs hP hD hS => ?_)
  have hP : va_P D kc_cl (kc_Mw h cJ cI cX (cd) (P) (La) (Co) (Mv) (M)) H := hP
  have hD : va_D A (kc_Mw h cJ cI cX (cd) (P) (La) (Co) (Mv) (M)) := hD
  refine lv_iconst (v := nI 0) hx hb d_M_fail_5 (by decide +kernel) ?_
  exact kc_iret hx hb hr hlk () rfl hP hD hS d_M_fail_6
set_option maxHeartbeats 4000000 in
theorem c_M_out_v (l : Launch) (D : va_G) (h : Nat → Nat) (cJ cI cX : ClassId) (fl : Int32) (P : Nat → Int32) (La Co Mv : Nat → Int64) (M : Nat → Nat → Int64) (sz : Nat) (j : Nat) (hj : j < 8) : kc_Mi l y_M_out w_M_out r_0 [.ref (h 0), .int (nI j)] D (kc_ty cJ cI cX) (kc_Mw h cJ cI cX fl P La Co Mv M) sz (fun r (_ : Unit) => r = nI 0) (fun _ => kc_Mw h cJ cI cX fl P La Co Mv M) 0 0 := by
  refine kc_ofWi (cc := b_M_out) (maxL := 2) (by decide) rfl (Nat.le_of_ble_eq_true rfl) ?_
  intro p e s m below meth c A ls S hr hlk hin hK hP hD hA hl hsz
  obtain ⟨hx, hb, hml, hown, hts⟩ := S
  have hS : va_S A s.heap s.heap [] := va_S.rf
  have hl : lv_has ls 2 [(0, .ref (h 0)), (1, .int (nI (j)))] := hl
  obtain ⟨H, hH⟩ : ∃ H, H = s.heap := ⟨_, rfl⟩
  obtain ⟨locs, hlo⟩ : ∃ q : List Loc, q = [] := ⟨_, rfl⟩
  rw [← hlo] at hS ⊢
  have hP : va_P D kc_cl _ H := hH ▸ hP
  have hS : va_S A s.heap H locs := by rw [hH]; exact hS
  refine (show W _ _ _ _ _ _ _ _ _ _ H _ _ _ _ _ → W _ _ _ _ _ _ _ _ _ _ s.heap _ _ _ _ _ from by rw [hH]; exact id) ?_
  clear hlo hH
  refine lv_iload_n hx hb d_M_out_0 rfl (lv_at hl 1 rfl) ?_
  refine kn_iflt (tgt := 10) hx hb (by omega) d_M_out_1 (by decide) ?_
  refine lv_iload_n hx hb d_M_out_4 rfl (lv_at hl 1 rfl) ?_
  refine lv_bipush (v := nI 7) hx hb d_M_out_5 (by decide +kernel) ?_
  refine kn_le (tgt := 14) hx hb (by omega) (by omega) d_M_out_7 (by decide) (fun _ => ?_) (fun hc => absurd hc (by omega))
  refine lv_iconst (v := nI 0) hx hb d_M_out_14 (by decide +kernel) ?_
  exact kc_zret hx hb hr (by decide) hlk () rfl hP hD hS d_M_out_15
set_option maxHeartbeats 4000000 in
theorem c_M_out_x (l : Launch) (D : va_G) (h : Nat → Nat) (cJ cI cX : ClassId) (fl : Int32) (P : Nat → Int32) (La Co Mv : Nat → Int64) (M : Nat → Nat → Int64) (sz : Nat) (x : Int32) (hbad : x < 0 ∨ nI 8 ≤ x) : kc_Mi l y_M_out w_M_out r_0 [.ref (h 0), .int x] D (kc_ty cJ cI cX) (kc_Mw h cJ cI cX fl P La Co Mv M) sz (fun r (_ : Unit) => r = nI 1) (fun _ => kc_Mw h cJ cI cX fl P La Co Mv M) 0 0 := by
  refine kc_ofWi (cc := b_M_out) (maxL := 2) (by decide) rfl (Nat.le_of_ble_eq_true rfl) ?_
  intro p e s m below meth c A ls S hr hlk hin hK hP hD hA hl hsz
  obtain ⟨hx, hb, hml, hown, hts⟩ := S
  have hS : va_S A s.heap s.heap [] := va_S.rf
  have hl : lv_has ls 2 [(0, .ref (h 0)), (1, .int (x))] := hl
  obtain ⟨H, hH⟩ : ∃ H, H = s.heap := ⟨_, rfl⟩
  obtain ⟨locs, hlo⟩ : ∃ q : List Loc, q = [] := ⟨_, rfl⟩
  rw [← hlo] at hS ⊢
  have hP : va_P D kc_cl _ H := hH ▸ hP
  have hS : va_S A s.heap H locs := by rw [hH]; exact hS
  refine (show W _ _ _ _ _ _ _ _ _ _ H _ _ _ _ _ → W _ _ _ _ _ _ _ _ _ _ s.heap _ _ _ _ _ from by rw [hH]; exact id) ?_
  clear hlo hH
  rcases hbad with hbad | hbad
  · refine lv_iload_n hx hb d_M_out_0 rfl (lv_at hl 1 rfl) ?_
    refine lv_if_lt (tgt := 10) hx hb d_M_out_1 (by decide) (fun _ => ?_) (fun hc => absurd hc (not_not_intro hbad))
    refine lv_iconst (v := nI 1) hx hb d_M_out_10 (by decide +kernel) ?_
    refine lv_goto (tgt := 15) hx hb d_M_out_11 (by decide) ?_
    exact kc_zret hx hb hr (by decide) hlk () rfl hP hD hS d_M_out_15
  · refine lv_iload_n hx hb d_M_out_0 rfl (lv_at hl 1 rfl) ?_
    refine lv_if_lt (tgt := 10) hx hb d_M_out_1 (by decide) (fun hc => absurd hc (kc_ge0 (by decide) hbad)) (fun _ => ?_)
    refine lv_iload_n hx hb d_M_out_4 rfl (lv_at hl 1 rfl) ?_
    refine lv_bipush (v := nI 7) hx hb d_M_out_5 (by decide +kernel) ?_
    refine lv_icmp_le (tgt := 14) hx hb d_M_out_7 (by decide) (fun hc => absurd hc (kc_gt (by decide) hbad)) (fun _ => ?_)
    refine lv_iconst (v := nI 1) hx hb d_M_out_10 (by decide +kernel) ?_
    refine lv_goto (tgt := 15) hx hb d_M_out_11 (by decide) ?_
    exact kc_zret hx hb hr (by decide) hlk () rfl hP hD hS d_M_out_15
section MGP
variable {p : Program} {l : Launch} {e : Env} {R : Room} {s : State} {m : MethodId} {args : Array Value} {below : List Frame} {meth : Method} {c : Code} {Q : State → Prop} {D : va_G} {A : Nat → Prop} {h : Nat → Nat} {cJ cI cX : ClassId} {fl : Int32} {cells slots : Nat}
set_option maxHeartbeats 4000000 in
theorem M_get_L (S : CallFix p m c b_M_get 3 s args kc_tbl R_M) (hK : va_K D kc_cl (kc_ty cJ cI cX) s) {P : Nat → Int32} {Co Mv : Nat → Int64} {M : Nat → Nat → Int64} {j : Nat} (hj : j < 8) (n : Nat) : ∀ (k : Nat) (H : Heap) (locs : List Loc) (ls : Array Slot) (La : Nat → Int64), k + n = 25 → lv_has ls 3 [(2, .int (nI (k))), (0, .ref (h 0)), (1, .int (nI (j)))] → kc_at D A s.heap H locs (kc_Mw h cJ cI cX (fl) (P) (La) (Co) (Mv) (M)) → (∀ c, c < k → La c = M j c) → (∀ (H : Heap) (locs : List Loc) (ls : Array Slot) (La : Nat → Int64), lv_has ls 3 [(2, .int (nI (25))), (0, .ref (h 0)), (1, .int (nI (j)))] → kc_at D A s.heap H locs (kc_Mw h cJ cI cX (fl) (P) (La) (Co) (Mv) (M)) → (∀ c, c < 25 → La c = M j c) → W p l e R s m args below meth c H locs cells slots Q (F0 m 28 ls [])) → W p l e R s m args below meth c H locs cells slots Q (F0 m 2 ls []) := by
  obtain ⟨hx, hb, hml, hown, hts⟩ := S
  induction n with
  | zero =>
    intro k H locs ls La hn hl hw hinv K
    obtain ⟨hP, hD, hS⟩ := hw
    obtain rfl : k = 25 := by omega
    refine lv_iload_n hx hb d_M_get_2 rfl (lv_at hl 0 rfl) ?_
    refine lv_bipush (v := nI 25) hx hb d_M_get_3 (by decide +kernel) ?_
    refine kn_ge (tgt := 28) hx hb (by omega) (by omega) d_M_get_5 (by decide) (fun _ => ?_) (fun hc => absurd hc (by omega))
    exact K H locs ls La hl ⟨hP, hD, hS⟩ hinv
  | succ n ih =>
    intro k H locs ls La hn hl hw hinv K
    obtain ⟨hP, hD, hS⟩ := hw
    refine lv_iload_n hx hb d_M_get_2 rfl (lv_at hl 0 rfl) ?_
    refine lv_bipush (v := nI 25) hx hb d_M_get_3 (by decide +kernel) ?_
    refine kn_ge (tgt := 28) hx hb (by omega) (by omega) d_M_get_5 (by decide) (fun hc => absurd hc (by omega)) (fun _ => ?_)
    refine lv_aload_n hx hb d_M_get_8 rfl (lv_at hl 1 rfl) ?_
    refine kg_M hx hb hts hown hK hP 0 rfl 3 (by decide) kw_194 (v := .ref (h 3)) rfl d_M_get_9 ?_
    refine lv_iload_n hx hb d_M_get_12 rfl (lv_at hl 0 rfl) ?_
    refine lv_aload_n hx hb d_M_get_13 rfl (lv_at hl 1 rfl) ?_
    refine kg_M hx hb hts hown hK hP 0 rfl 1 (by decide) kw_192 (v := .ref (h 1)) rfl d_M_get_14 ?_
    refine lv_iload_n hx hb d_M_get_17 rfl (lv_at hl 2 rfl) ?_
    refine ka_aald (q := h (7 + j)) hx hb hK hP 1 2 rfl rfl (i := j) (by omega) (by decide) rfl d_M_get_18 ?_
    refine lv_iload_n hx hb d_M_get_19 rfl (lv_at hl 0 rfl) ?_
    refine ka_lald (f := M j) hx hb hK hP (7 + j) 0 (kc_row_at _ _ _ _ _ _ _ _ _ _ (by omega)) rfl (i := k) (by omega) (by decide) d_M_get_20 ?_
    refine lv_topl (fun v1 e_v1 => ?_)
    refine ka_last (f := La) hx hb hK hP hD hS 3 0 rfl rfl (i := k) (by omega) (by decide) d_M_get_21 (fun H locs hP hD hS => ?_)
    have hP : va_P D kc_cl (kc_Mw h cJ cI cX (fl) (P) (vp_updL La (k) (v1)) (Co) (Mv) (M)) H := hP
    have hD : va_D A (kc_Mw h cJ cI cX (fl) (P) (vp_updL La (k) (v1)) (Co) (Mv) (M)) := hD
    refine lv_iinc (k := 0) hx hb d_M_get_22 hl rfl (kn_i1 _) (by decide) rfl (fun ls hl => ?_)
    have hl : lv_has ls 3 [(2, .int (nI (k + 1))), (0, .ref (h 0)), (1, .int (nI (j)))] := hl
    refine lv_goto (tgt := 2) hx hb d_M_get_25 (by decide) ?_
    have hl : lv_has ls 3 [(2, .int (nI (k + 1))), (0, .ref (h 0)), (1, .int (nI (j)))] := lv_sub hl [0, 1, 2] rfl
    exact ih (k + 1) H locs ls _ (by omega) hl ⟨hP, hD, hS⟩ (fun c hc => by by_cases hck : c = k; (subst hck; rw [pk_uLs, e_v1]); (rw [pk_uLn hck]; exact hinv c (by omega))) K
set_option maxHeartbeats 4000000 in
theorem M_put_L (S : CallFix p m c b_M_put 3 s args kc_tbl R_M) (hK : va_K D kc_cl (kc_ty cJ cI cX) s) {P : Nat → Int32} {La Co Mv : Nat → Int64} {M : Nat → Nat → Int64} {j : Nat} (hj : j < 8) (n : Nat) : ∀ (k : Nat) (H : Heap) (locs : List Loc) (ls : Array Slot) (g : Nat → Int64), k + n = 25 → lv_has ls 3 [(2, .int (nI (k))), (0, .ref (h 0)), (1, .int (nI (j)))] → kc_at D A s.heap H locs (kc_Mw h cJ cI cX (fl) (P) (La) (Co) (Mv) (va_up M j g)) → (∀ c, c < k → g c = La c) → (∀ (H : Heap) (locs : List Loc) (ls : Array Slot) (g : Nat → Int64), lv_has ls 3 [(2, .int (nI (25))), (0, .ref (h 0)), (1, .int (nI (j)))] → kc_at D A s.heap H locs (kc_Mw h cJ cI cX (fl) (P) (La) (Co) (Mv) (va_up M j g)) → (∀ c, c < 25 → g c = La c) → W p l e R s m args below meth c H locs cells slots Q (F0 m 28 ls [])) → W p l e R s m args below meth c H locs cells slots Q (F0 m 2 ls []) := by
  obtain ⟨hx, hb, hml, hown, hts⟩ := S
  induction n with
  | zero =>
    intro k H locs ls g hn hl hw hinv K
    obtain ⟨hP, hD, hS⟩ := hw
    obtain rfl : k = 25 := by omega
    refine lv_iload_n hx hb d_M_put_2 rfl (lv_at hl 0 rfl) ?_
    refine lv_bipush (v := nI 25) hx hb d_M_put_3 (by decide +kernel) ?_
    refine kn_ge (tgt := 28) hx hb (by omega) (by omega) d_M_put_5 (by decide) (fun _ => ?_) (fun hc => absurd hc (by omega))
    exact K H locs ls g hl ⟨hP, hD, hS⟩ hinv
  | succ n ih =>
    intro k H locs ls g hn hl hw hinv K
    obtain ⟨hP, hD, hS⟩ := hw
    refine lv_iload_n hx hb d_M_put_2 rfl (lv_at hl 0 rfl) ?_
    refine lv_bipush (v := nI 25) hx hb d_M_put_3 (by decide +kernel) ?_
    refine kn_ge (tgt := 28) hx hb (by omega) (by omega) d_M_put_5 (by decide) (fun hc => absurd hc (by omega)) (fun _ => ?_)
    refine lv_aload_n hx hb d_M_put_8 rfl (lv_at hl 1 rfl) ?_
    refine kg_M hx hb hts hown hK hP 0 rfl 1 (by decide) kw_192 (v := .ref (h 1)) rfl d_M_put_9 ?_
    refine lv_iload_n hx hb d_M_put_12 rfl (lv_at hl 2 rfl) ?_
    refine ka_aald (q := h (7 + j)) hx hb hK hP 1 2 rfl rfl (i := j) (by omega) (by decide) rfl d_M_put_13 ?_
    refine lv_iload_n hx hb d_M_put_14 rfl (lv_at hl 0 rfl) ?_
    refine lv_aload_n hx hb d_M_put_15 rfl (lv_at hl 1 rfl) ?_
    refine kg_M hx hb hts hown hK hP 0 rfl 3 (by decide) kw_194 (v := .ref (h 3)) rfl d_M_put_16 ?_
    refine lv_iload_n hx hb d_M_put_19 rfl (lv_at hl 0 rfl) ?_
    refine ka_lald (f := La) hx hb hK hP 3 0 rfl rfl (i := k) (by omega) (by decide) d_M_put_20 ?_
    refine lv_topl (fun v1 e_v1 => ?_)
    refine ka_last (f := (va_up M j g) j) hx hb hK hP hD hS (7 + j) 0 (kc_row_at _ _ _ _ _ _ _ _ _ _ (by omega)) rfl (i := k) (by omega) (by decide) d_M_put_21 (fun H locs hP hD hS => ?_)
    rw [kc_row_set _ _ _ _ _ _ _ _ _ _ (by omega)] at hP hD
    have hP : va_P D kc_cl (kc_Mw h cJ cI cX (fl) (P) (La) (Co) (Mv) (va_up (va_up M j g) j (vp_updL ((va_up M j g) j) (k) (v1)))) H := hP
    have hD : va_D A (kc_Mw h cJ cI cX (fl) (P) (La) (Co) (Mv) (va_up (va_up M j g) j (vp_updL ((va_up M j g) j) (k) (v1)))) := hD
    rw [bx_uu, va_up_self] at hP hD
    have hP : va_P D kc_cl (kc_Mw h cJ cI cX (fl) (P) (La) (Co) (Mv) (va_up M j (vp_updL g (k) (v1)))) H := hP
    have hD : va_D A (kc_Mw h cJ cI cX (fl) (P) (La) (Co) (Mv) (va_up M j (vp_updL g (k) (v1)))) := hD
    refine lv_iinc (k := 0) hx hb d_M_put_22 hl rfl (kn_i1 _) (by decide) rfl (fun ls hl => ?_)
    have hl : lv_has ls 3 [(2, .int (nI (k + 1))), (0, .ref (h 0)), (1, .int (nI (j)))] := hl
    refine lv_goto (tgt := 2) hx hb d_M_put_25 (by decide) ?_
    have hl : lv_has ls 3 [(2, .int (nI (k + 1))), (0, .ref (h 0)), (1, .int (nI (j)))] := lv_sub hl [0, 1, 2] rfl
    exact ih (k + 1) H locs ls _ (by omega) hl ⟨hP, hD, hS⟩ (fun c hc => by by_cases hck : c = k; (subst hck; rw [pk_uLs, e_v1]); (rw [pk_uLn hck]; exact hinv c (by omega))) K
end MGP
set_option maxHeartbeats 4000000 in
theorem c_M_get (l : Launch) (D : va_G) (h : Nat → Nat) (cJ cI cX : ClassId) (fl : Int32) (P : Nat → Int32) (La Co Mv : Nat → Int64) (M : Nat → Nat → Int64) (sz : Nat) (j : Nat) (hj : j < 8) : kc_Mv l y_M_get w_M_get r_0 [.ref (h 0), .int (nI j)] D (kc_ty cJ cI cX) (kc_Mw h cJ cI cX fl P La Co Mv M) sz (fun u : Nat → Int64 => kc_eq u (M j)) (fun u => kc_Mw h cJ cI cX fl P u Co Mv M) 0 0 := by
  refine kc_ofWv (cc := b_M_get) (maxL := 3) (by decide) rfl (Nat.le_of_ble_eq_true rfl) ?_
  intro p e s m below meth c A ls S hr hlk hin hK hP hD hA hl hsz
  obtain ⟨hx, hb, hml, hown, hts⟩ := S
  have hS : va_S A s.heap s.heap [] := va_S.rf
  have hl : lv_has ls 3 [(0, .ref (h 0)), (1, .int (nI (j)))] := hl
  obtain ⟨H, hH⟩ : ∃ H, H = s.heap := ⟨_, rfl⟩
  obtain ⟨locs, hlo⟩ : ∃ q : List Loc, q = [] := ⟨_, rfl⟩
  rw [← hlo] at hS ⊢
  have hP : va_P D kc_cl _ H := hH ▸ hP
  have hS : va_S A s.heap H locs := by rw [hH]; exact hS
  refine (show W _ _ _ _ _ _ _ _ _ _ H _ _ _ _ _ → W _ _ _ _ _ _ _ _ _ _ s.heap _ _ _ _ _ from by rw [hH]; exact id) ?_
  clear hlo hH
  refine lv_iconst (v := nI 0) hx hb d_M_get_0 (by decide +kernel) ?_
  refine lv_istore_n hx hb d_M_get_1 rfl hl (by decide) rfl (fun ls hl => ?_)
  have hl : lv_has ls 3 [(2, .int (nI (0))), (0, .ref (h 0)), (1, .int (nI (j)))] := hl
  have hl : lv_has ls 3 [(2, .int (nI (0))), (0, .ref (h 0)), (1, .int (nI (j)))] := lv_sub hl [0, 1, 2] rfl
  refine M_get_L ⟨hx, hb, hml, hown, hts⟩ hK hj 25 0 H locs ls La (by omega) hl ⟨hP, hD, hS⟩ (fun c hc => absurd hc (by omega)) (fun H locs ls La hl hw hinv => ?_)
  obtain ⟨hP, hD, hS⟩ := hw
  exact kc_vret hx hb hr hlk La hinv hP hD hS d_M_get_28
set_option maxHeartbeats 4000000 in
theorem c_M_put (l : Launch) (D : va_G) (h : Nat → Nat) (cJ cI cX : ClassId) (fl : Int32) (P : Nat → Int32) (La Co Mv : Nat → Int64) (M : Nat → Nat → Int64) (sz : Nat) (j : Nat) (hj : j < 8) : kc_Mv l y_M_put w_M_put r_0 [.ref (h 0), .int (nI j)] D (kc_ty cJ cI cX) (kc_Mw h cJ cI cX fl P La Co Mv M) sz (fun u : Nat → Int64 => kc_eq u La) (fun u => kc_Mw h cJ cI cX fl P La Co Mv (va_up M j u)) 0 0 := by
  refine kc_ofWv (cc := b_M_put) (maxL := 3) (by decide) rfl (Nat.le_of_ble_eq_true rfl) ?_
  intro p e s m below meth c A ls S hr hlk hin hK hP hD hA hl hsz
  obtain ⟨hx, hb, hml, hown, hts⟩ := S
  have hS : va_S A s.heap s.heap [] := va_S.rf
  have hl : lv_has ls 3 [(0, .ref (h 0)), (1, .int (nI (j)))] := hl
  obtain ⟨H, hH⟩ : ∃ H, H = s.heap := ⟨_, rfl⟩
  obtain ⟨locs, hlo⟩ : ∃ q : List Loc, q = [] := ⟨_, rfl⟩
  rw [← hlo] at hS ⊢
  have hP : va_P D kc_cl _ H := hH ▸ hP
  have hS : va_S A s.heap H locs := by rw [hH]; exact hS
  refine (show W _ _ _ _ _ _ _ _ _ _ H _ _ _ _ _ → W _ _ _ _ _ _ _ _ _ _ s.heap _ _ _ _ _ from by rw [hH]; exact id) ?_
  clear hlo hH
  refine lv_iconst (v := nI 0) hx hb d_M_put_0 (by decide +kernel) ?_
  refine lv_istore_n hx hb d_M_put_1 rfl hl (by decide) rfl (fun ls hl => ?_)
  have hl : lv_has ls 3 [(2, .int (nI (0))), (0, .ref (h 0)), (1, .int (nI (j)))] := hl
  have hl : lv_has ls 3 [(2, .int (nI (0))), (0, .ref (h 0)), (1, .int (nI (j)))] := lv_sub hl [0, 1, 2] rfl
  refine M_put_L ⟨hx, hb, hml, hown, hts⟩ hK (M := M) hj 25 0 H locs ls (M j) (by omega) hl (by rw [kc_up_id]; exact ⟨hP, hD, hS⟩) (fun c hc => absurd hc (by omega)) (fun H locs ls g hl hw hinv => ?_)
  obtain ⟨hP, hD, hS⟩ := hw
  exact kc_vret hx hb hr hlk g hinv hP hD hS d_M_put_28
abbrev r_M_taken : Room := { frames := 2, cells := 0, slots := 0, locals := 47 }
set_option maxHeartbeats 4000000 in
theorem c_M_taken (l : Launch) (D : va_G) (h : Nat → Nat) (cJ cI cX : ClassId) (fl : Int32) (P : Nat → Int32) (La Co Mv : Nat → Int64) (M : Nat → Nat → Int64) (sz : Nat) (j : Nat) (hj : j < 8) (b : Int32) (pp : Nat) (hpp : P j = nI pp) (hlt : pp < 136) : kc_Mv l y_M_taken w_M_taken r_M_taken [.ref (h 0), .int (nI j), .int b] D (kc_ty cJ cI cX) (kc_Mw h cJ cI cX fl P La Co Mv M) sz (fun u : (Nat → Int32) × (Nat → Int64) × (Nat → Int64) × (Nat → Int64) => kc_eq u.2.1 (kc_put (La, pp) (b.toInt64 &&& 255)).1 ∧ u.1 j = nI (kc_put (La, pp) (b.toInt64 &&& 255)).2 ∧ ∀ i, i ≠ j → u.1 i = P i) (fun u => kc_Mw h cJ cI cX fl u.1 u.2.1 u.2.2.1 u.2.2.2 M) 0 0 := by
  refine kc_ofWv (cc := b_M_taken) (maxL := 4) (by decide) rfl (Nat.le_of_ble_eq_true rfl) ?_
  intro p e s m below meth c A ls S hr hlk hin hK hP hD hA hl hsz
  obtain ⟨hx, hb, hml, hown, hts⟩ := S
  have hS : va_S A s.heap s.heap [] := va_S.rf
  have hl : lv_has ls 4 [(0, .ref (h 0)), (1, .int (nI (j))), (2, .int (b))] := hl
  obtain ⟨H, hH⟩ : ∃ H, H = s.heap := ⟨_, rfl⟩
  obtain ⟨locs, hlo⟩ : ∃ q : List Loc, q = [] := ⟨_, rfl⟩
  rw [← hlo] at hS ⊢
  have hP : va_P D kc_cl _ H := hH ▸ hP
  have hS : va_S A s.heap H locs := by rw [hH]; exact hS
  refine (show W _ _ _ _ _ _ _ _ _ _ H _ _ _ _ _ → W _ _ _ _ _ _ _ _ _ _ s.heap _ _ _ _ _ from by rw [hH]; exact id) ?_
  clear hlo hH
  refine lv_aload_n hx hb d_M_taken_0 rfl (lv_at hl 0 rfl) ?_
  refine kg_M hx hb hts hown hK hP 0 rfl 2 (by decide) kw_193 (v := .ref (h 2)) rfl d_M_taken_1 ?_
  refine lv_iload_n hx hb d_M_taken_4 rfl (lv_at hl 1 rfl) ?_
  refine ka_iald (f := P) hx hb hK hP 2 1 rfl rfl (i := j) (by omega) (by decide) d_M_taken_5 ?_
  refine kv_i (y := (nI (pp))) (hpp) ?_
  refine lv_istore_n hx hb d_M_taken_6 rfl hl (by decide) rfl (fun ls hl => ?_)
  have hl : lv_has ls 4 [(3, .int (nI (pp))), (0, .ref (h 0)), (1, .int (nI (j))), (2, .int (b))] := hl
  refine lv_aload_n hx hb d_M_taken_7 rfl (lv_at hl 1 rfl) ?_
  refine kg_M hx hb hts hown hK hP 0 rfl 3 (by decide) kw_194 (v := .ref (h 3)) rfl d_M_taken_8 ?_
  refine lv_iload_n hx hb d_M_taken_11 rfl (lv_at hl 0 rfl) ?_
  refine lv_bipush (v := nI 8) hx hb d_M_taken_12 (by decide +kernel) ?_
  refine kn_div hx hb (by omega) (by decide) (by decide) d_M_taken_14 ?_
  refine lv_dup2_11 hx hb d_M_taken_15 rfl rfl ?_
  refine ka_lald (f := La) hx hb hK hP 3 0 rfl rfl (i := pp / 8) (by omega) (by decide) d_M_taken_16 ?_
  refine lv_iload_n hx hb d_M_taken_17 rfl (lv_at hl 3 rfl) ?_
  refine lv_sipush (v := nI 255) hx hb d_M_taken_18 (by decide +kernel) ?_
  refine lv_iand hx hb d_M_taken_21 ?_
  refine lv_i2l hx hb d_M_taken_22 rfl ?_
  refine lv_bipush (v := nI 8) hx hb d_M_taken_23 (by decide +kernel) ?_
  refine lv_iload_n hx hb d_M_taken_25 rfl (lv_at hl 0 rfl) ?_
  refine lv_bipush (v := nI 8) hx hb d_M_taken_26 (by decide +kernel) ?_
  refine kn_rem hx hb (by omega) (by decide) (by decide) d_M_taken_28 ?_
  refine kn_mul hx hb d_M_taken_29 ?_
  refine lv_lshl hx hb d_M_taken_30 rfl ?_
  refine lv_lxor hx hb d_M_taken_31 ?_
  refine lv_topl (fun v1 e_v1 => ?_)
  refine ka_last (f := La) hx hb hK hP hD hS 3 0 rfl rfl (i := pp / 8) (by omega) (by decide) d_M_taken_32 (fun H locs hP hD hS => ?_)
  have hP : va_P D kc_cl (kc_Mw h cJ cI cX (fl) (P) (vp_updL La (pp / 8) (v1)) (Co) (Mv) (M)) H := hP
  have hD : va_D A (kc_Mw h cJ cI cX (fl) (P) (vp_updL La (pp / 8) (v1)) (Co) (Mv) (M)) := hD
  refine lv_aload_n hx hb d_M_taken_33 rfl (lv_at hl 1 rfl) ?_
  refine kg_M hx hb hts hown hK hP 0 rfl 2 (by decide) kw_193 (v := .ref (h 2)) rfl d_M_taken_34 ?_
  refine lv_iload_n hx hb d_M_taken_37 rfl (lv_at hl 2 rfl) ?_
  refine lv_dup2_11 hx hb d_M_taken_38 rfl rfl ?_
  refine ka_iald (f := P) hx hb hK hP 2 1 rfl rfl (i := j) (by omega) (by decide) d_M_taken_39 ?_
  refine kv_i (y := (nI (pp))) (hpp) ?_
  refine lv_iconst (v := nI 1) hx hb d_M_taken_40 (by decide +kernel) ?_
  refine kn_add hx hb d_M_taken_41 ?_
  refine ka_iast (f := P) hx hb hK hP hD hS 2 1 rfl rfl (i := j) (by omega) (by decide) d_M_taken_42 (fun H locs hP hD hS => ?_)
  have hP : va_P D kc_cl (kc_Mw h cJ cI cX (fl) (upd P (j) (nI (pp + 1))) (vp_updL La (pp / 8) (v1)) (Co) (Mv) (M)) H := hP
  have hD : va_D A (kc_Mw h cJ cI cX (fl) (upd P (j) (nI (pp + 1))) (vp_updL La (pp / 8) (v1)) (Co) (Mv) (M)) := hD
  refine lv_aload_n hx hb d_M_taken_43 rfl (lv_at hl 1 rfl) ?_
  refine kg_M hx hb hts hown hK hP 0 rfl 2 (by decide) kw_193 (v := .ref (h 2)) rfl d_M_taken_44 ?_
  refine lv_iload_n hx hb d_M_taken_47 rfl (lv_at hl 2 rfl) ?_
  refine ka_iald (f := upd P (j) (nI (pp + 1))) hx hb hK hP 2 1 rfl rfl (i := j) (by omega) (by decide) d_M_taken_48 ?_
  refine kv_i (y := (nI (pp + 1))) (pk_us) ?_
  refine lv_sipush (v := nI 136) hx hb d_M_taken_49 (by decide +kernel) ?_
  have hby : vp_updL La (pp / 8) v1 = kc_byte La pp (b.toInt64 &&& 255) := kc_byte_upd (by rw [e_v1, kc_mask2])
  refine kn_ge (tgt := 56) hx hb (by omega) (by omega) d_M_taken_52 (by decide) (fun hc => ?_) (fun hc => ?_)
  · have hpt := kc_put_hi (q := (La, pp)) (v := b.toInt64 &&& 255) hc
    refine lv_aload_n hx hb d_M_taken_56 rfl (lv_at hl 1 rfl) ?_
    refine kc_goV (wr := []) (ws := kc_Mw h cJ cI cX (fl) (upd P (j) (nI (pp + 1))) (vp_updL La (pp / 8) (v1)) (Co) (Mv) (M)) (va_runV (As := []) (rest := []) ⟨hx, hb, hml, hown, hts⟩ (c_M_permute l D h cJ cI cX (fl) (upd P (j) (nI (pp + 1))) (vp_updL La (pp / 8) (v1)) Co Mv M H.size ) (cwV 0 hts (kc_inV kw_241 kw_243 ks_7 kw_3 kw_244) rfl rfl rfl (by decide +kernel) ⟨by decide, by decide⟩) (kc_preV (wr := []) (q0 := 0) (ci := 2) hK hP hD rfl rfl) rfl rfl hl.1 rfl (lv_room (Nat.le_of_ble_eq_true rfl)) d_M_taken_57 ⟨by decide, by decide⟩) hP hD hS hA (fun u H locs hp hP hD hS => ?_)
    obtain ⟨La1, Co1, Mv1⟩ := u
    have hP : va_P D kc_cl (kc_Mw h cJ cI cX (fl) (upd P (j) (nI (pp + 1))) (La1) (Co1) (Mv1) (M)) H := hP
    have hD : va_D A (kc_Mw h cJ cI cX (fl) (upd P (j) (nI (pp + 1))) (La1) (Co1) (Mv1) (M)) := hD
    have hp : kc_eq La1 (kc_perm 24 (vp_updL La (pp / 8) v1)) := hp
    refine lv_aload_n hx hb d_M_taken_60 rfl (lv_at hl 1 rfl) ?_
    refine kg_M hx hb hts hown hK hP 0 rfl 2 (by decide) kw_193 (v := .ref (h 2)) rfl d_M_taken_61 ?_
    refine lv_iload_n hx hb d_M_taken_64 rfl (lv_at hl 2 rfl) ?_
    refine lv_iconst (v := nI 0) hx hb d_M_taken_65 (by decide +kernel) ?_
    refine ka_iast (f := upd P (j) (nI (pp + 1))) hx hb hK hP hD hS 2 1 rfl rfl (i := j) (by omega) (by decide) d_M_taken_66 (fun H locs hP hD hS => ?_)
    have hP : va_P D kc_cl (kc_Mw h cJ cI cX (fl) (upd (upd P (j) (nI (pp + 1))) (j) (nI (0))) (La1) (Co1) (Mv1) (M)) H := hP
    have hD : va_D A (kc_Mw h cJ cI cX (fl) (upd (upd P (j) (nI (pp + 1))) (j) (nI (0))) (La1) (Co1) (Mv1) (M)) := hD
    refine kc_vret hx hb hr hlk (_, La1, Co1, Mv1) ⟨?_, ?_, ?_⟩ hP hD hS d_M_taken_67
    · rw [hpt]; rw [hby] at hp; exact hp
    · rw [hpt]; exact pk_us
    · intro i hi; show upd (upd P _ _) _ _ i = P i; rw [pk_un hi, pk_un hi]
  · have hpt := kc_put_lo (q := (La, pp)) (v := b.toInt64 &&& 255) hc
    refine kc_vret hx hb hr hlk (_, _, Co, Mv) ⟨?_, ?_, ?_⟩ hP hD hS d_M_taken_55
    · rw [hpt]; show kc_eq (vp_updL La (pp / 8) v1) _; rw [hby]; exact kc_eq.rf
    · rw [hpt]; exact pk_us
    · intro i hi; show upd P _ _ i = P i; rw [pk_un hi]
end
section
/-! the model: clear, take, fill, copy, mix, lane, digest; _v: arguments good, _x: bad (rows printed by gen13.py) -/
abbrev r_M : Room := { frames := 3, cells := 0, slots := 0, locals := 70 }
section MCL
variable {p : Program} {l : Launch} {e : Env} {R : Room} {s : State} {m : MethodId} {args : Array Value} {below : List Frame} {meth : Method} {c : Code} {Q : State → Prop} {D : va_G} {A : Nat → Prop} {h : Nat → Nat} {cJ cI cX : ClassId} {fl : Int32} {cells slots : Nat}
set_option maxHeartbeats 4000000 in
theorem M_clear_L (S : CallFix p m c b_M_clear 3 s args kc_tbl R_M) (hK : va_K D kc_cl (kc_ty cJ cI cX) s) {P : Nat → Int32} {La Co Mv : Nat → Int64} {M : Nat → Nat → Int64} {j : Nat} (hj : j < 8) (n : Nat) : ∀ (k : Nat) (H : Heap) (locs : List Loc) (ls : Array Slot) (g : Nat → Int64), k + n = 25 → lv_has ls 3 [(2, .int (nI (k))), (0, .ref (h 0)), (1, .int (nI (j)))] → kc_at D A s.heap H locs (kc_Mw h cJ cI cX (fl) (P) (La) (Co) (Mv) (va_up M j g)) → (∀ c, c < k → g c = 0) → (∀ (H : Heap) (locs : List Loc) (ls : Array Slot) (g : Nat → Int64), lv_has ls 3 [(2, .int (nI (25))), (0, .ref (h 0)), (1, .int (nI (j)))] → kc_at D A s.heap H locs (kc_Mw h cJ cI cX (fl) (P) (La) (Co) (Mv) (va_up M j g)) → (∀ c, c < 25 → g c = 0) → W p l e R s m args below meth c H locs cells slots Q (F0 m 44 ls [])) → W p l e R s m args below meth c H locs cells slots Q (F0 m 23 ls []) := by
  obtain ⟨hx, hb, hml, hown, hts⟩ := S
  induction n with
  | zero =>
    intro k H locs ls g hn hl hw hinv K
    obtain ⟨hP, hD, hS⟩ := hw
    obtain rfl : k = 25 := by omega
    refine lv_iload_n hx hb d_M_clear_23 rfl (lv_at hl 0 rfl) ?_
    refine lv_bipush (v := nI 25) hx hb d_M_clear_24 (by decide +kernel) ?_
    refine kn_ge (tgt := 44) hx hb (by omega) (by omega) d_M_clear_26 (by decide) (fun _ => ?_) (fun hc => absurd hc (by omega))
    exact K H locs ls g hl ⟨hP, hD, hS⟩ hinv
  | succ n ih =>
    intro k H locs ls g hn hl hw hinv K
    obtain ⟨hP, hD, hS⟩ := hw
    refine lv_iload_n hx hb d_M_clear_23 rfl (lv_at hl 0 rfl) ?_
    refine lv_bipush (v := nI 25) hx hb d_M_clear_24 (by decide +kernel) ?_
    refine kn_ge (tgt := 44) hx hb (by omega) (by omega) d_M_clear_26 (by decide) (fun hc => absurd hc (by omega)) (fun _ => ?_)
    refine lv_aload_n hx hb d_M_clear_29 rfl (lv_at hl 1 rfl) ?_
    refine kg_M hx hb hts hown hK hP 0 rfl 1 (by decide) kw_192 (v := .ref (h 1)) rfl d_M_clear_30 ?_
    refine lv_iload_n hx hb d_M_clear_33 rfl (lv_at hl 2 rfl) ?_
    refine ka_aald (q := h (7 + j)) hx hb hK hP 1 2 rfl rfl (i := j) (by omega) (by decide) rfl d_M_clear_34 ?_
    refine lv_iload_n hx hb d_M_clear_35 rfl (lv_at hl 0 rfl) ?_
    refine lv_lconst (v := 0) hx hb d_M_clear_36 (by decide +kernel) ?_
    refine ka_last (f := (va_up M j g) j) hx hb hK hP hD hS (7 + j) 0 (kc_row_at _ _ _ _ _ _ _ _ _ _ (by omega)) rfl (i := k) (by omega) (by decide) d_M_clear_37 (fun H locs hP hD hS => ?_)
    rw [kc_row_set _ _ _ _ _ _ _ _ _ _ (by omega)] at hP hD
    have hP : va_P D kc_cl (kc_Mw h cJ cI cX (fl) (P) (La) (Co) (Mv) (va_up (va_up M j g) j (vp_updL ((va_up M j g) j) (k) ((0 : Int64))))) H := hP
    have hD : va_D A (kc_Mw h cJ cI cX (fl) (P) (La) (Co) (Mv) (va_up (va_up M j g) j (vp_updL ((va_up M j g) j) (k) ((0 : Int64))))) := hD
    rw [bx_uu, va_up_self] at hP hD
    have hP : va_P D kc_cl (kc_Mw h cJ cI cX (fl) (P) (La) (Co) (Mv) (va_up M j (vp_updL g (k) ((0 : Int64))))) H := hP
    have hD : va_D A (kc_Mw h cJ cI cX (fl) (P) (La) (Co) (Mv) (va_up M j (vp_updL g (k) ((0 : Int64))))) := hD
    refine lv_iinc (k := 0) hx hb d_M_clear_38 hl rfl (kn_i1 _) (by decide) rfl (fun ls hl => ?_)
    have hl : lv_has ls 3 [(2, .int (nI (k + 1))), (0, .ref (h 0)), (1, .int (nI (j)))] := hl
    refine lv_goto (tgt := 23) hx hb d_M_clear_41 (by decide) ?_
    have hl : lv_has ls 3 [(2, .int (nI (k + 1))), (0, .ref (h 0)), (1, .int (nI (j)))] := lv_sub hl [0, 1, 2] rfl
    exact ih (k + 1) H locs ls _ (by omega) hl ⟨hP, hD, hS⟩ (fun c hc => by by_cases hck : c = k; (subst hck; rw [pk_uLs]); (rw [pk_uLn hck]; exact hinv c (by omega))) K
end MCL
set_option maxHeartbeats 4000000 in
theorem c_M_clear_v (l : Launch) (D : va_G) (h : Nat → Nat) (cJ cI cX : ClassId) (fl : Int32) (P : Nat → Int32) (La Co Mv : Nat → Int64) (M : Nat → Nat → Int64) (sz : Nat) (j : Nat) (hj : j < 8) : kc_Mv l y_M_clear w_M_clear r_M [.ref (h 0), .int (nI j)] D (kc_ty cJ cI cX) (kc_Mw h cJ cI cX fl P La Co Mv M) sz (fun u : Nat → Int64 => ∀ c, c < 25 → u c = 0) (fun u => kc_Mw h cJ cI cX (nI 0) (upd P j (nI 0)) La Co Mv (va_up M j u)) 0 0 := by
  refine kc_ofWv (cc := b_M_clear) (maxL := 3) (by decide) rfl (Nat.le_of_ble_eq_true rfl) ?_
  intro p e s m below meth c A ls S hr hlk hin hK hP hD hA hl hsz
  obtain ⟨hx, hb, hml, hown, hts⟩ := S
  have hS : va_S A s.heap s.heap [] := va_S.rf
  have hl : lv_has ls 3 [(0, .ref (h 0)), (1, .int (nI (j)))] := hl
  obtain ⟨H, hH⟩ : ∃ H, H = s.heap := ⟨_, rfl⟩
  obtain ⟨locs, hlo⟩ : ∃ q : List Loc, q = [] := ⟨_, rfl⟩
  rw [← hlo] at hS ⊢
  have hP : va_P D kc_cl _ H := hH ▸ hP
  have hS : va_S A s.heap H locs := by rw [hH]; exact hS
  refine (show W _ _ _ _ _ _ _ _ _ _ H _ _ _ _ _ → W _ _ _ _ _ _ _ _ _ _ s.heap _ _ _ _ _ from by rw [hH]; exact id) ?_
  clear hlo hH
  refine lv_aload_n hx hb d_M_clear_0 rfl (lv_at hl 0 rfl) ?_
  refine lv_iconst (v := nI 0) hx hb d_M_clear_1 (by decide +kernel) ?_
  refine va_put (D := D) (ci := 2) (v := .int (nI (0))) (ty := .int) (C := R_M) (T := F_M) (N := 7) (own := R_M) hx hb hts u_M_in t_M t_M_ok n_M hown hK hP hD hS 0 rfl rfl 0 (by decide) (hts _ kw_191) (fun _ h9 => h9) rfl (by decide +kernel) rfl rfl (Nat.le_of_ble_eq_true rfl) d_M_clear_2 (fun H locs hP hD hS => ?_)
  have hP : va_P D kc_cl (kc_Mw h cJ cI cX (nI (0)) (P) (La) (Co) (Mv) (M)) H := hP
  have hD : va_D A (kc_Mw h cJ cI cX (nI (0)) (P) (La) (Co) (Mv) (M)) := hD
  refine lv_aload_n hx hb d_M_clear_5 rfl (lv_at hl 0 rfl) ?_
  refine lv_iload_n hx hb d_M_clear_6 rfl (lv_at hl 1 rfl) ?_
  refine kc_goI (wr := []) (ws := kc_Mw h cJ cI cX (nI (0)) (P) (La) (Co) (Mv) (M)) (va_runV (As := [.int (nI (j))]) (rest := []) ⟨hx, hb, hml, hown, hts⟩ (c_M_out_v l D h cJ cI cX (nI (0)) P La Co Mv M H.size j hj) (cwV 1 hts (kc_inV kw_221 kw_223 ks_3 kw_3 kw_224) rfl rfl rfl (by decide +kernel) ⟨by decide, by decide⟩) (kc_preV (wr := []) (q0 := 0) (ci := 2) hK hP hD rfl rfl) rfl rfl hl.1 rfl (lv_room (Nat.le_of_ble_eq_true rfl)) d_M_clear_7 ⟨by decide, by decide⟩) hP hD hS hA (fun r u H locs hp hP hD hS => ?_)
  subst hp
  have hP : va_P D kc_cl (kc_Mw h cJ cI cX (nI (0)) (P) (La) (Co) (Mv) (M)) H := hP
  have hD : va_D A (kc_Mw h cJ cI cX (nI (0)) (P) (La) (Co) (Mv) (M)) := hD
  refine lv_if_eq (tgt := 21) hx hb d_M_clear_10 (by decide) (fun _ => ?_) (fun hc => absurd hc (not_not_intro rfl))
  refine lv_iconst (v := nI 0) hx hb d_M_clear_21 (by decide +kernel) ?_
  refine lv_istore_n hx hb d_M_clear_22 rfl hl (by decide) rfl (fun ls hl => ?_)
  have hl : lv_has ls 3 [(2, .int (nI (0))), (0, .ref (h 0)), (1, .int (nI (j)))] := hl
  have hl : lv_has ls 3 [(2, .int (nI (0))), (0, .ref (h 0)), (1, .int (nI (j)))] := lv_sub hl [0, 1, 2] rfl
  refine M_clear_L ⟨hx, hb, hml, hown, hts⟩ hK (M := M) hj 25 0 H locs ls (M j) (by omega) hl (by rw [kc_up_id]; exact ⟨hP, hD, hS⟩) (fun c hc => absurd hc (by omega)) (fun H locs ls g hl hw hinv => ?_)
  obtain ⟨hP, hD, hS⟩ := hw
  refine lv_aload_n hx hb d_M_clear_44 rfl (lv_at hl 1 rfl) ?_
  refine kg_M hx hb hts hown hK hP 0 rfl 2 (by decide) kw_193 (v := .ref (h 2)) rfl d_M_clear_45 ?_
  refine lv_iload_n hx hb d_M_clear_48 rfl (lv_at hl 2 rfl) ?_
  refine lv_iconst (v := nI 0) hx hb d_M_clear_49 (by decide +kernel) ?_
  refine ka_iast (f := P) hx hb hK hP hD hS 2 1 rfl rfl (i := j) (by omega) (by decide) d_M_clear_50 (fun H locs hP hD hS => ?_)
  have hP : va_P D kc_cl (kc_Mw h cJ cI cX (nI (0)) (upd P (j) (nI (0))) (La) (Co) (Mv) (va_up M j g)) H := hP
  have hD : va_D A (kc_Mw h cJ cI cX (nI (0)) (upd P (j) (nI (0))) (La) (Co) (Mv) (va_up M j g)) := hD
  exact kc_vret hx hb hr hlk g hinv hP hD hS d_M_clear_51
set_option maxHeartbeats 4000000 in
theorem c_M_clear_x (l : Launch) (D : va_G) (h : Nat → Nat) (cJ cI cX : ClassId) (fl : Int32) (P : Nat → Int32) (La Co Mv : Nat → Int64) (M : Nat → Nat → Int64) (sz : Nat) (x : Int32) (hbad : x < 0 ∨ nI 8 ≤ x) : kc_Mv l y_M_clear w_M_clear r_M [.ref (h 0), .int x] D (kc_ty cJ cI cX) (kc_Mw h cJ cI cX fl P La Co Mv M) sz (fun _ : Unit => True) (fun _ => kc_Mw h cJ cI cX (nI 1) P La Co Mv M) 0 0 := by
  refine kc_ofWv (cc := b_M_clear) (maxL := 3) (by decide) rfl (Nat.le_of_ble_eq_true rfl) ?_
  intro p e s m below meth c A ls S hr hlk hin hK hP hD hA hl hsz
  obtain ⟨hx, hb, hml, hown, hts⟩ := S
  have hS : va_S A s.heap s.heap [] := va_S.rf
  have hl : lv_has ls 3 [(0, .ref (h 0)), (1, .int (x))] := hl
  obtain ⟨H, hH⟩ : ∃ H, H = s.heap := ⟨_, rfl⟩
  obtain ⟨locs, hlo⟩ : ∃ q : List Loc, q = [] := ⟨_, rfl⟩
  rw [← hlo] at hS ⊢
  have hP : va_P D kc_cl _ H := hH ▸ hP
  have hS : va_S A s.heap H locs := by rw [hH]; exact hS
  refine (show W _ _ _ _ _ _ _ _ _ _ H _ _ _ _ _ → W _ _ _ _ _ _ _ _ _ _ s.heap _ _ _ _ _ from by rw [hH]; exact id) ?_
  clear hlo hH
  refine lv_aload_n hx hb d_M_clear_0 rfl (lv_at hl 0 rfl) ?_
  refine lv_iconst (v := nI 0) hx hb d_M_clear_1 (by decide +kernel) ?_
  refine va_put (D := D) (ci := 2) (v := .int (nI (0))) (ty := .int) (C := R_M) (T := F_M) (N := 7) (own := R_M) hx hb hts u_M_in t_M t_M_ok n_M hown hK hP hD hS 0 rfl rfl 0 (by decide) (hts _ kw_191) (fun _ h9 => h9) rfl (by decide +kernel) rfl rfl (Nat.le_of_ble_eq_true rfl) d_M_clear_2 (fun H locs hP hD hS => ?_)
  have hP : va_P D kc_cl (kc_Mw h cJ cI cX (nI (0)) (P) (La) (Co) (Mv) (M)) H := hP
  have hD : va_D A (kc_Mw h cJ cI cX (nI (0)) (P) (La) (Co) (Mv) (M)) := hD
  refine lv_aload_n hx hb d_M_clear_5 rfl (lv_at hl 0 rfl) ?_
  refine lv_iload_n hx hb d_M_clear_6 rfl (lv_at hl 1 rfl) ?_
  refine kc_goI (wr := []) (ws := kc_Mw h cJ cI cX (nI (0)) (P) (La) (Co) (Mv) (M)) (va_runV (As := [.int (x)]) (rest := []) ⟨hx, hb, hml, hown, hts⟩ (c_M_out_x l D h cJ cI cX (nI (0)) P La Co Mv M H.size x hbad) (cwV 1 hts (kc_inV kw_221 kw_223 ks_3 kw_3 kw_224) rfl rfl rfl (by decide +kernel) ⟨by decide, by decide⟩) (kc_preV (wr := []) (q0 := 0) (ci := 2) hK hP hD rfl rfl) rfl rfl hl.1 rfl (lv_room (Nat.le_of_ble_eq_true rfl)) d_M_clear_7 ⟨by decide, by decide⟩) hP hD hS hA (fun r u H locs hp hP hD hS => ?_)
  subst hp
  have hP : va_P D kc_cl (kc_Mw h cJ cI cX (nI (0)) (P) (La) (Co) (Mv) (M)) H := hP
  have hD : va_D A (kc_Mw h cJ cI cX (nI (0)) (P) (La) (Co) (Mv) (M)) := hD
  refine lv_if_eq (tgt := 21) hx hb d_M_clear_10 (by decide) (fun hc => absurd hc (by decide)) (fun _ => ?_)
  refine lv_aload_n hx hb d_M_clear_13 rfl (lv_at hl 0 rfl) ?_
  refine lv_iconst (v := nI 1) hx hb d_M_clear_14 (by decide +kernel) ?_
  refine va_put (D := D) (ci := 2) (v := .int (nI (1))) (ty := .int) (C := R_M) (T := F_M) (N := 7) (own := R_M) hx hb hts u_M_in t_M t_M_ok n_M hown hK hP hD hS 0 rfl rfl 0 (by decide) (hts _ kw_191) (fun _ h9 => h9) rfl (by decide +kernel) rfl rfl (Nat.le_of_ble_eq_true rfl) d_M_clear_15 (fun H locs hP hD hS => ?_)
  have hP : va_P D kc_cl (kc_Mw h cJ cI cX (nI (1)) (P) (La) (Co) (Mv) (M)) H := hP
  have hD : va_D A (kc_Mw h cJ cI cX (nI (1)) (P) (La) (Co) (Mv) (M)) := hD
  refine lv_goto (tgt := 51) hx hb d_M_clear_18 (by decide) ?_
  exact kc_vret hx hb hr hlk () trivial hP hD hS d_M_clear_51
set_option maxHeartbeats 4000000 in
theorem c_M_copy_v (l : Launch) (D : va_G) (h : Nat → Nat) (cJ cI cX : ClassId) (fl : Int32) (P : Nat → Int32) (La Co Mv : Nat → Int64) (M : Nat → Nat → Int64) (sz : Nat) (j k : Nat) (hj : j < 8) (hk : k < 8) : kc_Mv l y_M_copy w_M_copy r_M [.ref (h 0), .int (nI j), .int (nI k)] D (kc_ty cJ cI cX) (kc_Mw h cJ cI cX fl P La Co Mv M) sz (fun u : (Nat → Int64) × (Nat → Int64) => kc_eq u.1 (M j)) (fun u => kc_Mw h cJ cI cX (nI 0) (upd P k (P j)) u.2 Co Mv (va_up M k u.1)) 0 0 := by
  refine kc_ofWv (cc := b_M_copy) (maxL := 3) (by decide) rfl (Nat.le_of_ble_eq_true rfl) ?_
  intro p e s m below meth c A ls S hr hlk hin hK hP hD hA hl hsz
  obtain ⟨hx, hb, hml, hown, hts⟩ := S
  have hS : va_S A s.heap s.heap [] := va_S.rf
  have hl : lv_has ls 3 [(0, .ref (h 0)), (1, .int (nI (j))), (2, .int (nI (k)))] := hl
  obtain ⟨H, hH⟩ : ∃ H, H = s.heap := ⟨_, rfl⟩
  obtain ⟨locs, hlo⟩ : ∃ q : List Loc, q = [] := ⟨_, rfl⟩
  rw [← hlo] at hS ⊢
  have hP : va_P D kc_cl _ H := hH ▸ hP
  have hS : va_S A s.heap H locs := by rw [hH]; exact hS
  refine (show W _ _ _ _ _ _ _ _ _ _ H _ _ _ _ _ → W _ _ _ _ _ _ _ _ _ _ s.heap _ _ _ _ _ from by rw [hH]; exact id) ?_
  clear hlo hH
  refine lv_aload_n hx hb d_M_copy_0 rfl (lv_at hl 0 rfl) ?_
  refine lv_iconst (v := nI 0) hx hb d_M_copy_1 (by decide +kernel) ?_
  refine va_put (D := D) (ci := 2) (v := .int (nI (0))) (ty := .int) (C := R_M) (T := F_M) (N := 7) (own := R_M) hx hb hts u_M_in t_M t_M_ok n_M hown hK hP hD hS 0 rfl rfl 0 (by decide) (hts _ kw_191) (fun _ h9 => h9) rfl (by decide +kernel) rfl rfl (Nat.le_of_ble_eq_true rfl) d_M_copy_2 (fun H locs hP hD hS => ?_)
  have hP : va_P D kc_cl (kc_Mw h cJ cI cX (nI (0)) (P) (La) (Co) (Mv) (M)) H := hP
  have hD : va_D A (kc_Mw h cJ cI cX (nI (0)) (P) (La) (Co) (Mv) (M)) := hD
  refine lv_aload_n hx hb d_M_copy_5 rfl (lv_at hl 0 rfl) ?_
  refine lv_iload_n hx hb d_M_copy_6 rfl (lv_at hl 1 rfl) ?_
  refine kc_goI (wr := []) (ws := kc_Mw h cJ cI cX (nI (0)) (P) (La) (Co) (Mv) (M)) (va_runV (As := [.int (nI (j))]) (rest := []) ⟨hx, hb, hml, hown, hts⟩ (c_M_out_v l D h cJ cI cX (nI (0)) P La Co Mv M H.size j hj) (cwV 1 hts (kc_inV kw_221 kw_223 ks_3 kw_3 kw_224) rfl rfl rfl (by decide +kernel) ⟨by decide, by decide⟩) (kc_preV (wr := []) (q0 := 0) (ci := 2) hK hP hD rfl rfl) rfl rfl hl.1 rfl (lv_room (Nat.le_of_ble_eq_true rfl)) d_M_copy_7 ⟨by decide, by decide⟩) hP hD hS hA (fun r u H locs hp hP hD hS => ?_)
  subst hp
  have hP : va_P D kc_cl (kc_Mw h cJ cI cX (nI (0)) (P) (La) (Co) (Mv) (M)) H := hP
  have hD : va_D A (kc_Mw h cJ cI cX (nI (0)) (P) (La) (Co) (Mv) (M)) := hD
  refine lv_if_ne (tgt := 21) hx hb d_M_copy_10 (by decide) (fun hc => absurd hc (not_not_intro rfl)) (fun _ => ?_)
  refine lv_aload_n hx hb d_M_copy_13 rfl (lv_at hl 0 rfl) ?_
  refine lv_iload_n hx hb d_M_copy_14 rfl (lv_at hl 2 rfl) ?_
  refine kc_goI (wr := []) (ws := kc_Mw h cJ cI cX (nI (0)) (P) (La) (Co) (Mv) (M)) (va_runV (As := [.int (nI (k))]) (rest := []) ⟨hx, hb, hml, hown, hts⟩ (c_M_out_v l D h cJ cI cX (nI (0)) P La Co Mv M H.size k hk) (cwV 1 hts (kc_inV kw_221 kw_223 ks_3 kw_3 kw_224) rfl rfl rfl (by decide +kernel) ⟨by decide, by decide⟩) (kc_preV (wr := []) (q0 := 0) (ci := 2) hK hP hD rfl rfl) rfl rfl hl.1 rfl (lv_room (Nat.le_of_ble_eq_true rfl)) d_M_copy_15 ⟨by decide, by decide⟩) hP hD hS hA (fun r u H locs hp hP hD hS => ?_)
  subst hp
  have hP : va_P D kc_cl (kc_Mw h cJ cI cX (nI (0)) (P) (La) (Co) (Mv) (M)) H := hP
  have hD : va_D A (kc_Mw h cJ cI cX (nI (0)) (P) (La) (Co) (Mv) (M)) := hD
  refine lv_if_eq (tgt := 29) hx hb d_M_copy_18 (by decide) (fun _ => ?_) (fun hc => absurd hc (not_not_intro rfl))
  refine lv_aload_n hx hb d_M_copy_29 rfl (lv_at hl 0 rfl) ?_
  refine lv_iload_n hx hb d_M_copy_30 rfl (lv_at hl 1 rfl) ?_
  refine kc_goV (wr := []) (ws := kc_Mw h cJ cI cX (nI (0)) (P) (La) (Co) (Mv) (M)) (va_runV (As := [.int (nI (j))]) (rest := []) ⟨hx, hb, hml, hown, hts⟩ (c_M_get l D h cJ cI cX (nI (0)) P La Co Mv M H.size j hj) (cwV 1 hts (kc_inV kw_233 kw_235 ks_5 kw_3 kw_236) rfl rfl rfl (by decide +kernel) ⟨by decide, by decide⟩) (kc_preV (wr := []) (q0 := 0) (ci := 2) hK hP hD rfl rfl) rfl rfl hl.1 rfl (lv_room (Nat.le_of_ble_eq_true rfl)) d_M_copy_31 ⟨by decide, by decide⟩) hP hD hS hA (fun u H locs hp hP hD hS => ?_)
  obtain ⟨g1, e_g1⟩ : ∃ z, z = u := ⟨_, rfl⟩
  rw [← e_g1] at hp hP hD
  have hP : va_P D kc_cl (kc_Mw h cJ cI cX (nI (0)) (P) (g1) (Co) (Mv) (M)) H := hP
  have hD : va_D A (kc_Mw h cJ cI cX (nI (0)) (P) (g1) (Co) (Mv) (M)) := hD
  have hg1 : kc_eq g1 (M j) := hp
  refine lv_aload_n hx hb d_M_copy_34 rfl (lv_at hl 0 rfl) ?_
  refine lv_iload_n hx hb d_M_copy_35 rfl (lv_at hl 2 rfl) ?_
  refine kc_goV (wr := []) (ws := kc_Mw h cJ cI cX (nI (0)) (P) (g1) (Co) (Mv) (M)) (va_runV (As := [.int (nI (k))]) (rest := []) ⟨hx, hb, hml, hown, hts⟩ (c_M_put l D h cJ cI cX (nI (0)) P g1 Co Mv M H.size k hk) (cwV 1 hts (kc_inV kw_249 kw_251 ks_8 kw_3 kw_252) rfl rfl rfl (by decide +kernel) ⟨by decide, by decide⟩) (kc_preV (wr := []) (q0 := 0) (ci := 2) hK hP hD rfl rfl) rfl rfl hl.1 rfl (lv_room (Nat.le_of_ble_eq_true rfl)) d_M_copy_36 ⟨by decide, by decide⟩) hP hD hS hA (fun u H locs hp hP hD hS => ?_)
  obtain ⟨g2, e_g2⟩ : ∃ z, z = u := ⟨_, rfl⟩
  rw [← e_g2] at hp hP hD
  have hP : va_P D kc_cl (kc_Mw h cJ cI cX (nI (0)) (P) (g1) (Co) (Mv) (va_up M k g2)) H := hP
  have hD : va_D A (kc_Mw h cJ cI cX (nI (0)) (P) (g1) (Co) (Mv) (va_up M k g2)) := hD
  have hg2 : kc_eq g2 (g1) := hp
  refine lv_aload_n hx hb d_M_copy_39 rfl (lv_at hl 0 rfl) ?_
  refine kg_M hx hb hts hown hK hP 0 rfl 2 (by decide) kw_193 (v := .ref (h 2)) rfl d_M_copy_40 ?_
  refine lv_iload_n hx hb d_M_copy_43 rfl (lv_at hl 2 rfl) ?_
  refine lv_aload_n hx hb d_M_copy_44 rfl (lv_at hl 0 rfl) ?_
  refine kg_M hx hb hts hown hK hP 0 rfl 2 (by decide) kw_193 (v := .ref (h 2)) rfl d_M_copy_45 ?_
  refine lv_iload_n hx hb d_M_copy_48 rfl (lv_at hl 1 rfl) ?_
  refine ka_iald (f := P) hx hb hK hP 2 1 rfl rfl (i := j) (by omega) (by decide) d_M_copy_49 ?_
  refine ka_iast (f := P) hx hb hK hP hD hS 2 1 rfl rfl (i := k) (by omega) (by decide) d_M_copy_50 (fun H locs hP hD hS => ?_)
  have hP : va_P D kc_cl (kc_Mw h cJ cI cX (nI (0)) (upd P k (P (j))) (g1) (Co) (Mv) (va_up M k g2)) H := hP
  have hD : va_D A (kc_Mw h cJ cI cX (nI (0)) (upd P k (P (j))) (g1) (Co) (Mv) (va_up M k g2)) := hD
  exact kc_vret hx hb hr hlk (g2, g1) (hg2.trans hg1) hP hD hS d_M_copy_51
set_option maxHeartbeats 4000000 in
theorem c_M_copy_x (l : Launch) (D : va_G) (h : Nat → Nat) (cJ cI cX : ClassId) (fl : Int32) (P : Nat → Int32) (La Co Mv : Nat → Int64) (M : Nat → Nat → Int64) (sz : Nat) (x y : Int32) (hbad : (x < 0 ∨ nI 8 ≤ x) ∨ (∃ j, j < 8 ∧ x = nI j) ∧ (y < 0 ∨ nI 8 ≤ y)) : kc_Mv l y_M_copy w_M_copy r_M [.ref (h 0), .int x, .int y] D (kc_ty cJ cI cX) (kc_Mw h cJ cI cX fl P La Co Mv M) sz (fun _ : Unit => True) (fun _ => kc_Mw h cJ cI cX (nI 1) P La Co Mv M) 0 0 := by
  refine kc_ofWv (cc := b_M_copy) (maxL := 3) (by decide) rfl (Nat.le_of_ble_eq_true rfl) ?_
  intro p e s m below meth c A ls S hr hlk hin hK hP hD hA hl hsz
  obtain ⟨hx, hb, hml, hown, hts⟩ := S
  have hS : va_S A s.heap s.heap [] := va_S.rf
  have hl : lv_has ls 3 [(0, .ref (h 0)), (1, .int (x)), (2, .int (y))] := hl
  obtain ⟨H, hH⟩ : ∃ H, H = s.heap := ⟨_, rfl⟩
  obtain ⟨locs, hlo⟩ : ∃ q : List Loc, q = [] := ⟨_, rfl⟩
  rw [← hlo] at hS ⊢
  have hP : va_P D kc_cl _ H := hH ▸ hP
  have hS : va_S A s.heap H locs := by rw [hH]; exact hS
  refine (show W _ _ _ _ _ _ _ _ _ _ H _ _ _ _ _ → W _ _ _ _ _ _ _ _ _ _ s.heap _ _ _ _ _ from by rw [hH]; exact id) ?_
  clear hlo hH
  rcases hbad with hbad | ⟨⟨j, hj, rfl⟩, hbad⟩
  · refine lv_aload_n hx hb d_M_copy_0 rfl (lv_at hl 0 rfl) ?_
    refine lv_iconst (v := nI 0) hx hb d_M_copy_1 (by decide +kernel) ?_
    refine va_put (D := D) (ci := 2) (v := .int (nI (0))) (ty := .int) (C := R_M) (T := F_M) (N := 7) (own := R_M) hx hb hts u_M_in t_M t_M_ok n_M hown hK hP hD hS 0 rfl rfl 0 (by decide) (hts _ kw_191) (fun _ h9 => h9) rfl (by decide +kernel) rfl rfl (Nat.le_of_ble_eq_true rfl) d_M_copy_2 (fun H locs hP hD hS => ?_)
    have hP : va_P D kc_cl (kc_Mw h cJ cI cX (nI (0)) (P) (La) (Co) (Mv) (M)) H := hP
    have hD : va_D A (kc_Mw h cJ cI cX (nI (0)) (P) (La) (Co) (Mv) (M)) := hD
    refine lv_aload_n hx hb d_M_copy_5 rfl (lv_at hl 0 rfl) ?_
    refine lv_iload_n hx hb d_M_copy_6 rfl (lv_at hl 1 rfl) ?_
    refine kc_goI (wr := []) (ws := kc_Mw h cJ cI cX (nI (0)) (P) (La) (Co) (Mv) (M)) (va_runV (As := [.int (x)]) (rest := []) ⟨hx, hb, hml, hown, hts⟩ (c_M_out_x l D h cJ cI cX (nI (0)) P La Co Mv M H.size x hbad) (cwV 1 hts (kc_inV kw_221 kw_223 ks_3 kw_3 kw_224) rfl rfl rfl (by decide +kernel) ⟨by decide, by decide⟩) (kc_preV (wr := []) (q0 := 0) (ci := 2) hK hP hD rfl rfl) rfl rfl hl.1 rfl (lv_room (Nat.le_of_ble_eq_true rfl)) d_M_copy_7 ⟨by decide, by decide⟩) hP hD hS hA (fun r u H locs hp hP hD hS => ?_)
    subst hp
    have hP : va_P D kc_cl (kc_Mw h cJ cI cX (nI (0)) (P) (La) (Co) (Mv) (M)) H := hP
    have hD : va_D A (kc_Mw h cJ cI cX (nI (0)) (P) (La) (Co) (Mv) (M)) := hD
    refine lv_if_ne (tgt := 21) hx hb d_M_copy_10 (by decide) (fun _ => ?_) (fun hc => absurd hc (by decide))
    refine lv_aload_n hx hb d_M_copy_21 rfl (lv_at hl 0 rfl) ?_
    refine lv_iconst (v := nI 1) hx hb d_M_copy_22 (by decide +kernel) ?_
    refine va_put (D := D) (ci := 2) (v := .int (nI (1))) (ty := .int) (C := R_M) (T := F_M) (N := 7) (own := R_M) hx hb hts u_M_in t_M t_M_ok n_M hown hK hP hD hS 0 rfl rfl 0 (by decide) (hts _ kw_191) (fun _ h9 => h9) rfl (by decide +kernel) rfl rfl (Nat.le_of_ble_eq_true rfl) d_M_copy_23 (fun H locs hP hD hS => ?_)
    have hP : va_P D kc_cl (kc_Mw h cJ cI cX (nI (1)) (P) (La) (Co) (Mv) (M)) H := hP
    have hD : va_D A (kc_Mw h cJ cI cX (nI (1)) (P) (La) (Co) (Mv) (M)) := hD
    refine lv_goto (tgt := 51) hx hb d_M_copy_26 (by decide) ?_
    exact kc_vret hx hb hr hlk () trivial hP hD hS d_M_copy_51
  · refine lv_aload_n hx hb d_M_copy_0 rfl (lv_at hl 0 rfl) ?_
    refine lv_iconst (v := nI 0) hx hb d_M_copy_1 (by decide +kernel) ?_
    refine va_put (D := D) (ci := 2) (v := .int (nI (0))) (ty := .int) (C := R_M) (T := F_M) (N := 7) (own := R_M) hx hb hts u_M_in t_M t_M_ok n_M hown hK hP hD hS 0 rfl rfl 0 (by decide) (hts _ kw_191) (fun _ h9 => h9) rfl (by decide +kernel) rfl rfl (Nat.le_of_ble_eq_true rfl) d_M_copy_2 (fun H locs hP hD hS => ?_)
    have hP : va_P D kc_cl (kc_Mw h cJ cI cX (nI (0)) (P) (La) (Co) (Mv) (M)) H := hP
    have hD : va_D A (kc_Mw h cJ cI cX (nI (0)) (P) (La) (Co) (Mv) (M)) := hD
    refine lv_aload_n hx hb d_M_copy_5 rfl (lv_at hl 0 rfl) ?_
    refine lv_iload_n hx hb d_M_copy_6 rfl (lv_at hl 1 rfl) ?_
    refine kc_goI (wr := []) (ws := kc_Mw h cJ cI cX (nI (0)) (P) (La) (Co) (Mv) (M)) (va_runV (As := [.int (nI (j))]) (rest := []) ⟨hx, hb, hml, hown, hts⟩ (c_M_out_v l D h cJ cI cX (nI (0)) P La Co Mv M H.size j hj) (cwV 1 hts (kc_inV kw_221 kw_223 ks_3 kw_3 kw_224) rfl rfl rfl (by decide +kernel) ⟨by decide, by decide⟩) (kc_preV (wr := []) (q0 := 0) (ci := 2) hK hP hD rfl rfl) rfl rfl hl.1 rfl (lv_room (Nat.le_of_ble_eq_true rfl)) d_M_copy_7 ⟨by decide, by decide⟩) hP hD hS hA (fun r u H locs hp hP hD hS => ?_)
    subst hp
    have hP : va_P D kc_cl (kc_Mw h cJ cI cX (nI (0)) (P) (La) (Co) (Mv) (M)) H := hP
    have hD : va_D A (kc_Mw h cJ cI cX (nI (0)) (P) (La) (Co) (Mv) (M)) := hD
    refine lv_if_ne (tgt := 21) hx hb d_M_copy_10 (by decide) (fun hc => absurd hc (not_not_intro rfl)) (fun _ => ?_)
    refine lv_aload_n hx hb d_M_copy_13 rfl (lv_at hl 0 rfl) ?_
    refine lv_iload_n hx hb d_M_copy_14 rfl (lv_at hl 2 rfl) ?_
    refine kc_goI (wr := []) (ws := kc_Mw h cJ cI cX (nI (0)) (P) (La) (Co) (Mv) (M)) (va_runV (As := [.int (y)]) (rest := []) ⟨hx, hb, hml, hown, hts⟩ (c_M_out_x l D h cJ cI cX (nI (0)) P La Co Mv M H.size y hbad) (cwV 1 hts (kc_inV kw_221 kw_223 ks_3 kw_3 kw_224) rfl rfl rfl (by decide +kernel) ⟨by decide, by decide⟩) (kc_preV (wr := []) (q0 := 0) (ci := 2) hK hP hD rfl rfl) rfl rfl hl.1 rfl (lv_room (Nat.le_of_ble_eq_true rfl)) d_M_copy_15 ⟨by decide, by decide⟩) hP hD hS hA (fun r u H locs hp hP hD hS => ?_)
    subst hp
    have hP : va_P D kc_cl (kc_Mw h cJ cI cX (nI (0)) (P) (La) (Co) (Mv) (M)) H := hP
    have hD : va_D A (kc_Mw h cJ cI cX (nI (0)) (P) (La) (Co) (Mv) (M)) := hD
    refine lv_if_eq (tgt := 29) hx hb d_M_copy_18 (by decide) (fun hc => absurd hc (by decide)) (fun _ => ?_)
    refine lv_aload_n hx hb d_M_copy_21 rfl (lv_at hl 0 rfl) ?_
    refine lv_iconst (v := nI 1) hx hb d_M_copy_22 (by decide +kernel) ?_
    refine va_put (D := D) (ci := 2) (v := .int (nI (1))) (ty := .int) (C := R_M) (T := F_M) (N := 7) (own := R_M) hx hb hts u_M_in t_M t_M_ok n_M hown hK hP hD hS 0 rfl rfl 0 (by decide) (hts _ kw_191) (fun _ h9 => h9) rfl (by decide +kernel) rfl rfl (Nat.le_of_ble_eq_true rfl) d_M_copy_23 (fun H locs hP hD hS => ?_)
    have hP : va_P D kc_cl (kc_Mw h cJ cI cX (nI (1)) (P) (La) (Co) (Mv) (M)) H := hP
    have hD : va_D A (kc_Mw h cJ cI cX (nI (1)) (P) (La) (Co) (Mv) (M)) := hD
    refine lv_goto (tgt := 51) hx hb d_M_copy_26 (by decide) ?_
    exact kc_vret hx hb hr hlk () trivial hP hD hS d_M_copy_51
set_option maxHeartbeats 4000000 in
theorem c_M_mix_v (l : Launch) (D : va_G) (h : Nat → Nat) (cJ cI cX : ClassId) (fl : Int32) (P : Nat → Int32) (La Co Mv : Nat → Int64) (M : Nat → Nat → Int64) (sz : Nat) (j : Nat) (hj : j < 8) : kc_Mv l y_M_mix w_M_mix r_M [.ref (h 0), .int (nI j)] D (kc_ty cJ cI cX) (kc_Mw h cJ cI cX fl P La Co Mv M) sz (fun u : (Nat → Int64) × (Nat → Int64) × (Nat → Int64) × (Nat → Int64) => kc_eq u.1 (kc_perm 24 (M j))) (fun u => kc_Mw h cJ cI cX (nI 0) P u.2.1 u.2.2.1 u.2.2.2 (va_up M j u.1)) 0 0 := by
  refine kc_ofWv (cc := b_M_mix) (maxL := 2) (by decide) rfl (Nat.le_of_ble_eq_true rfl) ?_
  intro p e s m below meth c A ls S hr hlk hin hK hP hD hA hl hsz
  obtain ⟨hx, hb, hml, hown, hts⟩ := S
  have hS : va_S A s.heap s.heap [] := va_S.rf
  have hl : lv_has ls 2 [(0, .ref (h 0)), (1, .int (nI (j)))] := hl
  obtain ⟨H, hH⟩ : ∃ H, H = s.heap := ⟨_, rfl⟩
  obtain ⟨locs, hlo⟩ : ∃ q : List Loc, q = [] := ⟨_, rfl⟩
  rw [← hlo] at hS ⊢
  have hP : va_P D kc_cl _ H := hH ▸ hP
  have hS : va_S A s.heap H locs := by rw [hH]; exact hS
  refine (show W _ _ _ _ _ _ _ _ _ _ H _ _ _ _ _ → W _ _ _ _ _ _ _ _ _ _ s.heap _ _ _ _ _ from by rw [hH]; exact id) ?_
  clear hlo hH
  refine lv_aload_n hx hb d_M_mix_0 rfl (lv_at hl 0 rfl) ?_
  refine lv_iconst (v := nI 0) hx hb d_M_mix_1 (by decide +kernel) ?_
  refine va_put (D := D) (ci := 2) (v := .int (nI (0))) (ty := .int) (C := R_M) (T := F_M) (N := 7) (own := R_M) hx hb hts u_M_in t_M t_M_ok n_M hown hK hP hD hS 0 rfl rfl 0 (by decide) (hts _ kw_191) (fun _ h9 => h9) rfl (by decide +kernel) rfl rfl (Nat.le_of_ble_eq_true rfl) d_M_mix_2 (fun H locs hP hD hS => ?_)
  have hP : va_P D kc_cl (kc_Mw h cJ cI cX (nI (0)) (P) (La) (Co) (Mv) (M)) H := hP
  have hD : va_D A (kc_Mw h cJ cI cX (nI (0)) (P) (La) (Co) (Mv) (M)) := hD
  refine lv_aload_n hx hb d_M_mix_5 rfl (lv_at hl 0 rfl) ?_
  refine lv_iload_n hx hb d_M_mix_6 rfl (lv_at hl 1 rfl) ?_
  refine kc_goI (wr := []) (ws := kc_Mw h cJ cI cX (nI (0)) (P) (La) (Co) (Mv) (M)) (va_runV (As := [.int (nI (j))]) (rest := []) ⟨hx, hb, hml, hown, hts⟩ (c_M_out_v l D h cJ cI cX (nI (0)) P La Co Mv M H.size j hj) (cwV 1 hts (kc_inV kw_221 kw_223 ks_3 kw_3 kw_224) rfl rfl rfl (by decide +kernel) ⟨by decide, by decide⟩) (kc_preV (wr := []) (q0 := 0) (ci := 2) hK hP hD rfl rfl) rfl rfl hl.1 rfl (lv_room (Nat.le_of_ble_eq_true rfl)) d_M_mix_7 ⟨by decide, by decide⟩) hP hD hS hA (fun r u H locs hp hP hD hS => ?_)
  subst hp
  have hP : va_P D kc_cl (kc_Mw h cJ cI cX (nI (0)) (P) (La) (Co) (Mv) (M)) H := hP
  have hD : va_D A (kc_Mw h cJ cI cX (nI (0)) (P) (La) (Co) (Mv) (M)) := hD
  refine lv_if_eq (tgt := 21) hx hb d_M_mix_10 (by decide) (fun _ => ?_) (fun hc => absurd hc (not_not_intro rfl))
  refine lv_aload_n hx hb d_M_mix_21 rfl (lv_at hl 0 rfl) ?_
  refine lv_iload_n hx hb d_M_mix_22 rfl (lv_at hl 1 rfl) ?_
  refine kc_goV (wr := []) (ws := kc_Mw h cJ cI cX (nI (0)) (P) (La) (Co) (Mv) (M)) (va_runV (As := [.int (nI (j))]) (rest := []) ⟨hx, hb, hml, hown, hts⟩ (c_M_get l D h cJ cI cX (nI (0)) P La Co Mv M H.size j hj) (cwV 1 hts (kc_inV kw_233 kw_235 ks_5 kw_3 kw_236) rfl rfl rfl (by decide +kernel) ⟨by decide, by decide⟩) (kc_preV (wr := []) (q0 := 0) (ci := 2) hK hP hD rfl rfl) rfl rfl hl.1 rfl (lv_room (Nat.le_of_ble_eq_true rfl)) d_M_mix_23 ⟨by decide, by decide⟩) hP hD hS hA (fun u H locs hp hP hD hS => ?_)
  obtain ⟨g1, e_g1⟩ : ∃ z, z = u := ⟨_, rfl⟩
  rw [← e_g1] at hp hP hD
  have hP : va_P D kc_cl (kc_Mw h cJ cI cX (nI (0)) (P) (g1) (Co) (Mv) (M)) H := hP
  have hD : va_D A (kc_Mw h cJ cI cX (nI (0)) (P) (g1) (Co) (Mv) (M)) := hD
  have hg1 : kc_eq g1 (M j) := hp
  refine lv_aload_n hx hb d_M_mix_26 rfl (lv_at hl 0 rfl) ?_
  refine kc_goV (wr := []) (ws := kc_Mw h cJ cI cX (nI (0)) (P) (g1) (Co) (Mv) (M)) (va_runV (As := []) (rest := []) ⟨hx, hb, hml, hown, hts⟩ (c_M_permute l D h cJ cI cX (nI (0)) P g1 Co Mv M H.size ) (cwV 0 hts (kc_inV kw_241 kw_243 ks_7 kw_3 kw_244) rfl rfl rfl (by decide +kernel) ⟨by decide, by decide⟩) (kc_preV (wr := []) (q0 := 0) (ci := 2) hK hP hD rfl rfl) rfl rfl hl.1 rfl (lv_room (Nat.le_of_ble_eq_true rfl)) d_M_mix_27 ⟨by decide, by decide⟩) hP hD hS hA (fun u H locs hp hP hD hS => ?_)
  obtain ⟨La1, Co1, Mv1⟩ := u
  have hP : va_P D kc_cl (kc_Mw h cJ cI cX (nI (0)) (P) (La1) (Co1) (Mv1) (M)) H := hP
  have hD : va_D A (kc_Mw h cJ cI cX (nI (0)) (P) (La1) (Co1) (Mv1) (M)) := hD
  have hpm : kc_eq La1 (kc_perm 24 (g1)) := hp
  refine lv_aload_n hx hb d_M_mix_30 rfl (lv_at hl 0 rfl) ?_
  refine lv_iload_n hx hb d_M_mix_31 rfl (lv_at hl 1 rfl) ?_
  refine kc_goV (wr := []) (ws := kc_Mw h cJ cI cX (nI (0)) (P) (La1) (Co1) (Mv1) (M)) (va_runV (As := [.int (nI (j))]) (rest := []) ⟨hx, hb, hml, hown, hts⟩ (c_M_put l D h cJ cI cX (nI (0)) P La1 Co1 Mv1 M H.size j hj) (cwV 1 hts (kc_inV kw_249 kw_251 ks_8 kw_3 kw_252) rfl rfl rfl (by decide +kernel) ⟨by decide, by decide⟩) (kc_preV (wr := []) (q0 := 0) (ci := 2) hK hP hD rfl rfl) rfl rfl hl.1 rfl (lv_room (Nat.le_of_ble_eq_true rfl)) d_M_mix_32 ⟨by decide, by decide⟩) hP hD hS hA (fun u H locs hp hP hD hS => ?_)
  obtain ⟨g2, e_g2⟩ : ∃ z, z = u := ⟨_, rfl⟩
  rw [← e_g2] at hp hP hD
  have hP : va_P D kc_cl (kc_Mw h cJ cI cX (nI (0)) (P) (La1) (Co1) (Mv1) (va_up M j g2)) H := hP
  have hD : va_D A (kc_Mw h cJ cI cX (nI (0)) (P) (La1) (Co1) (Mv1) (va_up M j g2)) := hD
  have hg2 : kc_eq g2 (La1) := hp
  exact kc_vret hx hb hr hlk (g2, La1, Co1, Mv1) (hg2.trans (hpm.trans (kc_eq_perm hg1 24))) hP hD hS d_M_mix_35
set_option maxHeartbeats 4000000 in
theorem c_M_mix_x (l : Launch) (D : va_G) (h : Nat → Nat) (cJ cI cX : ClassId) (fl : Int32) (P : Nat → Int32) (La Co Mv : Nat → Int64) (M : Nat → Nat → Int64) (sz : Nat) (x : Int32) (hbad : x < 0 ∨ nI 8 ≤ x) : kc_Mv l y_M_mix w_M_mix r_M [.ref (h 0), .int x] D (kc_ty cJ cI cX) (kc_Mw h cJ cI cX fl P La Co Mv M) sz (fun _ : Unit => True) (fun _ => kc_Mw h cJ cI cX (nI 1) P La Co Mv M) 0 0 := by
  refine kc_ofWv (cc := b_M_mix) (maxL := 2) (by decide) rfl (Nat.le_of_ble_eq_true rfl) ?_
  intro p e s m below meth c A ls S hr hlk hin hK hP hD hA hl hsz
  obtain ⟨hx, hb, hml, hown, hts⟩ := S
  have hS : va_S A s.heap s.heap [] := va_S.rf
  have hl : lv_has ls 2 [(0, .ref (h 0)), (1, .int (x))] := hl
  obtain ⟨H, hH⟩ : ∃ H, H = s.heap := ⟨_, rfl⟩
  obtain ⟨locs, hlo⟩ : ∃ q : List Loc, q = [] := ⟨_, rfl⟩
  rw [← hlo] at hS ⊢
  have hP : va_P D kc_cl _ H := hH ▸ hP
  have hS : va_S A s.heap H locs := by rw [hH]; exact hS
  refine (show W _ _ _ _ _ _ _ _ _ _ H _ _ _ _ _ → W _ _ _ _ _ _ _ _ _ _ s.heap _ _ _ _ _ from by rw [hH]; exact id) ?_
  clear hlo hH
  refine lv_aload_n hx hb d_M_mix_0 rfl (lv_at hl 0 rfl) ?_
  refine lv_iconst (v := nI 0) hx hb d_M_mix_1 (by decide +kernel) ?_
  refine va_put (D := D) (ci := 2) (v := .int (nI (0))) (ty := .int) (C := R_M) (T := F_M) (N := 7) (own := R_M) hx hb hts u_M_in t_M t_M_ok n_M hown hK hP hD hS 0 rfl rfl 0 (by decide) (hts _ kw_191) (fun _ h9 => h9) rfl (by decide +kernel) rfl rfl (Nat.le_of_ble_eq_true rfl) d_M_mix_2 (fun H locs hP hD hS => ?_)
  have hP : va_P D kc_cl (kc_Mw h cJ cI cX (nI (0)) (P) (La) (Co) (Mv) (M)) H := hP
  have hD : va_D A (kc_Mw h cJ cI cX (nI (0)) (P) (La) (Co) (Mv) (M)) := hD
  refine lv_aload_n hx hb d_M_mix_5 rfl (lv_at hl 0 rfl) ?_
  refine lv_iload_n hx hb d_M_mix_6 rfl (lv_at hl 1 rfl) ?_
  refine kc_goI (wr := []) (ws := kc_Mw h cJ cI cX (nI (0)) (P) (La) (Co) (Mv) (M)) (va_runV (As := [.int (x)]) (rest := []) ⟨hx, hb, hml, hown, hts⟩ (c_M_out_x l D h cJ cI cX (nI (0)) P La Co Mv M H.size x hbad) (cwV 1 hts (kc_inV kw_221 kw_223 ks_3 kw_3 kw_224) rfl rfl rfl (by decide +kernel) ⟨by decide, by decide⟩) (kc_preV (wr := []) (q0 := 0) (ci := 2) hK hP hD rfl rfl) rfl rfl hl.1 rfl (lv_room (Nat.le_of_ble_eq_true rfl)) d_M_mix_7 ⟨by decide, by decide⟩) hP hD hS hA (fun r u H locs hp hP hD hS => ?_)
  subst hp
  have hP : va_P D kc_cl (kc_Mw h cJ cI cX (nI (0)) (P) (La) (Co) (Mv) (M)) H := hP
  have hD : va_D A (kc_Mw h cJ cI cX (nI (0)) (P) (La) (Co) (Mv) (M)) := hD
  refine lv_if_eq (tgt := 21) hx hb d_M_mix_10 (by decide) (fun hc => absurd hc (by decide)) (fun _ => ?_)
  refine lv_aload_n hx hb d_M_mix_13 rfl (lv_at hl 0 rfl) ?_
  refine lv_iconst (v := nI 1) hx hb d_M_mix_14 (by decide +kernel) ?_
  refine va_put (D := D) (ci := 2) (v := .int (nI (1))) (ty := .int) (C := R_M) (T := F_M) (N := 7) (own := R_M) hx hb hts u_M_in t_M t_M_ok n_M hown hK hP hD hS 0 rfl rfl 0 (by decide) (hts _ kw_191) (fun _ h9 => h9) rfl (by decide +kernel) rfl rfl (Nat.le_of_ble_eq_true rfl) d_M_mix_15 (fun H locs hP hD hS => ?_)
  have hP : va_P D kc_cl (kc_Mw h cJ cI cX (nI (1)) (P) (La) (Co) (Mv) (M)) H := hP
  have hD : va_D A (kc_Mw h cJ cI cX (nI (1)) (P) (La) (Co) (Mv) (M)) := hD
  refine lv_goto (tgt := 35) hx hb d_M_mix_18 (by decide) ?_
  exact kc_vret hx hb hr hlk () trivial hP hD hS d_M_mix_35
set_option maxHeartbeats 4000000 in
theorem c_M_lane_v (l : Launch) (D : va_G) (h : Nat → Nat) (cJ cI cX : ClassId) (fl : Int32) (P : Nat → Int32) (La Co Mv : Nat → Int64) (M : Nat → Nat → Int64) (sz : Nat) (j i : Nat) (hj : j < 8) (hi : i < 25) : kc_Ml l y_M_lane w_M_lane r_M [.ref (h 0), .int (nI j), .int (nI i)] D (kc_ty cJ cI cX) (kc_Mw h cJ cI cX fl P La Co Mv M) sz (fun r (_ : Unit) => r = M j i) (fun _ => kc_Mw h cJ cI cX (nI 0) P La Co Mv M) 0 0 := by
  refine kc_ofWl (cc := b_M_lane) (maxL := 3) (by decide) rfl (Nat.le_of_ble_eq_true rfl) ?_
  intro p e s m below meth c A ls S hr hlk hin hK hP hD hA hl hsz
  obtain ⟨hx, hb, hml, hown, hts⟩ := S
  have hS : va_S A s.heap s.heap [] := va_S.rf
  have hl : lv_has ls 3 [(0, .ref (h 0)), (1, .int (nI (j))), (2, .int (nI (i)))] := hl
  obtain ⟨H, hH⟩ : ∃ H, H = s.heap := ⟨_, rfl⟩
  obtain ⟨locs, hlo⟩ : ∃ q : List Loc, q = [] := ⟨_, rfl⟩
  rw [← hlo] at hS ⊢
  have hP : va_P D kc_cl _ H := hH ▸ hP
  have hS : va_S A s.heap H locs := by rw [hH]; exact hS
  refine (show W _ _ _ _ _ _ _ _ _ _ H _ _ _ _ _ → W _ _ _ _ _ _ _ _ _ _ s.heap _ _ _ _ _ from by rw [hH]; exact id) ?_
  clear hlo hH
  refine lv_aload_n hx hb d_M_lane_0 rfl (lv_at hl 0 rfl) ?_
  refine lv_iconst (v := nI 0) hx hb d_M_lane_1 (by decide +kernel) ?_
  refine va_put (D := D) (ci := 2) (v := .int (nI (0))) (ty := .int) (C := R_M) (T := F_M) (N := 7) (own := R_M) hx hb hts u_M_in t_M t_M_ok n_M hown hK hP hD hS 0 rfl rfl 0 (by decide) (hts _ kw_191) (fun _ h9 => h9) rfl (by decide +kernel) rfl rfl (Nat.le_of_ble_eq_true rfl) d_M_lane_2 (fun H locs hP hD hS => ?_)
  have hP : va_P D kc_cl (kc_Mw h cJ cI cX (nI (0)) (P) (La) (Co) (Mv) (M)) H := hP
  have hD : va_D A (kc_Mw h cJ cI cX (nI (0)) (P) (La) (Co) (Mv) (M)) := hD
  refine lv_aload_n hx hb d_M_lane_5 rfl (lv_at hl 0 rfl) ?_
  refine lv_iload_n hx hb d_M_lane_6 rfl (lv_at hl 1 rfl) ?_
  refine kc_goI (wr := []) (ws := kc_Mw h cJ cI cX (nI (0)) (P) (La) (Co) (Mv) (M)) (va_runV (As := [.int (nI (j))]) (rest := []) ⟨hx, hb, hml, hown, hts⟩ (c_M_out_v l D h cJ cI cX (nI (0)) P La Co Mv M H.size j hj) (cwV 1 hts (kc_inV kw_221 kw_223 ks_3 kw_3 kw_224) rfl rfl rfl (by decide +kernel) ⟨by decide, by decide⟩) (kc_preV (wr := []) (q0 := 0) (ci := 2) hK hP hD rfl rfl) rfl rfl hl.1 rfl (lv_room (Nat.le_of_ble_eq_true rfl)) d_M_lane_7 ⟨by decide, by decide⟩) hP hD hS hA (fun r u H locs hp hP hD hS => ?_)
  subst hp
  have hP : va_P D kc_cl (kc_Mw h cJ cI cX (nI (0)) (P) (La) (Co) (Mv) (M)) H := hP
  have hD : va_D A (kc_Mw h cJ cI cX (nI (0)) (P) (La) (Co) (Mv) (M)) := hD
  refine lv_if_ne (tgt := 23) hx hb d_M_lane_10 (by decide) (fun hc => absurd hc (not_not_intro rfl)) (fun _ => ?_)
  refine lv_iload_n hx hb d_M_lane_13 rfl (lv_at hl 2 rfl) ?_
  refine kn_iflt (tgt := 23) hx hb (by omega) d_M_lane_14 (by decide) ?_
  refine lv_iload_n hx hb d_M_lane_17 rfl (lv_at hl 2 rfl) ?_
  refine lv_bipush (v := nI 24) hx hb d_M_lane_18 (by decide +kernel) ?_
  refine kn_le (tgt := 32) hx hb (by omega) (by omega) d_M_lane_20 (by decide) (fun _ => ?_) (fun hc => absurd hc (by omega))
  refine lv_aload_n hx hb d_M_lane_32 rfl (lv_at hl 0 rfl) ?_
  refine kg_M hx hb hts hown hK hP 0 rfl 1 (by decide) kw_192 (v := .ref (h 1)) rfl d_M_lane_33 ?_
  refine lv_iload_n hx hb d_M_lane_36 rfl (lv_at hl 1 rfl) ?_
  refine ka_aald (q := h (7 + j)) hx hb hK hP 1 2 rfl rfl (i := j) (by omega) (by decide) rfl d_M_lane_37 ?_
  refine lv_iload_n hx hb d_M_lane_38 rfl (lv_at hl 2 rfl) ?_
  refine ka_lald (f := M j) hx hb hK hP (7 + j) 0 (kc_row_at _ _ _ _ _ _ _ _ _ _ (by omega)) rfl (i := i) (by omega) (by decide) d_M_lane_39 ?_
  exact kc_lret hx hb hr hlk () rfl hP hD hS d_M_lane_40
set_option maxHeartbeats 4000000 in
theorem c_M_lane_x (l : Launch) (D : va_G) (h : Nat → Nat) (cJ cI cX : ClassId) (fl : Int32) (P : Nat → Int32) (La Co Mv : Nat → Int64) (M : Nat → Nat → Int64) (sz : Nat) (x y : Int32) (hbad : (x < 0 ∨ nI 8 ≤ x) ∨ (∃ j, j < 8 ∧ x = nI j) ∧ (y < 0 ∨ nI 25 ≤ y)) : kc_Ml l y_M_lane w_M_lane r_M [.ref (h 0), .int x, .int y] D (kc_ty cJ cI cX) (kc_Mw h cJ cI cX fl P La Co Mv M) sz (fun _ (_ : Unit) => True) (fun _ => kc_Mw h cJ cI cX (nI 1) P La Co Mv M) 0 0 := by
  refine kc_ofWl (cc := b_M_lane) (maxL := 3) (by decide) rfl (Nat.le_of_ble_eq_true rfl) ?_
  intro p e s m below meth c A ls S hr hlk hin hK hP hD hA hl hsz
  obtain ⟨hx, hb, hml, hown, hts⟩ := S
  have hS : va_S A s.heap s.heap [] := va_S.rf
  have hl : lv_has ls 3 [(0, .ref (h 0)), (1, .int (x)), (2, .int (y))] := hl
  obtain ⟨H, hH⟩ : ∃ H, H = s.heap := ⟨_, rfl⟩
  obtain ⟨locs, hlo⟩ : ∃ q : List Loc, q = [] := ⟨_, rfl⟩
  rw [← hlo] at hS ⊢
  have hP : va_P D kc_cl _ H := hH ▸ hP
  have hS : va_S A s.heap H locs := by rw [hH]; exact hS
  refine (show W _ _ _ _ _ _ _ _ _ _ H _ _ _ _ _ → W _ _ _ _ _ _ _ _ _ _ s.heap _ _ _ _ _ from by rw [hH]; exact id) ?_
  clear hlo hH
  rcases hbad with hbad | ⟨⟨j, hj, rfl⟩, hbad⟩
  · refine lv_aload_n hx hb d_M_lane_0 rfl (lv_at hl 0 rfl) ?_
    refine lv_iconst (v := nI 0) hx hb d_M_lane_1 (by decide +kernel) ?_
    refine va_put (D := D) (ci := 2) (v := .int (nI (0))) (ty := .int) (C := R_M) (T := F_M) (N := 7) (own := R_M) hx hb hts u_M_in t_M t_M_ok n_M hown hK hP hD hS 0 rfl rfl 0 (by decide) (hts _ kw_191) (fun _ h9 => h9) rfl (by decide +kernel) rfl rfl (Nat.le_of_ble_eq_true rfl) d_M_lane_2 (fun H locs hP hD hS => ?_)
    have hP : va_P D kc_cl (kc_Mw h cJ cI cX (nI (0)) (P) (La) (Co) (Mv) (M)) H := hP
    have hD : va_D A (kc_Mw h cJ cI cX (nI (0)) (P) (La) (Co) (Mv) (M)) := hD
    refine lv_aload_n hx hb d_M_lane_5 rfl (lv_at hl 0 rfl) ?_
    refine lv_iload_n hx hb d_M_lane_6 rfl (lv_at hl 1 rfl) ?_
    refine kc_goI (wr := []) (ws := kc_Mw h cJ cI cX (nI (0)) (P) (La) (Co) (Mv) (M)) (va_runV (As := [.int (x)]) (rest := []) ⟨hx, hb, hml, hown, hts⟩ (c_M_out_x l D h cJ cI cX (nI (0)) P La Co Mv M H.size x hbad) (cwV 1 hts (kc_inV kw_221 kw_223 ks_3 kw_3 kw_224) rfl rfl rfl (by decide +kernel) ⟨by decide, by decide⟩) (kc_preV (wr := []) (q0 := 0) (ci := 2) hK hP hD rfl rfl) rfl rfl hl.1 rfl (lv_room (Nat.le_of_ble_eq_true rfl)) d_M_lane_7 ⟨by decide, by decide⟩) hP hD hS hA (fun r u H locs hp hP hD hS => ?_)
    subst hp
    have hP : va_P D kc_cl (kc_Mw h cJ cI cX (nI (0)) (P) (La) (Co) (Mv) (M)) H := hP
    have hD : va_D A (kc_Mw h cJ cI cX (nI (0)) (P) (La) (Co) (Mv) (M)) := hD
    refine lv_if_ne (tgt := 23) hx hb d_M_lane_10 (by decide) (fun _ => ?_) (fun hc => absurd hc (by decide))
    refine lv_aload_n hx hb d_M_lane_23 rfl (lv_at hl 0 rfl) ?_
    refine lv_iconst (v := nI 1) hx hb d_M_lane_24 (by decide +kernel) ?_
    refine kc_goI (wr := []) (ws := kc_Mw h cJ cI cX (nI (0)) (P) (La) (Co) (Mv) (M)) (va_runV (As := [.int (nI (1))]) (rest := []) ⟨hx, hb, hml, hown, hts⟩ (c_M_fail l D h cJ cI cX (nI (0)) P La Co Mv M H.size (nI 1)) (cwV 1 hts (kc_inV kw_229 kw_231 ks_4 kw_3 kw_232) rfl rfl rfl (by decide +kernel) ⟨by decide, by decide⟩) (kc_preV (wr := []) (q0 := 0) (ci := 2) hK hP hD rfl rfl) rfl rfl hl.1 rfl (lv_room (Nat.le_of_ble_eq_true rfl)) d_M_lane_25 ⟨by decide, by decide⟩) hP hD hS hA (fun r u H locs hp hP hD hS => ?_)
    subst hp
    have hP : va_P D kc_cl (kc_Mw h cJ cI cX (nI (1)) (P) (La) (Co) (Mv) (M)) H := hP
    have hD : va_D A (kc_Mw h cJ cI cX (nI (1)) (P) (La) (Co) (Mv) (M)) := hD
    refine lv_i2l hx hb d_M_lane_28 rfl ?_
    refine lv_goto (tgt := 40) hx hb d_M_lane_29 (by decide) ?_
    exact kc_lret hx hb hr hlk () trivial hP hD hS d_M_lane_40
  · rcases hbad with hbad | hbad
    · refine lv_aload_n hx hb d_M_lane_0 rfl (lv_at hl 0 rfl) ?_
      refine lv_iconst (v := nI 0) hx hb d_M_lane_1 (by decide +kernel) ?_
      refine va_put (D := D) (ci := 2) (v := .int (nI (0))) (ty := .int) (C := R_M) (T := F_M) (N := 7) (own := R_M) hx hb hts u_M_in t_M t_M_ok n_M hown hK hP hD hS 0 rfl rfl 0 (by decide) (hts _ kw_191) (fun _ h9 => h9) rfl (by decide +kernel) rfl rfl (Nat.le_of_ble_eq_true rfl) d_M_lane_2 (fun H locs hP hD hS => ?_)
      have hP : va_P D kc_cl (kc_Mw h cJ cI cX (nI (0)) (P) (La) (Co) (Mv) (M)) H := hP
      have hD : va_D A (kc_Mw h cJ cI cX (nI (0)) (P) (La) (Co) (Mv) (M)) := hD
      refine lv_aload_n hx hb d_M_lane_5 rfl (lv_at hl 0 rfl) ?_
      refine lv_iload_n hx hb d_M_lane_6 rfl (lv_at hl 1 rfl) ?_
      refine kc_goI (wr := []) (ws := kc_Mw h cJ cI cX (nI (0)) (P) (La) (Co) (Mv) (M)) (va_runV (As := [.int (nI (j))]) (rest := []) ⟨hx, hb, hml, hown, hts⟩ (c_M_out_v l D h cJ cI cX (nI (0)) P La Co Mv M H.size j hj) (cwV 1 hts (kc_inV kw_221 kw_223 ks_3 kw_3 kw_224) rfl rfl rfl (by decide +kernel) ⟨by decide, by decide⟩) (kc_preV (wr := []) (q0 := 0) (ci := 2) hK hP hD rfl rfl) rfl rfl hl.1 rfl (lv_room (Nat.le_of_ble_eq_true rfl)) d_M_lane_7 ⟨by decide, by decide⟩) hP hD hS hA (fun r u H locs hp hP hD hS => ?_)
      subst hp
      have hP : va_P D kc_cl (kc_Mw h cJ cI cX (nI (0)) (P) (La) (Co) (Mv) (M)) H := hP
      have hD : va_D A (kc_Mw h cJ cI cX (nI (0)) (P) (La) (Co) (Mv) (M)) := hD
      refine lv_if_ne (tgt := 23) hx hb d_M_lane_10 (by decide) (fun hc => absurd hc (not_not_intro rfl)) (fun _ => ?_)
      refine lv_iload_n hx hb d_M_lane_13 rfl (lv_at hl 2 rfl) ?_
      refine lv_if_lt (tgt := 23) hx hb d_M_lane_14 (by decide) (fun _ => ?_) (fun hc => absurd hc (not_not_intro hbad))
      refine lv_aload_n hx hb d_M_lane_23 rfl (lv_at hl 0 rfl) ?_
      refine lv_iconst (v := nI 1) hx hb d_M_lane_24 (by decide +kernel) ?_
      refine kc_goI (wr := []) (ws := kc_Mw h cJ cI cX (nI (0)) (P) (La) (Co) (Mv) (M)) (va_runV (As := [.int (nI (1))]) (rest := []) ⟨hx, hb, hml, hown, hts⟩ (c_M_fail l D h cJ cI cX (nI (0)) P La Co Mv M H.size (nI 1)) (cwV 1 hts (kc_inV kw_229 kw_231 ks_4 kw_3 kw_232) rfl rfl rfl (by decide +kernel) ⟨by decide, by decide⟩) (kc_preV (wr := []) (q0 := 0) (ci := 2) hK hP hD rfl rfl) rfl rfl hl.1 rfl (lv_room (Nat.le_of_ble_eq_true rfl)) d_M_lane_25 ⟨by decide, by decide⟩) hP hD hS hA (fun r u H locs hp hP hD hS => ?_)
      subst hp
      have hP : va_P D kc_cl (kc_Mw h cJ cI cX (nI (1)) (P) (La) (Co) (Mv) (M)) H := hP
      have hD : va_D A (kc_Mw h cJ cI cX (nI (1)) (P) (La) (Co) (Mv) (M)) := hD
      refine lv_i2l hx hb d_M_lane_28 rfl ?_
      refine lv_goto (tgt := 40) hx hb d_M_lane_29 (by decide) ?_
      exact kc_lret hx hb hr hlk () trivial hP hD hS d_M_lane_40
    · refine lv_aload_n hx hb d_M_lane_0 rfl (lv_at hl 0 rfl) ?_
      refine lv_iconst (v := nI 0) hx hb d_M_lane_1 (by decide +kernel) ?_
      refine va_put (D := D) (ci := 2) (v := .int (nI (0))) (ty := .int) (C := R_M) (T := F_M) (N := 7) (own := R_M) hx hb hts u_M_in t_M t_M_ok n_M hown hK hP hD hS 0 rfl rfl 0 (by decide) (hts _ kw_191) (fun _ h9 => h9) rfl (by decide +kernel) rfl rfl (Nat.le_of_ble_eq_true rfl) d_M_lane_2 (fun H locs hP hD hS => ?_)
      have hP : va_P D kc_cl (kc_Mw h cJ cI cX (nI (0)) (P) (La) (Co) (Mv) (M)) H := hP
      have hD : va_D A (kc_Mw h cJ cI cX (nI (0)) (P) (La) (Co) (Mv) (M)) := hD
      refine lv_aload_n hx hb d_M_lane_5 rfl (lv_at hl 0 rfl) ?_
      refine lv_iload_n hx hb d_M_lane_6 rfl (lv_at hl 1 rfl) ?_
      refine kc_goI (wr := []) (ws := kc_Mw h cJ cI cX (nI (0)) (P) (La) (Co) (Mv) (M)) (va_runV (As := [.int (nI (j))]) (rest := []) ⟨hx, hb, hml, hown, hts⟩ (c_M_out_v l D h cJ cI cX (nI (0)) P La Co Mv M H.size j hj) (cwV 1 hts (kc_inV kw_221 kw_223 ks_3 kw_3 kw_224) rfl rfl rfl (by decide +kernel) ⟨by decide, by decide⟩) (kc_preV (wr := []) (q0 := 0) (ci := 2) hK hP hD rfl rfl) rfl rfl hl.1 rfl (lv_room (Nat.le_of_ble_eq_true rfl)) d_M_lane_7 ⟨by decide, by decide⟩) hP hD hS hA (fun r u H locs hp hP hD hS => ?_)
      subst hp
      have hP : va_P D kc_cl (kc_Mw h cJ cI cX (nI (0)) (P) (La) (Co) (Mv) (M)) H := hP
      have hD : va_D A (kc_Mw h cJ cI cX (nI (0)) (P) (La) (Co) (Mv) (M)) := hD
      refine lv_if_ne (tgt := 23) hx hb d_M_lane_10 (by decide) (fun hc => absurd hc (not_not_intro rfl)) (fun _ => ?_)
      refine lv_iload_n hx hb d_M_lane_13 rfl (lv_at hl 2 rfl) ?_
      refine lv_if_lt (tgt := 23) hx hb d_M_lane_14 (by decide) (fun hc => absurd hc (kc_ge0 (by decide) hbad)) (fun _ => ?_)
      refine lv_iload_n hx hb d_M_lane_17 rfl (lv_at hl 2 rfl) ?_
      refine lv_bipush (v := nI 24) hx hb d_M_lane_18 (by decide +kernel) ?_
      refine lv_icmp_le (tgt := 32) hx hb d_M_lane_20 (by decide) (fun hc => absurd hc (kc_gt (by decide) hbad)) (fun _ => ?_)
      refine lv_aload_n hx hb d_M_lane_23 rfl (lv_at hl 0 rfl) ?_
      refine lv_iconst (v := nI 1) hx hb d_M_lane_24 (by decide +kernel) ?_
      refine kc_goI (wr := []) (ws := kc_Mw h cJ cI cX (nI (0)) (P) (La) (Co) (Mv) (M)) (va_runV (As := [.int (nI (1))]) (rest := []) ⟨hx, hb, hml, hown, hts⟩ (c_M_fail l D h cJ cI cX (nI (0)) P La Co Mv M H.size (nI 1)) (cwV 1 hts (kc_inV kw_229 kw_231 ks_4 kw_3 kw_232) rfl rfl rfl (by decide +kernel) ⟨by decide, by decide⟩) (kc_preV (wr := []) (q0 := 0) (ci := 2) hK hP hD rfl rfl) rfl rfl hl.1 rfl (lv_room (Nat.le_of_ble_eq_true rfl)) d_M_lane_25 ⟨by decide, by decide⟩) hP hD hS hA (fun r u H locs hp hP hD hS => ?_)
      subst hp
      have hP : va_P D kc_cl (kc_Mw h cJ cI cX (nI (1)) (P) (La) (Co) (Mv) (M)) H := hP
      have hD : va_D A (kc_Mw h cJ cI cX (nI (1)) (P) (La) (Co) (Mv) (M)) := hD
      refine lv_i2l hx hb d_M_lane_28 rfl ?_
      refine lv_goto (tgt := 40) hx hb d_M_lane_29 (by decide) ?_
      exact kc_lret hx hb hr hlk () trivial hP hD hS d_M_lane_40
section MTK
variable {p : Program} {l : Launch} {e : Env} {R : Room} {s : State} {m : MethodId} {args : Array Value} {below : List Frame} {meth : Method} {c : Code} {Q : State → Prop} {D : va_G} {A : Nat → Prop} {h : Nat → Nat} {cJ cI cX : ClassId} {fl : Int32} {cells slots : Nat}
set_option maxHeartbeats 4000000 in
theorem M_take_L (S : CallFix p m c b_M_take 6 s args kc_tbl R_M) (hK : va_K D kc_cl (kc_ty cJ cI cX) s) {M : Nat → Nat → Int64} {P0 : Nat → Int32} {q0 : kc_st} {j N : Nat} {v : Int64} (hA : ∀ q, s.heap.size ≤ q → A q) (hj : j < 8) (hN : N < 3000) (hlt : q0.2 < 136) (n : Nat) : ∀ (k : Nat) (H : Heap) (locs : List Loc) (ls : Array Slot) (P : Nat → Int32) (La Co Mv : Nat → Int64), k + n = N → lv_has ls 6 [(5, .int (nI (k))), (0, .ref (h 0)), (1, .int (nI (j))), (2, .long (v)), (4, .int (nI (N)))] → kc_at D A s.heap H locs (kc_Mw h cJ cI cX (fl) (P) (La) (Co) (Mv) (M)) → (kc_eq La (kc_steps (kc_vs v) k q0).1) → (P j = nI (kc_steps (kc_vs v) k q0).2) → (∀ i, i ≠ j → P i = P0 i) → (∀ (H : Heap) (locs : List Loc) (ls : Array Slot) (P : Nat → Int32) (La Co Mv : Nat → Int64), lv_has ls 6 [(5, .int (nI (N))), (0, .ref (h 0)), (1, .int (nI (j))), (2, .long (v)), (4, .int (nI (N)))] → kc_at D A s.heap H locs (kc_Mw h cJ cI cX (fl) (P) (La) (Co) (Mv) (M)) → (kc_eq La (kc_steps (kc_vs v) N q0).1) → (P j = nI (kc_steps (kc_vs v) N q0).2) → (∀ i, i ≠ j → P i = P0 i) → W p l e r_M s m args below meth c H locs 0 0 Q (F0 m 65 ls [])) → W p l e r_M s m args below meth c H locs 0 0 Q (F0 m 39 ls []) := by
  obtain ⟨hx, hb, hml, hown, hts⟩ := S
  induction n with
  | zero =>
    intro k H locs ls P La Co Mv hn hl hw hLa hPj hPo K
    obtain ⟨hP, hD, hS⟩ := hw
    obtain rfl : N = k := by omega
    refine lv_iload hx hb d_M_take_39 (lv_at hl 0 rfl) ?_
    refine lv_iload hx hb d_M_take_41 (lv_at hl 4 rfl) ?_
    refine kn_ge (tgt := 65) hx hb (by omega) (by omega) d_M_take_43 (by decide) (fun _ => ?_) (fun hc => absurd hc (by omega))
    exact K H locs ls P La Co Mv hl ⟨hP, hD, hS⟩ hLa hPj hPo
  | succ n ih =>
    intro k H locs ls P La Co Mv hn hl hw hLa hPj hPo K
    obtain ⟨hP, hD, hS⟩ := hw
    refine lv_iload hx hb d_M_take_39 (lv_at hl 0 rfl) ?_
    refine lv_iload hx hb d_M_take_41 (lv_at hl 4 rfl) ?_
    refine kn_ge (tgt := 65) hx hb (by omega) (by omega) d_M_take_43 (by decide) (fun hc => absurd hc (by omega)) (fun _ => ?_)
    refine lv_aload_n hx hb d_M_take_46 rfl (lv_at hl 1 rfl) ?_
    refine lv_iload_n hx hb d_M_take_47 rfl (lv_at hl 2 rfl) ?_
    refine lv_lload_n hx hb d_M_take_48 rfl (lv_at hl 3 rfl) ?_
    refine lv_bipush (v := nI 8) hx hb d_M_take_49 (by decide +kernel) ?_
    refine lv_iload hx hb d_M_take_51 (lv_at hl 0 rfl) ?_
    refine kn_mul hx hb d_M_take_53 ?_
    refine lv_lushr hx hb d_M_take_54 rfl ?_
    refine lv_l2i hx hb d_M_take_55 rfl ?_
    refine kc_goV (wr := []) (ws := kc_Mw h cJ cI cX (fl) (P) (La) (Co) (Mv) (M)) (va_runV (As := [.int (nI (j)), .int ((((v).toUInt64 >>> ((nI (8 * k)).toInt64.toUInt64 &&& Int64.toUInt64 63)).toInt64).toInt32)]) (rest := []) ⟨hx, hb, hml, hown, hts⟩ (c_M_taken l D h cJ cI cX (fl) P La Co Mv M H.size j hj ((((v).toUInt64 >>> ((nI (8 * k)).toInt64.toUInt64 &&& Int64.toUInt64 63)).toInt64).toInt32) _ hPj (kc_steps_lt hlt _ _)) (cwV 2 hts (kc_inV kw_237 kw_239 ks_6 kw_3 kw_240) rfl rfl rfl (by decide +kernel) ⟨by decide, by decide⟩) (kc_preV (wr := []) (q0 := 0) (ci := 2) hK hP hD rfl rfl) rfl rfl hl.1 rfl (lv_room (Nat.le_of_ble_eq_true rfl)) d_M_take_56 ⟨by decide, by decide⟩) hP hD hS hA (fun u H locs hp hP hD hS => ?_)
    obtain ⟨P1, La1, Co1, Mv1⟩ := u
    have hP : va_P D kc_cl (kc_Mw h cJ cI cX (fl) (P1) (La1) (Co1) (Mv1) (M)) H := hP
    have hD : va_D A (kc_Mw h cJ cI cX (fl) (P1) (La1) (Co1) (Mv1) (M)) := hD
    obtain ⟨hp1, hp2, hp3⟩ := hp
    have hbv : ((((v).toUInt64 >>> ((nI (8 * k)).toInt64.toUInt64 &&& Int64.toUInt64 63)).toInt64).toInt32).toInt64 &&& 255 = kc_vs v k := by rw [← kc_mask2, kc_mask1]; rfl
    rw [hbv] at hp1 hp2
    have hsm := kc_same_put (q := (La, (kc_steps (kc_vs v) k q0).2)) (r := kc_steps (kc_vs v) k q0) ⟨hLa, rfl⟩ (kc_vs v k)
    have hn1 : kc_eq La1 (kc_steps (kc_vs v) (k + 1) q0).1 := kc_eq.trans hp1 hsm.1
    have hn2 : P1 j = nI (kc_steps (kc_vs v) (k + 1) q0).2 := hp2.trans (congrArg nI hsm.2)
    have hn3 : ∀ i, i ≠ j → P1 i = P0 i := fun i hi => (hp3 i hi).trans (hPo i hi)
    refine lv_iinc (k := 0) hx hb d_M_take_59 hl rfl (kn_i1 _) (by decide) rfl (fun ls hl => ?_)
    have hl : lv_has ls 6 [(5, .int (nI (k + 1))), (0, .ref (h 0)), (1, .int (nI (j))), (2, .long (v)), (4, .int (nI (N)))] := hl
    refine lv_goto (tgt := 39) hx hb d_M_take_62 (by decide) ?_
    have hl : lv_has ls 6 [(5, .int (nI (k + 1))), (0, .ref (h 0)), (1, .int (nI (j))), (2, .long (v)), (4, .int (nI (N)))] := lv_sub hl [0, 1, 2, 3, 4] rfl
    exact ih (k + 1) H locs ls P1 La1 Co1 Mv1 (by omega) hl ⟨hP, hD, hS⟩ hn1 hn2 hn3 K
set_option maxHeartbeats 4000000 in
theorem M_fill_L (S : CallFix p m c b_M_fill 6 s args kc_tbl R_M) (hK : va_K D kc_cl (kc_ty cJ cI cX) s) {M : Nat → Nat → Int64} {P0 : Nat → Int32} {q0 : kc_st} {j N : Nat} {v st : Int32} (hA : ∀ q, s.heap.size ≤ q → A q) (hj : j < 8) (hN : N < 3000) (hlt : q0.2 < 136) (n : Nat) : ∀ (k : Nat) (H : Heap) (locs : List Loc) (ls : Array Slot) (P : Nat → Int32) (La Co Mv : Nat → Int64), k + n = N → lv_has ls 6 [(5, .int (nI (k))), (0, .ref (h 0)), (1, .int (nI (j))), (2, .int (v)), (3, .int (st)), (4, .int (nI (N)))] → kc_at D A s.heap H locs (kc_Mw h cJ cI cX (fl) (P) (La) (Co) (Mv) (M)) → (kc_eq La (kc_steps (kc_fs v st) k q0).1) → (P j = nI (kc_steps (kc_fs v st) k q0).2) → (∀ i, i ≠ j → P i = P0 i) → (∀ (H : Heap) (locs : List Loc) (ls : Array Slot) (P : Nat → Int32) (La Co Mv : Nat → Int64), lv_has ls 6 [(5, .int (nI (N))), (0, .ref (h 0)), (1, .int (nI (j))), (2, .int (v)), (3, .int (st)), (4, .int (nI (N)))] → kc_at D A s.heap H locs (kc_Mw h cJ cI cX (fl) (P) (La) (Co) (Mv) (M)) → (kc_eq La (kc_steps (kc_fs v st) N q0).1) → (P j = nI (kc_steps (kc_fs v st) N q0).2) → (∀ i, i ≠ j → P i = P0 i) → W p l e r_M s m args below meth c H locs 0 0 Q (F0 m 64 ls [])) → W p l e r_M s m args below meth c H locs 0 0 Q (F0 m 40 ls []) := by
  obtain ⟨hx, hb, hml, hown, hts⟩ := S
  induction n with
  | zero =>
    intro k H locs ls P La Co Mv hn hl hw hLa hPj hPo K
    obtain ⟨hP, hD, hS⟩ := hw
    obtain rfl : N = k := by omega
    refine lv_iload hx hb d_M_fill_40 (lv_at hl 0 rfl) ?_
    refine lv_iload hx hb d_M_fill_42 (lv_at hl 5 rfl) ?_
    refine kn_ge (tgt := 64) hx hb (by omega) (by omega) d_M_fill_44 (by decide) (fun _ => ?_) (fun hc => absurd hc (by omega))
    exact K H locs ls P La Co Mv hl ⟨hP, hD, hS⟩ hLa hPj hPo
  | succ n ih =>
    intro k H locs ls P La Co Mv hn hl hw hLa hPj hPo K
    obtain ⟨hP, hD, hS⟩ := hw
    refine lv_iload hx hb d_M_fill_40 (lv_at hl 0 rfl) ?_
    refine lv_iload hx hb d_M_fill_42 (lv_at hl 5 rfl) ?_
    refine kn_ge (tgt := 64) hx hb (by omega) (by omega) d_M_fill_44 (by decide) (fun hc => absurd hc (by omega)) (fun _ => ?_)
    refine lv_aload_n hx hb d_M_fill_47 rfl (lv_at hl 1 rfl) ?_
    refine lv_iload_n hx hb d_M_fill_48 rfl (lv_at hl 2 rfl) ?_
    refine lv_iload_n hx hb d_M_fill_49 rfl (lv_at hl 3 rfl) ?_
    refine lv_iload hx hb d_M_fill_50 (lv_at hl 0 rfl) ?_
    refine lv_iload_n hx hb d_M_fill_52 rfl (lv_at hl 4 rfl) ?_
    refine lv_imul hx hb d_M_fill_53 ?_
    refine lv_iadd hx hb d_M_fill_54 ?_
    refine kc_goV (wr := []) (ws := kc_Mw h cJ cI cX (fl) (P) (La) (Co) (Mv) (M)) (va_runV (As := [.int (nI (j)), .int ((v) + ((nI (k)) * (st)))]) (rest := []) ⟨hx, hb, hml, hown, hts⟩ (c_M_taken l D h cJ cI cX (fl) P La Co Mv M H.size j hj ((v) + ((nI (k)) * (st))) _ hPj (kc_steps_lt hlt _ _)) (cwV 2 hts (kc_inV kw_237 kw_239 ks_6 kw_3 kw_240) rfl rfl rfl (by decide +kernel) ⟨by decide, by decide⟩) (kc_preV (wr := []) (q0 := 0) (ci := 2) hK hP hD rfl rfl) rfl rfl hl.1 rfl (lv_room (Nat.le_of_ble_eq_true rfl)) d_M_fill_55 ⟨by decide, by decide⟩) hP hD hS hA (fun u H locs hp hP hD hS => ?_)
    obtain ⟨P1, La1, Co1, Mv1⟩ := u
    have hP : va_P D kc_cl (kc_Mw h cJ cI cX (fl) (P1) (La1) (Co1) (Mv1) (M)) H := hP
    have hD : va_D A (kc_Mw h cJ cI cX (fl) (P1) (La1) (Co1) (Mv1) (M)) := hD
    obtain ⟨hp1, hp2, hp3⟩ := hp
    have hbv : ((v) + ((nI (k)) * (st))).toInt64 &&& 255 = kc_fs v st k := rfl
    rw [hbv] at hp1 hp2
    have hsm := kc_same_put (q := (La, (kc_steps (kc_fs v st) k q0).2)) (r := kc_steps (kc_fs v st) k q0) ⟨hLa, rfl⟩ (kc_fs v st k)
    have hn1 : kc_eq La1 (kc_steps (kc_fs v st) (k + 1) q0).1 := kc_eq.trans hp1 hsm.1
    have hn2 : P1 j = nI (kc_steps (kc_fs v st) (k + 1) q0).2 := hp2.trans (congrArg nI hsm.2)
    have hn3 : ∀ i, i ≠ j → P1 i = P0 i := fun i hi => (hp3 i hi).trans (hPo i hi)
    refine lv_iinc (k := 0) hx hb d_M_fill_58 hl rfl (kn_i1 _) (by decide) rfl (fun ls hl => ?_)
    have hl : lv_has ls 6 [(5, .int (nI (k + 1))), (0, .ref (h 0)), (1, .int (nI (j))), (2, .int (v)), (3, .int (st)), (4, .int (nI (N)))] := hl
    refine lv_goto (tgt := 40) hx hb d_M_fill_61 (by decide) ?_
    have hl : lv_has ls 6 [(5, .int (nI (k + 1))), (0, .ref (h 0)), (1, .int (nI (j))), (2, .int (v)), (3, .int (st)), (4, .int (nI (N)))] := lv_sub hl [0, 1, 2, 3, 4, 5] rfl
    exact ih (k + 1) H locs ls P1 La1 Co1 Mv1 (by omega) hl ⟨hP, hD, hS⟩ hn1 hn2 hn3 K
end MTK
set_option maxHeartbeats 4000000 in
theorem c_M_take_v (l : Launch) (D : va_G) (h : Nat → Nat) (cJ cI cX : ClassId) (fl : Int32) (P : Nat → Int32) (La Co Mv : Nat → Int64) (M : Nat → Nat → Int64) (sz : Nat) (j n pp : Nat) (v : Int64) (hj : j < 8) (hn : n ≤ 8) (hpp : P j = nI pp) (hlt : pp < 136) : kc_Mi l y_M_take w_M_take r_M [.ref (h 0), .int (nI j), .long v, .int (nI n)] D (kc_ty cJ cI cX) (kc_Mw h cJ cI cX fl P La Co Mv M) sz (fun r (u : (Nat → Int64) × (Nat → Int32) × (Nat → Int64) × (Nat → Int64) × (Nat → Int64)) => kc_eq u.1 (kc_steps (kc_vs v) n (M j, pp)).1 ∧ u.2.1 j = nI (kc_steps (kc_vs v) n (M j, pp)).2 ∧ (∀ i, i ≠ j → u.2.1 i = P i) ∧ r = nI (kc_steps (kc_vs v) n (M j, pp)).2) (fun u => kc_Mw h cJ cI cX (nI 0) u.2.1 u.2.2.1 u.2.2.2.1 u.2.2.2.2 (va_up M j u.1)) 0 0 := by
  refine kc_ofWi (cc := b_M_take) (maxL := 6) (by decide) rfl (Nat.le_of_ble_eq_true rfl) ?_
  intro p e s m below meth c A ls S hr hlk hin hK hP hD hA hl hsz
  obtain ⟨hx, hb, hml, hown, hts⟩ := S
  have hS : va_S A s.heap s.heap [] := va_S.rf
  have hl : lv_has ls 6 [(0, .ref (h 0)), (1, .int (nI (j))), (2, .long (v)), (4, .int (nI (n)))] := hl
  obtain ⟨H, hH⟩ : ∃ H, H = s.heap := ⟨_, rfl⟩
  obtain ⟨locs, hlo⟩ : ∃ q : List Loc, q = [] := ⟨_, rfl⟩
  rw [← hlo] at hS ⊢
  have hP : va_P D kc_cl _ H := hH ▸ hP
  have hS : va_S A s.heap H locs := by rw [hH]; exact hS
  refine (show W _ _ _ _ _ _ _ _ _ _ H _ _ _ _ _ → W _ _ _ _ _ _ _ _ _ _ s.heap _ _ _ _ _ from by rw [hH]; exact id) ?_
  clear hlo hH
  refine lv_aload_n hx hb d_M_take_0 rfl (lv_at hl 0 rfl) ?_
  refine lv_iconst (v := nI 0) hx hb d_M_take_1 (by decide +kernel) ?_
  refine va_put (D := D) (ci := 2) (v := .int (nI (0))) (ty := .int) (C := R_M) (T := F_M) (N := 7) (own := R_M) hx hb hts u_M_in t_M t_M_ok n_M hown hK hP hD hS 0 rfl rfl 0 (by decide) (hts _ kw_191) (fun _ h9 => h9) rfl (by decide +kernel) rfl rfl (Nat.le_of_ble_eq_true rfl) d_M_take_2 (fun H locs hP hD hS => ?_)
  have hP : va_P D kc_cl (kc_Mw h cJ cI cX (nI (0)) (P) (La) (Co) (Mv) (M)) H := hP
  have hD : va_D A (kc_Mw h cJ cI cX (nI (0)) (P) (La) (Co) (Mv) (M)) := hD
  refine lv_aload_n hx hb d_M_take_5 rfl (lv_at hl 0 rfl) ?_
  refine lv_iload_n hx hb d_M_take_6 rfl (lv_at hl 1 rfl) ?_
  refine kc_goI (wr := []) (ws := kc_Mw h cJ cI cX (nI (0)) (P) (La) (Co) (Mv) (M)) (va_runV (As := [.int (nI (j))]) (rest := []) ⟨hx, hb, hml, hown, hts⟩ (c_M_out_v l D h cJ cI cX (nI (0)) P La Co Mv M H.size j hj) (cwV 1 hts (kc_inV kw_221 kw_223 ks_3 kw_3 kw_224) rfl rfl rfl (by decide +kernel) ⟨by decide, by decide⟩) (kc_preV (wr := []) (q0 := 0) (ci := 2) hK hP hD rfl rfl) rfl rfl hl.1 rfl (lv_room (Nat.le_of_ble_eq_true rfl)) d_M_take_7 ⟨by decide, by decide⟩) hP hD hS hA (fun r u H locs hp hP hD hS => ?_)
  subst hp
  have hP : va_P D kc_cl (kc_Mw h cJ cI cX (nI (0)) (P) (La) (Co) (Mv) (M)) H := hP
  have hD : va_D A (kc_Mw h cJ cI cX (nI (0)) (P) (La) (Co) (Mv) (M)) := hD
  refine lv_if_ne (tgt := 25) hx hb d_M_take_10 (by decide) (fun hc => absurd hc (not_not_intro rfl)) (fun _ => ?_)
  refine lv_iload hx hb d_M_take_13 (lv_at hl 3 rfl) ?_
  refine kn_iflt (tgt := 25) hx hb (by omega) d_M_take_15 (by decide) ?_
  refine lv_iload hx hb d_M_take_18 (lv_at hl 3 rfl) ?_
  refine lv_bipush (v := nI 8) hx hb d_M_take_20 (by decide +kernel) ?_
  refine kn_le (tgt := 31) hx hb (by omega) (by omega) d_M_take_22 (by decide) (fun _ => ?_) (fun hc => absurd hc (by omega))
  refine lv_aload_n hx hb d_M_take_31 rfl (lv_at hl 0 rfl) ?_
  refine lv_iload_n hx hb d_M_take_32 rfl (lv_at hl 1 rfl) ?_
  refine kc_goV (wr := []) (ws := kc_Mw h cJ cI cX (nI (0)) (P) (La) (Co) (Mv) (M)) (va_runV (As := [.int (nI (j))]) (rest := []) ⟨hx, hb, hml, hown, hts⟩ (c_M_get l D h cJ cI cX (nI (0)) P La Co Mv M H.size j hj) (cwV 1 hts (kc_inV kw_233 kw_235 ks_5 kw_3 kw_236) rfl rfl rfl (by decide +kernel) ⟨by decide, by decide⟩) (kc_preV (wr := []) (q0 := 0) (ci := 2) hK hP hD rfl rfl) rfl rfl hl.1 rfl (lv_room (Nat.le_of_ble_eq_true rfl)) d_M_take_33 ⟨by decide, by decide⟩) hP hD hS hA (fun u H locs hp hP hD hS => ?_)
  obtain ⟨g1, e_g1⟩ : ∃ z, z = u := ⟨_, rfl⟩
  rw [← e_g1] at hp hP hD
  have hP : va_P D kc_cl (kc_Mw h cJ cI cX (nI (0)) (P) (g1) (Co) (Mv) (M)) H := hP
  have hD : va_D A (kc_Mw h cJ cI cX (nI (0)) (P) (g1) (Co) (Mv) (M)) := hD
  have hg1 : kc_eq g1 (M j) := hp
  refine lv_iconst (v := nI 0) hx hb d_M_take_36 (by decide +kernel) ?_
  refine lv_istore hx hb d_M_take_37 hl (by decide) rfl (fun ls hl => ?_)
  have hl : lv_has ls 6 [(5, .int (nI (0))), (0, .ref (h 0)), (1, .int (nI (j))), (2, .long (v)), (4, .int (nI (n)))] := hl
  have hl : lv_has ls 6 [(5, .int (nI (0))), (0, .ref (h 0)), (1, .int (nI (j))), (2, .long (v)), (4, .int (nI (n)))] := lv_sub hl [0, 1, 2, 3, 4] rfl
  refine M_take_L ⟨hx, hb, hml, hown, hts⟩ hK (P0 := P) (q0 := (M j, pp)) (N := n) hA hj (by omega) hlt n 0 H locs ls P g1 Co Mv (by omega) hl ⟨hP, hD, hS⟩ hg1 hpp (fun i _ => rfl) (fun H locs ls P1 La1 Co1 Mv1 hl hw hLa hPj hPo => ?_)
  obtain ⟨hP, hD, hS⟩ := hw
  refine lv_aload_n hx hb d_M_take_65 rfl (lv_at hl 1 rfl) ?_
  refine lv_iload_n hx hb d_M_take_66 rfl (lv_at hl 2 rfl) ?_
  refine kc_goV (wr := []) (ws := kc_Mw h cJ cI cX (nI (0)) (P1) (La1) (Co1) (Mv1) (M)) (va_runV (As := [.int (nI (j))]) (rest := []) ⟨hx, hb, hml, hown, hts⟩ (c_M_put l D h cJ cI cX (nI (0)) P1 La1 Co1 Mv1 M H.size j hj) (cwV 1 hts (kc_inV kw_249 kw_251 ks_8 kw_3 kw_252) rfl rfl rfl (by decide +kernel) ⟨by decide, by decide⟩) (kc_preV (wr := []) (q0 := 0) (ci := 2) hK hP hD rfl rfl) rfl rfl hl.1 rfl (lv_room (Nat.le_of_ble_eq_true rfl)) d_M_take_67 ⟨by decide, by decide⟩) hP hD hS hA (fun u H locs hp hP hD hS => ?_)
  obtain ⟨g2, e_g2⟩ : ∃ z, z = u := ⟨_, rfl⟩
  rw [← e_g2] at hp hP hD
  have hP : va_P D kc_cl (kc_Mw h cJ cI cX (nI (0)) (P1) (La1) (Co1) (Mv1) (va_up M j g2)) H := hP
  have hD : va_D A (kc_Mw h cJ cI cX (nI (0)) (P1) (La1) (Co1) (Mv1) (va_up M j g2)) := hD
  have hg2 : kc_eq g2 (La1) := hp
  refine lv_aload_n hx hb d_M_take_70 rfl (lv_at hl 1 rfl) ?_
  refine kg_M hx hb hts hown hK hP 0 rfl 2 (by decide) kw_193 (v := .ref (h 2)) rfl d_M_take_71 ?_
  refine lv_iload_n hx hb d_M_take_74 rfl (lv_at hl 2 rfl) ?_
  refine ka_iald (f := P1) hx hb hK hP 2 1 rfl rfl (i := j) (by omega) (by decide) d_M_take_75 ?_
  exact kc_iret hx hb hr hlk (g2, P1, La1, Co1, Mv1) ⟨hg2.trans hLa, hPj, hPo, hPj⟩ hP hD hS d_M_take_76
set_option maxHeartbeats 4000000 in
theorem c_M_fill_v (l : Launch) (D : va_G) (h : Nat → Nat) (cJ cI cX : ClassId) (fl : Int32) (P : Nat → Int32) (La Co Mv : Nat → Int64) (M : Nat → Nat → Int64) (sz : Nat) (j n pp : Nat) (v st : Int32) (hj : j < 8) (hn : n ≤ 2000) (hpp : P j = nI pp) (hlt : pp < 136) : kc_Mi l y_M_fill w_M_fill r_M [.ref (h 0), .int (nI j), .int v, .int st, .int (nI n)] D (kc_ty cJ cI cX) (kc_Mw h cJ cI cX fl P La Co Mv M) sz (fun r (u : (Nat → Int64) × (Nat → Int32) × (Nat → Int64) × (Nat → Int64) × (Nat → Int64)) => kc_eq u.1 (kc_steps (kc_fs v st) n (M j, pp)).1 ∧ u.2.1 j = nI (kc_steps (kc_fs v st) n (M j, pp)).2 ∧ (∀ i, i ≠ j → u.2.1 i = P i) ∧ r = nI (kc_steps (kc_fs v st) n (M j, pp)).2) (fun u => kc_Mw h cJ cI cX (nI 0) u.2.1 u.2.2.1 u.2.2.2.1 u.2.2.2.2 (va_up M j u.1)) 0 0 := by
  refine kc_ofWi (cc := b_M_fill) (maxL := 6) (by decide) rfl (Nat.le_of_ble_eq_true rfl) ?_
  intro p e s m below meth c A ls S hr hlk hin hK hP hD hA hl hsz
  obtain ⟨hx, hb, hml, hown, hts⟩ := S
  have hS : va_S A s.heap s.heap [] := va_S.rf
  have hl : lv_has ls 6 [(0, .ref (h 0)), (1, .int (nI (j))), (2, .int (v)), (3, .int (st)), (4, .int (nI (n)))] := hl
  obtain ⟨H, hH⟩ : ∃ H, H = s.heap := ⟨_, rfl⟩
  obtain ⟨locs, hlo⟩ : ∃ q : List Loc, q = [] := ⟨_, rfl⟩
  rw [← hlo] at hS ⊢
  have hP : va_P D kc_cl _ H := hH ▸ hP
  have hS : va_S A s.heap H locs := by rw [hH]; exact hS
  refine (show W _ _ _ _ _ _ _ _ _ _ H _ _ _ _ _ → W _ _ _ _ _ _ _ _ _ _ s.heap _ _ _ _ _ from by rw [hH]; exact id) ?_
  clear hlo hH
  refine lv_aload_n hx hb d_M_fill_0 rfl (lv_at hl 0 rfl) ?_
  refine lv_iconst (v := nI 0) hx hb d_M_fill_1 (by decide +kernel) ?_
  refine va_put (D := D) (ci := 2) (v := .int (nI (0))) (ty := .int) (C := R_M) (T := F_M) (N := 7) (own := R_M) hx hb hts u_M_in t_M t_M_ok n_M hown hK hP hD hS 0 rfl rfl 0 (by decide) (hts _ kw_191) (fun _ h9 => h9) rfl (by decide +kernel) rfl rfl (Nat.le_of_ble_eq_true rfl) d_M_fill_2 (fun H locs hP hD hS => ?_)
  have hP : va_P D kc_cl (kc_Mw h cJ cI cX (nI (0)) (P) (La) (Co) (Mv) (M)) H := hP
  have hD : va_D A (kc_Mw h cJ cI cX (nI (0)) (P) (La) (Co) (Mv) (M)) := hD
  refine lv_aload_n hx hb d_M_fill_5 rfl (lv_at hl 0 rfl) ?_
  refine lv_iload_n hx hb d_M_fill_6 rfl (lv_at hl 1 rfl) ?_
  refine kc_goI (wr := []) (ws := kc_Mw h cJ cI cX (nI (0)) (P) (La) (Co) (Mv) (M)) (va_runV (As := [.int (nI (j))]) (rest := []) ⟨hx, hb, hml, hown, hts⟩ (c_M_out_v l D h cJ cI cX (nI (0)) P La Co Mv M H.size j hj) (cwV 1 hts (kc_inV kw_221 kw_223 ks_3 kw_3 kw_224) rfl rfl rfl (by decide +kernel) ⟨by decide, by decide⟩) (kc_preV (wr := []) (q0 := 0) (ci := 2) hK hP hD rfl rfl) rfl rfl hl.1 rfl (lv_room (Nat.le_of_ble_eq_true rfl)) d_M_fill_7 ⟨by decide, by decide⟩) hP hD hS hA (fun r u H locs hp hP hD hS => ?_)
  subst hp
  have hP : va_P D kc_cl (kc_Mw h cJ cI cX (nI (0)) (P) (La) (Co) (Mv) (M)) H := hP
  have hD : va_D A (kc_Mw h cJ cI cX (nI (0)) (P) (La) (Co) (Mv) (M)) := hD
  refine lv_if_ne (tgt := 26) hx hb d_M_fill_10 (by decide) (fun hc => absurd hc (not_not_intro rfl)) (fun _ => ?_)
  refine lv_iload hx hb d_M_fill_13 (lv_at hl 4 rfl) ?_
  refine kn_iflt (tgt := 26) hx hb (by omega) d_M_fill_15 (by decide) ?_
  refine lv_iload hx hb d_M_fill_18 (lv_at hl 4 rfl) ?_
  refine lv_sipush (v := nI 2000) hx hb d_M_fill_20 (by decide +kernel) ?_
  refine kn_le (tgt := 32) hx hb (by omega) (by omega) d_M_fill_23 (by decide) (fun _ => ?_) (fun hc => absurd hc (by omega))
  refine lv_aload_n hx hb d_M_fill_32 rfl (lv_at hl 0 rfl) ?_
  refine lv_iload_n hx hb d_M_fill_33 rfl (lv_at hl 1 rfl) ?_
  refine kc_goV (wr := []) (ws := kc_Mw h cJ cI cX (nI (0)) (P) (La) (Co) (Mv) (M)) (va_runV (As := [.int (nI (j))]) (rest := []) ⟨hx, hb, hml, hown, hts⟩ (c_M_get l D h cJ cI cX (nI (0)) P La Co Mv M H.size j hj) (cwV 1 hts (kc_inV kw_233 kw_235 ks_5 kw_3 kw_236) rfl rfl rfl (by decide +kernel) ⟨by decide, by decide⟩) (kc_preV (wr := []) (q0 := 0) (ci := 2) hK hP hD rfl rfl) rfl rfl hl.1 rfl (lv_room (Nat.le_of_ble_eq_true rfl)) d_M_fill_34 ⟨by decide, by decide⟩) hP hD hS hA (fun u H locs hp hP hD hS => ?_)
  obtain ⟨g1, e_g1⟩ : ∃ z, z = u := ⟨_, rfl⟩
  rw [← e_g1] at hp hP hD
  have hP : va_P D kc_cl (kc_Mw h cJ cI cX (nI (0)) (P) (g1) (Co) (Mv) (M)) H := hP
  have hD : va_D A (kc_Mw h cJ cI cX (nI (0)) (P) (g1) (Co) (Mv) (M)) := hD
  have hg1 : kc_eq g1 (M j) := hp
  refine lv_iconst (v := nI 0) hx hb d_M_fill_37 (by decide +kernel) ?_
  refine lv_istore hx hb d_M_fill_38 hl (by decide) rfl (fun ls hl => ?_)
  have hl : lv_has ls 6 [(5, .int (nI (0))), (0, .ref (h 0)), (1, .int (nI (j))), (2, .int (v)), (3, .int (st)), (4, .int (nI (n)))] := hl
  have hl : lv_has ls 6 [(5, .int (nI (0))), (0, .ref (h 0)), (1, .int (nI (j))), (2, .int (v)), (3, .int (st)), (4, .int (nI (n)))] := lv_sub hl [0, 1, 2, 3, 4, 5] rfl
  refine M_fill_L ⟨hx, hb, hml, hown, hts⟩ hK (P0 := P) (q0 := (M j, pp)) (N := n) hA hj (by omega) hlt n 0 H locs ls P g1 Co Mv (by omega) hl ⟨hP, hD, hS⟩ hg1 hpp (fun i _ => rfl) (fun H locs ls P1 La1 Co1 Mv1 hl hw hLa hPj hPo => ?_)
  obtain ⟨hP, hD, hS⟩ := hw
  refine lv_aload_n hx hb d_M_fill_64 rfl (lv_at hl 1 rfl) ?_
  refine lv_iload_n hx hb d_M_fill_65 rfl (lv_at hl 2 rfl) ?_
  refine kc_goV (wr := []) (ws := kc_Mw h cJ cI cX (nI (0)) (P1) (La1) (Co1) (Mv1) (M)) (va_runV (As := [.int (nI (j))]) (rest := []) ⟨hx, hb, hml, hown, hts⟩ (c_M_put l D h cJ cI cX (nI (0)) P1 La1 Co1 Mv1 M H.size j hj) (cwV 1 hts (kc_inV kw_249 kw_251 ks_8 kw_3 kw_252) rfl rfl rfl (by decide +kernel) ⟨by decide, by decide⟩) (kc_preV (wr := []) (q0 := 0) (ci := 2) hK hP hD rfl rfl) rfl rfl hl.1 rfl (lv_room (Nat.le_of_ble_eq_true rfl)) d_M_fill_66 ⟨by decide, by decide⟩) hP hD hS hA (fun u H locs hp hP hD hS => ?_)
  obtain ⟨g2, e_g2⟩ : ∃ z, z = u := ⟨_, rfl⟩
  rw [← e_g2] at hp hP hD
  have hP : va_P D kc_cl (kc_Mw h cJ cI cX (nI (0)) (P1) (La1) (Co1) (Mv1) (va_up M j g2)) H := hP
  have hD : va_D A (kc_Mw h cJ cI cX (nI (0)) (P1) (La1) (Co1) (Mv1) (va_up M j g2)) := hD
  have hg2 : kc_eq g2 (La1) := hp
  refine lv_aload_n hx hb d_M_fill_69 rfl (lv_at hl 1 rfl) ?_
  refine kg_M hx hb hts hown hK hP 0 rfl 2 (by decide) kw_193 (v := .ref (h 2)) rfl d_M_fill_70 ?_
  refine lv_iload_n hx hb d_M_fill_73 rfl (lv_at hl 2 rfl) ?_
  refine ka_iald (f := P1) hx hb hK hP 2 1 rfl rfl (i := j) (by omega) (by decide) d_M_fill_74 ?_
  exact kc_iret hx hb hr hlk (g2, P1, La1, Co1, Mv1) ⟨hg2.trans hLa, hPj, hPo, hPj⟩ hP hD hS d_M_fill_75
set_option maxHeartbeats 4000000 in
theorem c_M_take_x (l : Launch) (D : va_G) (h : Nat → Nat) (cJ cI cX : ClassId) (fl : Int32) (P : Nat → Int32) (La Co Mv : Nat → Int64) (M : Nat → Nat → Int64) (sz : Nat) (x y : Int32) (v : Int64) (hbad : (x < 0 ∨ nI 8 ≤ x) ∨ (∃ j, j < 8 ∧ x = nI j) ∧ (y < 0 ∨ nI 9 ≤ y)) : kc_Mi l y_M_take w_M_take r_M [.ref (h 0), .int x, .long v, .int y] D (kc_ty cJ cI cX) (kc_Mw h cJ cI cX fl P La Co Mv M) sz (fun _ (_ : Unit) => True) (fun _ => kc_Mw h cJ cI cX (nI 1) P La Co Mv M) 0 0 := by
  refine kc_ofWi (cc := b_M_take) (maxL := 6) (by decide) rfl (Nat.le_of_ble_eq_true rfl) ?_
  intro p e s m below meth c A ls S hr hlk hin hK hP hD hA hl hsz
  obtain ⟨hx, hb, hml, hown, hts⟩ := S
  have hS : va_S A s.heap s.heap [] := va_S.rf
  have hl : lv_has ls 6 [(0, .ref (h 0)), (1, .int (x)), (2, .long (v)), (4, .int (y))] := hl
  obtain ⟨H, hH⟩ : ∃ H, H = s.heap := ⟨_, rfl⟩
  obtain ⟨locs, hlo⟩ : ∃ q : List Loc, q = [] := ⟨_, rfl⟩
  rw [← hlo] at hS ⊢
  have hP : va_P D kc_cl _ H := hH ▸ hP
  have hS : va_S A s.heap H locs := by rw [hH]; exact hS
  refine (show W _ _ _ _ _ _ _ _ _ _ H _ _ _ _ _ → W _ _ _ _ _ _ _ _ _ _ s.heap _ _ _ _ _ from by rw [hH]; exact id) ?_
  clear hlo hH
  rcases hbad with hbad | ⟨⟨j, hj, rfl⟩, hbad⟩
  · refine lv_aload_n hx hb d_M_take_0 rfl (lv_at hl 0 rfl) ?_
    refine lv_iconst (v := nI 0) hx hb d_M_take_1 (by decide +kernel) ?_
    refine va_put (D := D) (ci := 2) (v := .int (nI (0))) (ty := .int) (C := R_M) (T := F_M) (N := 7) (own := R_M) hx hb hts u_M_in t_M t_M_ok n_M hown hK hP hD hS 0 rfl rfl 0 (by decide) (hts _ kw_191) (fun _ h9 => h9) rfl (by decide +kernel) rfl rfl (Nat.le_of_ble_eq_true rfl) d_M_take_2 (fun H locs hP hD hS => ?_)
    have hP : va_P D kc_cl (kc_Mw h cJ cI cX (nI (0)) (P) (La) (Co) (Mv) (M)) H := hP
    have hD : va_D A (kc_Mw h cJ cI cX (nI (0)) (P) (La) (Co) (Mv) (M)) := hD
    refine lv_aload_n hx hb d_M_take_5 rfl (lv_at hl 0 rfl) ?_
    refine lv_iload_n hx hb d_M_take_6 rfl (lv_at hl 1 rfl) ?_
    refine kc_goI (wr := []) (ws := kc_Mw h cJ cI cX (nI (0)) (P) (La) (Co) (Mv) (M)) (va_runV (As := [.int (x)]) (rest := []) ⟨hx, hb, hml, hown, hts⟩ (c_M_out_x l D h cJ cI cX (nI (0)) P La Co Mv M H.size x hbad) (cwV 1 hts (kc_inV kw_221 kw_223 ks_3 kw_3 kw_224) rfl rfl rfl (by decide +kernel) ⟨by decide, by decide⟩) (kc_preV (wr := []) (q0 := 0) (ci := 2) hK hP hD rfl rfl) rfl rfl hl.1 rfl (lv_room (Nat.le_of_ble_eq_true rfl)) d_M_take_7 ⟨by decide, by decide⟩) hP hD hS hA (fun r u H locs hp hP hD hS => ?_)
    subst hp
    have hP : va_P D kc_cl (kc_Mw h cJ cI cX (nI (0)) (P) (La) (Co) (Mv) (M)) H := hP
    have hD : va_D A (kc_Mw h cJ cI cX (nI (0)) (P) (La) (Co) (Mv) (M)) := hD
    refine lv_if_ne (tgt := 25) hx hb d_M_take_10 (by decide) (fun _ => ?_) (fun hc => absurd hc (by decide))
    refine lv_aload_n hx hb d_M_take_25 rfl (lv_at hl 0 rfl) ?_
    refine lv_iconst (v := nI 1) hx hb d_M_take_26 (by decide +kernel) ?_
    refine kc_goI (wr := []) (ws := kc_Mw h cJ cI cX (nI (0)) (P) (La) (Co) (Mv) (M)) (va_runV (As := [.int (nI (1))]) (rest := []) ⟨hx, hb, hml, hown, hts⟩ (c_M_fail l D h cJ cI cX (nI (0)) P La Co Mv M H.size (nI 1)) (cwV 1 hts (kc_inV kw_229 kw_231 ks_4 kw_3 kw_232) rfl rfl rfl (by decide +kernel) ⟨by decide, by decide⟩) (kc_preV (wr := []) (q0 := 0) (ci := 2) hK hP hD rfl rfl) rfl rfl hl.1 rfl (lv_room (Nat.le_of_ble_eq_true rfl)) d_M_take_27 ⟨by decide, by decide⟩) hP hD hS hA (fun r u H locs hp hP hD hS => ?_)
    subst hp
    have hP : va_P D kc_cl (kc_Mw h cJ cI cX (nI (1)) (P) (La) (Co) (Mv) (M)) H := hP
    have hD : va_D A (kc_Mw h cJ cI cX (nI (1)) (P) (La) (Co) (Mv) (M)) := hD
    exact kc_iret hx hb hr hlk () trivial hP hD hS d_M_take_30
  · rcases hbad with hbad | hbad
    · refine lv_aload_n hx hb d_M_take_0 rfl (lv_at hl 0 rfl) ?_
      refine lv_iconst (v := nI 0) hx hb d_M_take_1 (by decide +kernel) ?_
      refine va_put (D := D) (ci := 2) (v := .int (nI (0))) (ty := .int) (C := R_M) (T := F_M) (N := 7) (own := R_M) hx hb hts u_M_in t_M t_M_ok n_M hown hK hP hD hS 0 rfl rfl 0 (by decide) (hts _ kw_191) (fun _ h9 => h9) rfl (by decide +kernel) rfl rfl (Nat.le_of_ble_eq_true rfl) d_M_take_2 (fun H locs hP hD hS => ?_)
      have hP : va_P D kc_cl (kc_Mw h cJ cI cX (nI (0)) (P) (La) (Co) (Mv) (M)) H := hP
      have hD : va_D A (kc_Mw h cJ cI cX (nI (0)) (P) (La) (Co) (Mv) (M)) := hD
      refine lv_aload_n hx hb d_M_take_5 rfl (lv_at hl 0 rfl) ?_
      refine lv_iload_n hx hb d_M_take_6 rfl (lv_at hl 1 rfl) ?_
      refine kc_goI (wr := []) (ws := kc_Mw h cJ cI cX (nI (0)) (P) (La) (Co) (Mv) (M)) (va_runV (As := [.int (nI (j))]) (rest := []) ⟨hx, hb, hml, hown, hts⟩ (c_M_out_v l D h cJ cI cX (nI (0)) P La Co Mv M H.size j hj) (cwV 1 hts (kc_inV kw_221 kw_223 ks_3 kw_3 kw_224) rfl rfl rfl (by decide +kernel) ⟨by decide, by decide⟩) (kc_preV (wr := []) (q0 := 0) (ci := 2) hK hP hD rfl rfl) rfl rfl hl.1 rfl (lv_room (Nat.le_of_ble_eq_true rfl)) d_M_take_7 ⟨by decide, by decide⟩) hP hD hS hA (fun r u H locs hp hP hD hS => ?_)
      subst hp
      have hP : va_P D kc_cl (kc_Mw h cJ cI cX (nI (0)) (P) (La) (Co) (Mv) (M)) H := hP
      have hD : va_D A (kc_Mw h cJ cI cX (nI (0)) (P) (La) (Co) (Mv) (M)) := hD
      refine lv_if_ne (tgt := 25) hx hb d_M_take_10 (by decide) (fun hc => absurd hc (not_not_intro rfl)) (fun _ => ?_)
      refine lv_iload hx hb d_M_take_13 (lv_at hl 3 rfl) ?_
      refine lv_if_lt (tgt := 25) hx hb d_M_take_15 (by decide) (fun _ => ?_) (fun hc => absurd hc (not_not_intro hbad))
      refine lv_aload_n hx hb d_M_take_25 rfl (lv_at hl 0 rfl) ?_
      refine lv_iconst (v := nI 1) hx hb d_M_take_26 (by decide +kernel) ?_
      refine kc_goI (wr := []) (ws := kc_Mw h cJ cI cX (nI (0)) (P) (La) (Co) (Mv) (M)) (va_runV (As := [.int (nI (1))]) (rest := []) ⟨hx, hb, hml, hown, hts⟩ (c_M_fail l D h cJ cI cX (nI (0)) P La Co Mv M H.size (nI 1)) (cwV 1 hts (kc_inV kw_229 kw_231 ks_4 kw_3 kw_232) rfl rfl rfl (by decide +kernel) ⟨by decide, by decide⟩) (kc_preV (wr := []) (q0 := 0) (ci := 2) hK hP hD rfl rfl) rfl rfl hl.1 rfl (lv_room (Nat.le_of_ble_eq_true rfl)) d_M_take_27 ⟨by decide, by decide⟩) hP hD hS hA (fun r u H locs hp hP hD hS => ?_)
      subst hp
      have hP : va_P D kc_cl (kc_Mw h cJ cI cX (nI (1)) (P) (La) (Co) (Mv) (M)) H := hP
      have hD : va_D A (kc_Mw h cJ cI cX (nI (1)) (P) (La) (Co) (Mv) (M)) := hD
      exact kc_iret hx hb hr hlk () trivial hP hD hS d_M_take_30
    · refine lv_aload_n hx hb d_M_take_0 rfl (lv_at hl 0 rfl) ?_
      refine lv_iconst (v := nI 0) hx hb d_M_take_1 (by decide +kernel) ?_
      refine va_put (D := D) (ci := 2) (v := .int (nI (0))) (ty := .int) (C := R_M) (T := F_M) (N := 7) (own := R_M) hx hb hts u_M_in t_M t_M_ok n_M hown hK hP hD hS 0 rfl rfl 0 (by decide) (hts _ kw_191) (fun _ h9 => h9) rfl (by decide +kernel) rfl rfl (Nat.le_of_ble_eq_true rfl) d_M_take_2 (fun H locs hP hD hS => ?_)
      have hP : va_P D kc_cl (kc_Mw h cJ cI cX (nI (0)) (P) (La) (Co) (Mv) (M)) H := hP
      have hD : va_D A (kc_Mw h cJ cI cX (nI (0)) (P) (La) (Co) (Mv) (M)) := hD
      refine lv_aload_n hx hb d_M_take_5 rfl (lv_at hl 0 rfl) ?_
      refine lv_iload_n hx hb d_M_take_6 rfl (lv_at hl 1 rfl) ?_
      refine kc_goI (wr := []) (ws := kc_Mw h cJ cI cX (nI (0)) (P) (La) (Co) (Mv) (M)) (va_runV (As := [.int (nI (j))]) (rest := []) ⟨hx, hb, hml, hown, hts⟩ (c_M_out_v l D h cJ cI cX (nI (0)) P La Co Mv M H.size j hj) (cwV 1 hts (kc_inV kw_221 kw_223 ks_3 kw_3 kw_224) rfl rfl rfl (by decide +kernel) ⟨by decide, by decide⟩) (kc_preV (wr := []) (q0 := 0) (ci := 2) hK hP hD rfl rfl) rfl rfl hl.1 rfl (lv_room (Nat.le_of_ble_eq_true rfl)) d_M_take_7 ⟨by decide, by decide⟩) hP hD hS hA (fun r u H locs hp hP hD hS => ?_)
      subst hp
      have hP : va_P D kc_cl (kc_Mw h cJ cI cX (nI (0)) (P) (La) (Co) (Mv) (M)) H := hP
      have hD : va_D A (kc_Mw h cJ cI cX (nI (0)) (P) (La) (Co) (Mv) (M)) := hD
      refine lv_if_ne (tgt := 25) hx hb d_M_take_10 (by decide) (fun hc => absurd hc (not_not_intro rfl)) (fun _ => ?_)
      refine lv_iload hx hb d_M_take_13 (lv_at hl 3 rfl) ?_
      refine lv_if_lt (tgt := 25) hx hb d_M_take_15 (by decide) (fun hc => absurd hc (kc_ge0 (by decide) hbad)) (fun _ => ?_)
      refine lv_iload hx hb d_M_take_18 (lv_at hl 3 rfl) ?_
      refine lv_bipush (v := nI 8) hx hb d_M_take_20 (by decide +kernel) ?_
      refine lv_icmp_le (tgt := 31) hx hb d_M_take_22 (by decide) (fun hc => absurd hc (kc_gt (by decide) hbad)) (fun _ => ?_)
      refine lv_aload_n hx hb d_M_take_25 rfl (lv_at hl 0 rfl) ?_
      refine lv_iconst (v := nI 1) hx hb d_M_take_26 (by decide +kernel) ?_
      refine kc_goI (wr := []) (ws := kc_Mw h cJ cI cX (nI (0)) (P) (La) (Co) (Mv) (M)) (va_runV (As := [.int (nI (1))]) (rest := []) ⟨hx, hb, hml, hown, hts⟩ (c_M_fail l D h cJ cI cX (nI (0)) P La Co Mv M H.size (nI 1)) (cwV 1 hts (kc_inV kw_229 kw_231 ks_4 kw_3 kw_232) rfl rfl rfl (by decide +kernel) ⟨by decide, by decide⟩) (kc_preV (wr := []) (q0 := 0) (ci := 2) hK hP hD rfl rfl) rfl rfl hl.1 rfl (lv_room (Nat.le_of_ble_eq_true rfl)) d_M_take_27 ⟨by decide, by decide⟩) hP hD hS hA (fun r u H locs hp hP hD hS => ?_)
      subst hp
      have hP : va_P D kc_cl (kc_Mw h cJ cI cX (nI (1)) (P) (La) (Co) (Mv) (M)) H := hP
      have hD : va_D A (kc_Mw h cJ cI cX (nI (1)) (P) (La) (Co) (Mv) (M)) := hD
      exact kc_iret hx hb hr hlk () trivial hP hD hS d_M_take_30
set_option maxHeartbeats 4000000 in
theorem c_M_fill_x (l : Launch) (D : va_G) (h : Nat → Nat) (cJ cI cX : ClassId) (fl : Int32) (P : Nat → Int32) (La Co Mv : Nat → Int64) (M : Nat → Nat → Int64) (sz : Nat) (x y v st : Int32) (hbad : (x < 0 ∨ nI 8 ≤ x) ∨ (∃ j, j < 8 ∧ x = nI j) ∧ (y < 0 ∨ nI 2001 ≤ y)) : kc_Mi l y_M_fill w_M_fill r_M [.ref (h 0), .int x, .int v, .int st, .int y] D (kc_ty cJ cI cX) (kc_Mw h cJ cI cX fl P La Co Mv M) sz (fun _ (_ : Unit) => True) (fun _ => kc_Mw h cJ cI cX (nI 1) P La Co Mv M) 0 0 := by
  refine kc_ofWi (cc := b_M_fill) (maxL := 6) (by decide) rfl (Nat.le_of_ble_eq_true rfl) ?_
  intro p e s m below meth c A ls S hr hlk hin hK hP hD hA hl hsz
  obtain ⟨hx, hb, hml, hown, hts⟩ := S
  have hS : va_S A s.heap s.heap [] := va_S.rf
  have hl : lv_has ls 6 [(0, .ref (h 0)), (1, .int (x)), (2, .int (v)), (3, .int (st)), (4, .int (y))] := hl
  obtain ⟨H, hH⟩ : ∃ H, H = s.heap := ⟨_, rfl⟩
  obtain ⟨locs, hlo⟩ : ∃ q : List Loc, q = [] := ⟨_, rfl⟩
  rw [← hlo] at hS ⊢
  have hP : va_P D kc_cl _ H := hH ▸ hP
  have hS : va_S A s.heap H locs := by rw [hH]; exact hS
  refine (show W _ _ _ _ _ _ _ _ _ _ H _ _ _ _ _ → W _ _ _ _ _ _ _ _ _ _ s.heap _ _ _ _ _ from by rw [hH]; exact id) ?_
  clear hlo hH
  rcases hbad with hbad | ⟨⟨j, hj, rfl⟩, hbad⟩
  · refine lv_aload_n hx hb d_M_fill_0 rfl (lv_at hl 0 rfl) ?_
    refine lv_iconst (v := nI 0) hx hb d_M_fill_1 (by decide +kernel) ?_
    refine va_put (D := D) (ci := 2) (v := .int (nI (0))) (ty := .int) (C := R_M) (T := F_M) (N := 7) (own := R_M) hx hb hts u_M_in t_M t_M_ok n_M hown hK hP hD hS 0 rfl rfl 0 (by decide) (hts _ kw_191) (fun _ h9 => h9) rfl (by decide +kernel) rfl rfl (Nat.le_of_ble_eq_true rfl) d_M_fill_2 (fun H locs hP hD hS => ?_)
    have hP : va_P D kc_cl (kc_Mw h cJ cI cX (nI (0)) (P) (La) (Co) (Mv) (M)) H := hP
    have hD : va_D A (kc_Mw h cJ cI cX (nI (0)) (P) (La) (Co) (Mv) (M)) := hD
    refine lv_aload_n hx hb d_M_fill_5 rfl (lv_at hl 0 rfl) ?_
    refine lv_iload_n hx hb d_M_fill_6 rfl (lv_at hl 1 rfl) ?_
    refine kc_goI (wr := []) (ws := kc_Mw h cJ cI cX (nI (0)) (P) (La) (Co) (Mv) (M)) (va_runV (As := [.int (x)]) (rest := []) ⟨hx, hb, hml, hown, hts⟩ (c_M_out_x l D h cJ cI cX (nI (0)) P La Co Mv M H.size x hbad) (cwV 1 hts (kc_inV kw_221 kw_223 ks_3 kw_3 kw_224) rfl rfl rfl (by decide +kernel) ⟨by decide, by decide⟩) (kc_preV (wr := []) (q0 := 0) (ci := 2) hK hP hD rfl rfl) rfl rfl hl.1 rfl (lv_room (Nat.le_of_ble_eq_true rfl)) d_M_fill_7 ⟨by decide, by decide⟩) hP hD hS hA (fun r u H locs hp hP hD hS => ?_)
    subst hp
    have hP : va_P D kc_cl (kc_Mw h cJ cI cX (nI (0)) (P) (La) (Co) (Mv) (M)) H := hP
    have hD : va_D A (kc_Mw h cJ cI cX (nI (0)) (P) (La) (Co) (Mv) (M)) := hD
    refine lv_if_ne (tgt := 26) hx hb d_M_fill_10 (by decide) (fun _ => ?_) (fun hc => absurd hc (by decide))
    refine lv_aload_n hx hb d_M_fill_26 rfl (lv_at hl 0 rfl) ?_
    refine lv_iconst (v := nI 1) hx hb d_M_fill_27 (by decide +kernel) ?_
    refine kc_goI (wr := []) (ws := kc_Mw h cJ cI cX (nI (0)) (P) (La) (Co) (Mv) (M)) (va_runV (As := [.int (nI (1))]) (rest := []) ⟨hx, hb, hml, hown, hts⟩ (c_M_fail l D h cJ cI cX (nI (0)) P La Co Mv M H.size (nI 1)) (cwV 1 hts (kc_inV kw_229 kw_231 ks_4 kw_3 kw_232) rfl rfl rfl (by decide +kernel) ⟨by decide, by decide⟩) (kc_preV (wr := []) (q0 := 0) (ci := 2) hK hP hD rfl rfl) rfl rfl hl.1 rfl (lv_room (Nat.le_of_ble_eq_true rfl)) d_M_fill_28 ⟨by decide, by decide⟩) hP hD hS hA (fun r u H locs hp hP hD hS => ?_)
    subst hp
    have hP : va_P D kc_cl (kc_Mw h cJ cI cX (nI (1)) (P) (La) (Co) (Mv) (M)) H := hP
    have hD : va_D A (kc_Mw h cJ cI cX (nI (1)) (P) (La) (Co) (Mv) (M)) := hD
    exact kc_iret hx hb hr hlk () trivial hP hD hS d_M_fill_31
  · rcases hbad with hbad | hbad
    · refine lv_aload_n hx hb d_M_fill_0 rfl (lv_at hl 0 rfl) ?_
      refine lv_iconst (v := nI 0) hx hb d_M_fill_1 (by decide +kernel) ?_
      refine va_put (D := D) (ci := 2) (v := .int (nI (0))) (ty := .int) (C := R_M) (T := F_M) (N := 7) (own := R_M) hx hb hts u_M_in t_M t_M_ok n_M hown hK hP hD hS 0 rfl rfl 0 (by decide) (hts _ kw_191) (fun _ h9 => h9) rfl (by decide +kernel) rfl rfl (Nat.le_of_ble_eq_true rfl) d_M_fill_2 (fun H locs hP hD hS => ?_)
      have hP : va_P D kc_cl (kc_Mw h cJ cI cX (nI (0)) (P) (La) (Co) (Mv) (M)) H := hP
      have hD : va_D A (kc_Mw h cJ cI cX (nI (0)) (P) (La) (Co) (Mv) (M)) := hD
      refine lv_aload_n hx hb d_M_fill_5 rfl (lv_at hl 0 rfl) ?_
      refine lv_iload_n hx hb d_M_fill_6 rfl (lv_at hl 1 rfl) ?_
      refine kc_goI (wr := []) (ws := kc_Mw h cJ cI cX (nI (0)) (P) (La) (Co) (Mv) (M)) (va_runV (As := [.int (nI (j))]) (rest := []) ⟨hx, hb, hml, hown, hts⟩ (c_M_out_v l D h cJ cI cX (nI (0)) P La Co Mv M H.size j hj) (cwV 1 hts (kc_inV kw_221 kw_223 ks_3 kw_3 kw_224) rfl rfl rfl (by decide +kernel) ⟨by decide, by decide⟩) (kc_preV (wr := []) (q0 := 0) (ci := 2) hK hP hD rfl rfl) rfl rfl hl.1 rfl (lv_room (Nat.le_of_ble_eq_true rfl)) d_M_fill_7 ⟨by decide, by decide⟩) hP hD hS hA (fun r u H locs hp hP hD hS => ?_)
      subst hp
      have hP : va_P D kc_cl (kc_Mw h cJ cI cX (nI (0)) (P) (La) (Co) (Mv) (M)) H := hP
      have hD : va_D A (kc_Mw h cJ cI cX (nI (0)) (P) (La) (Co) (Mv) (M)) := hD
      refine lv_if_ne (tgt := 26) hx hb d_M_fill_10 (by decide) (fun hc => absurd hc (not_not_intro rfl)) (fun _ => ?_)
      refine lv_iload hx hb d_M_fill_13 (lv_at hl 4 rfl) ?_
      refine lv_if_lt (tgt := 26) hx hb d_M_fill_15 (by decide) (fun _ => ?_) (fun hc => absurd hc (not_not_intro hbad))
      refine lv_aload_n hx hb d_M_fill_26 rfl (lv_at hl 0 rfl) ?_
      refine lv_iconst (v := nI 1) hx hb d_M_fill_27 (by decide +kernel) ?_
      refine kc_goI (wr := []) (ws := kc_Mw h cJ cI cX (nI (0)) (P) (La) (Co) (Mv) (M)) (va_runV (As := [.int (nI (1))]) (rest := []) ⟨hx, hb, hml, hown, hts⟩ (c_M_fail l D h cJ cI cX (nI (0)) P La Co Mv M H.size (nI 1)) (cwV 1 hts (kc_inV kw_229 kw_231 ks_4 kw_3 kw_232) rfl rfl rfl (by decide +kernel) ⟨by decide, by decide⟩) (kc_preV (wr := []) (q0 := 0) (ci := 2) hK hP hD rfl rfl) rfl rfl hl.1 rfl (lv_room (Nat.le_of_ble_eq_true rfl)) d_M_fill_28 ⟨by decide, by decide⟩) hP hD hS hA (fun r u H locs hp hP hD hS => ?_)
      subst hp
      have hP : va_P D kc_cl (kc_Mw h cJ cI cX (nI (1)) (P) (La) (Co) (Mv) (M)) H := hP
      have hD : va_D A (kc_Mw h cJ cI cX (nI (1)) (P) (La) (Co) (Mv) (M)) := hD
      exact kc_iret hx hb hr hlk () trivial hP hD hS d_M_fill_31
    · refine lv_aload_n hx hb d_M_fill_0 rfl (lv_at hl 0 rfl) ?_
      refine lv_iconst (v := nI 0) hx hb d_M_fill_1 (by decide +kernel) ?_
      refine va_put (D := D) (ci := 2) (v := .int (nI (0))) (ty := .int) (C := R_M) (T := F_M) (N := 7) (own := R_M) hx hb hts u_M_in t_M t_M_ok n_M hown hK hP hD hS 0 rfl rfl 0 (by decide) (hts _ kw_191) (fun _ h9 => h9) rfl (by decide +kernel) rfl rfl (Nat.le_of_ble_eq_true rfl) d_M_fill_2 (fun H locs hP hD hS => ?_)
      have hP : va_P D kc_cl (kc_Mw h cJ cI cX (nI (0)) (P) (La) (Co) (Mv) (M)) H := hP
      have hD : va_D A (kc_Mw h cJ cI cX (nI (0)) (P) (La) (Co) (Mv) (M)) := hD
      refine lv_aload_n hx hb d_M_fill_5 rfl (lv_at hl 0 rfl) ?_
      refine lv_iload_n hx hb d_M_fill_6 rfl (lv_at hl 1 rfl) ?_
      refine kc_goI (wr := []) (ws := kc_Mw h cJ cI cX (nI (0)) (P) (La) (Co) (Mv) (M)) (va_runV (As := [.int (nI (j))]) (rest := []) ⟨hx, hb, hml, hown, hts⟩ (c_M_out_v l D h cJ cI cX (nI (0)) P La Co Mv M H.size j hj) (cwV 1 hts (kc_inV kw_221 kw_223 ks_3 kw_3 kw_224) rfl rfl rfl (by decide +kernel) ⟨by decide, by decide⟩) (kc_preV (wr := []) (q0 := 0) (ci := 2) hK hP hD rfl rfl) rfl rfl hl.1 rfl (lv_room (Nat.le_of_ble_eq_true rfl)) d_M_fill_7 ⟨by decide, by decide⟩) hP hD hS hA (fun r u H locs hp hP hD hS => ?_)
      subst hp
      have hP : va_P D kc_cl (kc_Mw h cJ cI cX (nI (0)) (P) (La) (Co) (Mv) (M)) H := hP
      have hD : va_D A (kc_Mw h cJ cI cX (nI (0)) (P) (La) (Co) (Mv) (M)) := hD
      refine lv_if_ne (tgt := 26) hx hb d_M_fill_10 (by decide) (fun hc => absurd hc (not_not_intro rfl)) (fun _ => ?_)
      refine lv_iload hx hb d_M_fill_13 (lv_at hl 4 rfl) ?_
      refine lv_if_lt (tgt := 26) hx hb d_M_fill_15 (by decide) (fun hc => absurd hc (kc_ge0 (by decide) hbad)) (fun _ => ?_)
      refine lv_iload hx hb d_M_fill_18 (lv_at hl 4 rfl) ?_
      refine lv_sipush (v := nI 2000) hx hb d_M_fill_20 (by decide +kernel) ?_
      refine lv_icmp_le (tgt := 32) hx hb d_M_fill_23 (by decide) (fun hc => absurd hc (kc_gt (by decide) hbad)) (fun _ => ?_)
      refine lv_aload_n hx hb d_M_fill_26 rfl (lv_at hl 0 rfl) ?_
      refine lv_iconst (v := nI 1) hx hb d_M_fill_27 (by decide +kernel) ?_
      refine kc_goI (wr := []) (ws := kc_Mw h cJ cI cX (nI (0)) (P) (La) (Co) (Mv) (M)) (va_runV (As := [.int (nI (1))]) (rest := []) ⟨hx, hb, hml, hown, hts⟩ (c_M_fail l D h cJ cI cX (nI (0)) P La Co Mv M H.size (nI 1)) (cwV 1 hts (kc_inV kw_229 kw_231 ks_4 kw_3 kw_232) rfl rfl rfl (by decide +kernel) ⟨by decide, by decide⟩) (kc_preV (wr := []) (q0 := 0) (ci := 2) hK hP hD rfl rfl) rfl rfl hl.1 rfl (lv_room (Nat.le_of_ble_eq_true rfl)) d_M_fill_28 ⟨by decide, by decide⟩) hP hD hS hA (fun r u H locs hp hP hD hS => ?_)
      subst hp
      have hP : va_P D kc_cl (kc_Mw h cJ cI cX (nI (1)) (P) (La) (Co) (Mv) (M)) H := hP
      have hD : va_D A (kc_Mw h cJ cI cX (nI (1)) (P) (La) (Co) (Mv) (M)) := hD
      exact kc_iret hx hb hr hlk () trivial hP hD hS d_M_fill_31
section MDG
variable {p : Program} {l : Launch} {e : Env} {R : Room} {s : State} {m : MethodId} {args : Array Value} {below : List Frame} {meth : Method} {c : Code} {Q : State → Prop} {D : va_G} {A : Nat → Prop} {h : Nat → Nat} {cJ cI cX : ClassId} {fl : Int32} {cells slots : Nat}
set_option maxHeartbeats 4000000 in
theorem M_digest_L (S : CallFix p m c b_M_digest 7 s args kc_tbl R_M) (hK : va_K D kc_cl (kc_ty cJ cI cX) s) {P : Nat → Int32} {La Co Mv : Nat → Int64} {M : Nat → Nat → Int64} {i : Nat} (hi : i < 4) (n : Nat) : ∀ (k : Nat) (H : Heap) (locs : List Loc) (ls : Array Slot) , k + n = 8 → lv_has ls 7 [(6, .int (nI (k))), (4, .long (kc_dig (La i) k)), (0, .ref (h 0)), (2, .int (nI (i)))] → kc_at D A s.heap H locs (kc_Mw h cJ cI cX (fl) (P) (La) (Co) (Mv) (M)) → (∀ (H : Heap) (locs : List Loc) (ls : Array Slot) , lv_has ls 7 [(6, .int (nI (8))), (4, .long (kc_dig (La i) 8)), (0, .ref (h 0)), (2, .int (nI (i)))] → kc_at D A s.heap H locs (kc_Mw h cJ cI cX (fl) (P) (La) (Co) (Mv) (M)) → W p l e R s m args below meth c H locs cells slots Q (F0 m 122 ls [])) → W p l e R s m args below meth c H locs cells slots Q (F0 m 85 ls []) := by
  obtain ⟨hx, hb, hml, hown, hts⟩ := S
  induction n with
  | zero =>
    intro k H locs ls  hn hl hw  K
    obtain ⟨hP, hD, hS⟩ := hw
    obtain rfl : k = 8 := by omega
    refine lv_iload hx hb d_M_digest_85 (lv_at hl 0 rfl) ?_
    refine lv_bipush (v := nI 8) hx hb d_M_digest_87 (by decide +kernel) ?_
    refine kn_ge (tgt := 122) hx hb (by omega) (by omega) d_M_digest_89 (by decide) (fun _ => ?_) (fun hc => absurd hc (by omega))
    exact K H locs ls  hl ⟨hP, hD, hS⟩ 
  | succ n ih =>
    intro k H locs ls  hn hl hw  K
    obtain ⟨hP, hD, hS⟩ := hw
    refine lv_iload hx hb d_M_digest_85 (lv_at hl 0 rfl) ?_
    refine lv_bipush (v := nI 8) hx hb d_M_digest_87 (by decide +kernel) ?_
    refine kn_ge (tgt := 122) hx hb (by omega) (by omega) d_M_digest_89 (by decide) (fun hc => absurd hc (by omega)) (fun _ => ?_)
    refine lv_lload hx hb d_M_digest_92 (lv_at hl 1 rfl) ?_
    refine lv_bipush (v := nI 8) hx hb d_M_digest_94 (by decide +kernel) ?_
    refine lv_lshl hx hb d_M_digest_96 rfl ?_
    refine lv_aload_n hx hb d_M_digest_97 rfl (lv_at hl 2 rfl) ?_
    refine kg_M hx hb hts hown hK hP 0 rfl 3 (by decide) kw_194 (v := .ref (h 3)) rfl d_M_digest_98 ?_
    refine lv_iload_n hx hb d_M_digest_101 rfl (lv_at hl 3 rfl) ?_
    refine ka_lald (f := La) hx hb hK hP 3 0 rfl rfl (i := i) (by omega) (by decide) d_M_digest_102 ?_
    refine lv_bipush (v := nI 8) hx hb d_M_digest_103 (by decide +kernel) ?_
    refine lv_iload hx hb d_M_digest_105 (lv_at hl 0 rfl) ?_
    refine kn_mul hx hb d_M_digest_107 ?_
    refine lv_lushr hx hb d_M_digest_108 rfl ?_
    refine lv_ldc2 (v := (255)) hx hb hown (hts _ kw_274) d_M_digest_109 ?_
    refine lv_land hx hb d_M_digest_112 ?_
    refine lv_lor hx hb d_M_digest_113 ?_
    refine kv_l (y := (kc_dig (La i) (k + 1))) (rfl) ?_
    refine lv_lstore hx hb d_M_digest_114 hl (by decide) rfl (fun ls hl => ?_)
    have hl : lv_has ls 7 [(4, .long (kc_dig (La i) (k + 1))), (6, .int (nI (k))), (0, .ref (h 0)), (2, .int (nI (i)))] := hl
    refine lv_iinc (k := 1) hx hb d_M_digest_116 hl rfl (kn_i1 _) (by decide) rfl (fun ls hl => ?_)
    have hl : lv_has ls 7 [(6, .int (nI (k + 1))), (4, .long (kc_dig (La i) (k + 1))), (0, .ref (h 0)), (2, .int (nI (i)))] := hl
    refine lv_goto (tgt := 85) hx hb d_M_digest_119 (by decide) ?_
    have hl : lv_has ls 7 [(6, .int (nI (k + 1))), (4, .long (kc_dig (La i) (k + 1))), (0, .ref (h 0)), (2, .int (nI (i)))] := lv_sub hl [0, 1, 2, 3] rfl
    exact ih (k + 1) H locs ls (by omega) hl ⟨hP, hD, hS⟩ K
end MDG
set_option maxHeartbeats 4000000 in
theorem c_M_digest_v (l : Launch) (D : va_G) (h : Nat → Nat) (cJ cI cX : ClassId) (fl : Int32) (P : Nat → Int32) (La Co Mv : Nat → Int64) (M : Nat → Nat → Int64) (sz : Nat) (j i pp : Nat) (hj : j < 8) (hi : i < 4) (hpp : P j = nI pp) (hlt : pp < 136) : kc_Ml l y_M_digest w_M_digest r_M [.ref (h 0), .int (nI j), .int (nI i)] D (kc_ty cJ cI cX) (kc_Mw h cJ cI cX fl P La Co Mv M) sz (fun r (_ : (Nat → Int64) × (Nat → Int64) × (Nat → Int64)) => r = kc_dig (kc_perm 24 (kc_pad (M j) pp) i) 8) (fun u => kc_Mw h cJ cI cX (nI 0) P u.1 u.2.1 u.2.2 M) 0 0 := by
  refine kc_ofWl (cc := b_M_digest) (maxL := 7) (by decide) rfl (Nat.le_of_ble_eq_true rfl) ?_
  intro p e s m below meth c A ls S hr hlk hin hK hP hD hA hl hsz
  obtain ⟨hx, hb, hml, hown, hts⟩ := S
  have hS : va_S A s.heap s.heap [] := va_S.rf
  have hl : lv_has ls 7 [(0, .ref (h 0)), (1, .int (nI (j))), (2, .int (nI (i)))] := hl
  obtain ⟨H, hH⟩ : ∃ H, H = s.heap := ⟨_, rfl⟩
  obtain ⟨locs, hlo⟩ : ∃ q : List Loc, q = [] := ⟨_, rfl⟩
  rw [← hlo] at hS ⊢
  have hP : va_P D kc_cl _ H := hH ▸ hP
  have hS : va_S A s.heap H locs := by rw [hH]; exact hS
  refine (show W _ _ _ _ _ _ _ _ _ _ H _ _ _ _ _ → W _ _ _ _ _ _ _ _ _ _ s.heap _ _ _ _ _ from by rw [hH]; exact id) ?_
  clear hlo hH
  refine lv_aload_n hx hb d_M_digest_0 rfl (lv_at hl 0 rfl) ?_
  refine lv_iconst (v := nI 0) hx hb d_M_digest_1 (by decide +kernel) ?_
  refine va_put (D := D) (ci := 2) (v := .int (nI (0))) (ty := .int) (C := R_M) (T := F_M) (N := 7) (own := R_M) hx hb hts u_M_in t_M t_M_ok n_M hown hK hP hD hS 0 rfl rfl 0 (by decide) (hts _ kw_191) (fun _ h9 => h9) rfl (by decide +kernel) rfl rfl (Nat.le_of_ble_eq_true rfl) d_M_digest_2 (fun H locs hP hD hS => ?_)
  have hP : va_P D kc_cl (kc_Mw h cJ cI cX (nI (0)) (P) (La) (Co) (Mv) (M)) H := hP
  have hD : va_D A (kc_Mw h cJ cI cX (nI (0)) (P) (La) (Co) (Mv) (M)) := hD
  refine lv_aload_n hx hb d_M_digest_5 rfl (lv_at hl 0 rfl) ?_
  refine lv_iload_n hx hb d_M_digest_6 rfl (lv_at hl 1 rfl) ?_
  refine kc_goI (wr := []) (ws := kc_Mw h cJ cI cX (nI (0)) (P) (La) (Co) (Mv) (M)) (va_runV (As := [.int (nI (j))]) (rest := []) ⟨hx, hb, hml, hown, hts⟩ (c_M_out_v l D h cJ cI cX (nI (0)) P La Co Mv M H.size j hj) (cwV 1 hts (kc_inV kw_221 kw_223 ks_3 kw_3 kw_224) rfl rfl rfl (by decide +kernel) ⟨by decide, by decide⟩) (kc_preV (wr := []) (q0 := 0) (ci := 2) hK hP hD rfl rfl) rfl rfl hl.1 rfl (lv_room (Nat.le_of_ble_eq_true rfl)) d_M_digest_7 ⟨by decide, by decide⟩) hP hD hS hA (fun r u H locs hp hP hD hS => ?_)
  subst hp
  have hP : va_P D kc_cl (kc_Mw h cJ cI cX (nI (0)) (P) (La) (Co) (Mv) (M)) H := hP
  have hD : va_D A (kc_Mw h cJ cI cX (nI (0)) (P) (La) (Co) (Mv) (M)) := hD
  refine lv_if_ne (tgt := 22) hx hb d_M_digest_10 (by decide) (fun hc => absurd hc (not_not_intro rfl)) (fun _ => ?_)
  refine lv_iload_n hx hb d_M_digest_13 rfl (lv_at hl 2 rfl) ?_
  refine kn_iflt (tgt := 22) hx hb (by omega) d_M_digest_14 (by decide) ?_
  refine lv_iload_n hx hb d_M_digest_17 rfl (lv_at hl 2 rfl) ?_
  refine lv_iconst (v := nI 3) hx hb d_M_digest_18 (by decide +kernel) ?_
  refine kn_le (tgt := 29) hx hb (by omega) (by omega) d_M_digest_19 (by decide) (fun _ => ?_) (fun hc => absurd hc (by omega))
  refine lv_aload_n hx hb d_M_digest_29 rfl (lv_at hl 0 rfl) ?_
  refine lv_iload_n hx hb d_M_digest_30 rfl (lv_at hl 1 rfl) ?_
  refine kc_goV (wr := []) (ws := kc_Mw h cJ cI cX (nI (0)) (P) (La) (Co) (Mv) (M)) (va_runV (As := [.int (nI (j))]) (rest := []) ⟨hx, hb, hml, hown, hts⟩ (c_M_get l D h cJ cI cX (nI (0)) P La Co Mv M H.size j hj) (cwV 1 hts (kc_inV kw_233 kw_235 ks_5 kw_3 kw_236) rfl rfl rfl (by decide +kernel) ⟨by decide, by decide⟩) (kc_preV (wr := []) (q0 := 0) (ci := 2) hK hP hD rfl rfl) rfl rfl hl.1 rfl (lv_room (Nat.le_of_ble_eq_true rfl)) d_M_digest_31 ⟨by decide, by decide⟩) hP hD hS hA (fun u H locs hp hP hD hS => ?_)
  obtain ⟨g1, e_g1⟩ : ∃ z, z = u := ⟨_, rfl⟩
  rw [← e_g1] at hp hP hD
  have hP : va_P D kc_cl (kc_Mw h cJ cI cX (nI (0)) (P) (g1) (Co) (Mv) (M)) H := hP
  have hD : va_D A (kc_Mw h cJ cI cX (nI (0)) (P) (g1) (Co) (Mv) (M)) := hD
  have hg1 : kc_eq g1 (M j) := hp
  refine lv_aload_n hx hb d_M_digest_34 rfl (lv_at hl 0 rfl) ?_
  refine kg_M hx hb hts hown hK hP 0 rfl 2 (by decide) kw_193 (v := .ref (h 2)) rfl d_M_digest_35 ?_
  refine lv_iload_n hx hb d_M_digest_38 rfl (lv_at hl 1 rfl) ?_
  refine ka_iald (f := P) hx hb hK hP 2 1 rfl rfl (i := j) (by omega) (by decide) d_M_digest_39 ?_
  refine kv_i (y := (nI (pp))) (hpp) ?_
  refine lv_istore_n hx hb d_M_digest_40 rfl hl (by decide) rfl (fun ls hl => ?_)
  have hl : lv_has ls 7 [(3, .int (nI (pp))), (0, .ref (h 0)), (1, .int (nI (j))), (2, .int (nI (i)))] := hl
  refine lv_aload_n hx hb d_M_digest_41 rfl (lv_at hl 1 rfl) ?_
  refine kg_M hx hb hts hown hK hP 0 rfl 3 (by decide) kw_194 (v := .ref (h 3)) rfl d_M_digest_42 ?_
  refine lv_iload_n hx hb d_M_digest_45 rfl (lv_at hl 0 rfl) ?_
  refine lv_bipush (v := nI 8) hx hb d_M_digest_46 (by decide +kernel) ?_
  refine kn_div hx hb (by omega) (by decide) (by decide) d_M_digest_48 ?_
  refine lv_dup2_11 hx hb d_M_digest_49 rfl rfl ?_
  refine ka_lald (f := g1) hx hb hK hP 3 0 rfl rfl (i := pp / 8) (by omega) (by decide) d_M_digest_50 ?_
  refine lv_lconst (v := 1) hx hb d_M_digest_51 (by decide +kernel) ?_
  refine lv_bipush (v := nI 8) hx hb d_M_digest_52 (by decide +kernel) ?_
  refine lv_iload_n hx hb d_M_digest_54 rfl (lv_at hl 0 rfl) ?_
  refine lv_bipush (v := nI 8) hx hb d_M_digest_55 (by decide +kernel) ?_
  refine kn_rem hx hb (by omega) (by decide) (by decide) d_M_digest_57 ?_
  refine kn_mul hx hb d_M_digest_58 ?_
  refine lv_lshl hx hb d_M_digest_59 rfl ?_
  refine lv_lxor hx hb d_M_digest_60 ?_
  refine lv_topl (fun v1 e_v1 => ?_)
  refine ka_last (f := g1) hx hb hK hP hD hS 3 0 rfl rfl (i := pp / 8) (by omega) (by decide) d_M_digest_61 (fun H locs hP hD hS => ?_)
  have hP : va_P D kc_cl (kc_Mw h cJ cI cX (nI (0)) (P) (vp_updL g1 (pp / 8) (v1)) (Co) (Mv) (M)) H := hP
  have hD : va_D A (kc_Mw h cJ cI cX (nI (0)) (P) (vp_updL g1 (pp / 8) (v1)) (Co) (Mv) (M)) := hD
  have hby : vp_updL g1 (pp / 8) v1 = kc_byte g1 pp 1 := kc_byte_upd (by rw [e_v1])
  rw [hby] at hP hD
  have hP : va_P D kc_cl (kc_Mw h cJ cI cX (nI (0)) (P) (kc_byte g1 pp 1) (Co) (Mv) (M)) H := hP
  have hD : va_D A (kc_Mw h cJ cI cX (nI (0)) (P) (kc_byte g1 pp 1) (Co) (Mv) (M)) := hD
  refine lv_aload_n hx hb d_M_digest_62 rfl (lv_at hl 1 rfl) ?_
  refine kg_M hx hb hts hown hK hP 0 rfl 3 (by decide) kw_194 (v := .ref (h 3)) rfl d_M_digest_63 ?_
  refine lv_bipush (v := nI 16) hx hb d_M_digest_66 (by decide +kernel) ?_
  refine lv_dup2_11 hx hb d_M_digest_68 rfl rfl ?_
  refine ka_lald (f := kc_byte g1 pp 1) hx hb hK hP 3 0 rfl rfl (i := 16) (by omega) (by decide) d_M_digest_69 ?_
  refine lv_ldc2 (v := (-9223372036854775808)) hx hb hown (hts _ kw_273) d_M_digest_70 ?_
  refine lv_lxor hx hb d_M_digest_73 ?_
  refine lv_topl (fun v2 e_v2 => ?_)
  refine ka_last (f := kc_byte g1 pp 1) hx hb hK hP hD hS 3 0 rfl rfl (i := 16) (by omega) (by decide) d_M_digest_74 (fun H locs hP hD hS => ?_)
  have hP : va_P D kc_cl (kc_Mw h cJ cI cX (nI (0)) (P) (vp_updL (kc_byte g1 pp 1) (16) (v2)) (Co) (Mv) (M)) H := hP
  have hD : va_D A (kc_Mw h cJ cI cX (nI (0)) (P) (vp_updL (kc_byte g1 pp 1) (16) (v2)) (Co) (Mv) (M)) := hD
  have hpd : vp_updL (kc_byte g1 pp 1) 16 v2 = kc_pad g1 pp := by funext c; unfold kc_pad vp_updL; by_cases hc : c = 16; (rw [if_pos hc, if_pos hc, e_v2, hc]); (rw [if_neg hc, if_neg hc])
  rw [hpd] at hP hD
  have hP : va_P D kc_cl (kc_Mw h cJ cI cX (nI (0)) (P) (kc_pad g1 pp) (Co) (Mv) (M)) H := hP
  have hD : va_D A (kc_Mw h cJ cI cX (nI (0)) (P) (kc_pad g1 pp) (Co) (Mv) (M)) := hD
  refine lv_aload_n hx hb d_M_digest_75 rfl (lv_at hl 1 rfl) ?_
  refine kc_goV (wr := []) (ws := kc_Mw h cJ cI cX (nI (0)) (P) (kc_pad g1 pp) (Co) (Mv) (M)) (va_runV (As := []) (rest := []) ⟨hx, hb, hml, hown, hts⟩ (c_M_permute l D h cJ cI cX (nI (0)) P (kc_pad g1 pp) Co Mv M H.size ) (cwV 0 hts (kc_inV kw_241 kw_243 ks_7 kw_3 kw_244) rfl rfl rfl (by decide +kernel) ⟨by decide, by decide⟩) (kc_preV (wr := []) (q0 := 0) (ci := 2) hK hP hD rfl rfl) rfl rfl hl.1 rfl (lv_room (Nat.le_of_ble_eq_true rfl)) d_M_digest_76 ⟨by decide, by decide⟩) hP hD hS hA (fun u H locs hp hP hD hS => ?_)
  obtain ⟨La1, Co1, Mv1⟩ := u
  have hP : va_P D kc_cl (kc_Mw h cJ cI cX (nI (0)) (P) (La1) (Co1) (Mv1) (M)) H := hP
  have hD : va_D A (kc_Mw h cJ cI cX (nI (0)) (P) (La1) (Co1) (Mv1) (M)) := hD
  have hpm : kc_eq La1 (kc_perm 24 (kc_pad g1 pp)) := hp
  refine lv_lconst (v := 0) hx hb d_M_digest_79 (by decide +kernel) ?_
  refine lv_lstore hx hb d_M_digest_80 hl (by decide) rfl (fun ls hl => ?_)
  have hl : lv_has ls 7 [(4, .long ((0 : Int64))), (3, .int (nI (pp))), (0, .ref (h 0)), (1, .int (nI (j))), (2, .int (nI (i)))] := hl
  refine lv_iconst (v := nI 0) hx hb d_M_digest_82 (by decide +kernel) ?_
  refine lv_istore hx hb d_M_digest_83 hl (by decide) rfl (fun ls hl => ?_)
  have hl : lv_has ls 7 [(6, .int (nI (0))), (4, .long ((0 : Int64))), (3, .int (nI (pp))), (0, .ref (h 0)), (1, .int (nI (j))), (2, .int (nI (i)))] := hl
  have hl : lv_has ls 7 [(6, .int (nI (0))), (4, .long (kc_dig (La1 i) 0)), (0, .ref (h 0)), (2, .int (nI (i)))] := lv_sub hl [0, 1, 3, 5] rfl
  refine M_digest_L ⟨hx, hb, hml, hown, hts⟩ hK hi 8 0 H locs ls (by omega) hl ⟨hP, hD, hS⟩ (fun H locs ls hl hw => ?_)
  obtain ⟨hP, hD, hS⟩ := hw
  refine lv_lload hx hb d_M_digest_122 (lv_at hl 1 rfl) ?_
  exact kc_lret hx hb hr hlk (La1, Co1, Mv1) (by rw [(hpm.trans (kc_eq_perm (kc_eq_pad hg1 pp) 24)) i (by omega)]) hP hD hS d_M_digest_124
set_option maxHeartbeats 4000000 in
theorem c_M_digest_x (l : Launch) (D : va_G) (h : Nat → Nat) (cJ cI cX : ClassId) (fl : Int32) (P : Nat → Int32) (La Co Mv : Nat → Int64) (M : Nat → Nat → Int64) (sz : Nat) (x y : Int32) (hbad : (x < 0 ∨ nI 8 ≤ x) ∨ (∃ j, j < 8 ∧ x = nI j) ∧ (y < 0 ∨ nI 4 ≤ y)) : kc_Ml l y_M_digest w_M_digest r_M [.ref (h 0), .int x, .int y] D (kc_ty cJ cI cX) (kc_Mw h cJ cI cX fl P La Co Mv M) sz (fun _ (_ : Unit) => True) (fun _ => kc_Mw h cJ cI cX (nI 1) P La Co Mv M) 0 0 := by
  refine kc_ofWl (cc := b_M_digest) (maxL := 7) (by decide) rfl (Nat.le_of_ble_eq_true rfl) ?_
  intro p e s m below meth c A ls S hr hlk hin hK hP hD hA hl hsz
  obtain ⟨hx, hb, hml, hown, hts⟩ := S
  have hS : va_S A s.heap s.heap [] := va_S.rf
  have hl : lv_has ls 7 [(0, .ref (h 0)), (1, .int (x)), (2, .int (y))] := hl
  obtain ⟨H, hH⟩ : ∃ H, H = s.heap := ⟨_, rfl⟩
  obtain ⟨locs, hlo⟩ : ∃ q : List Loc, q = [] := ⟨_, rfl⟩
  rw [← hlo] at hS ⊢
  have hP : va_P D kc_cl _ H := hH ▸ hP
  have hS : va_S A s.heap H locs := by rw [hH]; exact hS
  refine (show W _ _ _ _ _ _ _ _ _ _ H _ _ _ _ _ → W _ _ _ _ _ _ _ _ _ _ s.heap _ _ _ _ _ from by rw [hH]; exact id) ?_
  clear hlo hH
  rcases hbad with hbad | ⟨⟨j, hj, rfl⟩, hbad⟩
  · refine lv_aload_n hx hb d_M_digest_0 rfl (lv_at hl 0 rfl) ?_
    refine lv_iconst (v := nI 0) hx hb d_M_digest_1 (by decide +kernel) ?_
    refine va_put (D := D) (ci := 2) (v := .int (nI (0))) (ty := .int) (C := R_M) (T := F_M) (N := 7) (own := R_M) hx hb hts u_M_in t_M t_M_ok n_M hown hK hP hD hS 0 rfl rfl 0 (by decide) (hts _ kw_191) (fun _ h9 => h9) rfl (by decide +kernel) rfl rfl (Nat.le_of_ble_eq_true rfl) d_M_digest_2 (fun H locs hP hD hS => ?_)
    have hP : va_P D kc_cl (kc_Mw h cJ cI cX (nI (0)) (P) (La) (Co) (Mv) (M)) H := hP
    have hD : va_D A (kc_Mw h cJ cI cX (nI (0)) (P) (La) (Co) (Mv) (M)) := hD
    refine lv_aload_n hx hb d_M_digest_5 rfl (lv_at hl 0 rfl) ?_
    refine lv_iload_n hx hb d_M_digest_6 rfl (lv_at hl 1 rfl) ?_
    refine kc_goI (wr := []) (ws := kc_Mw h cJ cI cX (nI (0)) (P) (La) (Co) (Mv) (M)) (va_runV (As := [.int (x)]) (rest := []) ⟨hx, hb, hml, hown, hts⟩ (c_M_out_x l D h cJ cI cX (nI (0)) P La Co Mv M H.size x hbad) (cwV 1 hts (kc_inV kw_221 kw_223 ks_3 kw_3 kw_224) rfl rfl rfl (by decide +kernel) ⟨by decide, by decide⟩) (kc_preV (wr := []) (q0 := 0) (ci := 2) hK hP hD rfl rfl) rfl rfl hl.1 rfl (lv_room (Nat.le_of_ble_eq_true rfl)) d_M_digest_7 ⟨by decide, by decide⟩) hP hD hS hA (fun r u H locs hp hP hD hS => ?_)
    subst hp
    have hP : va_P D kc_cl (kc_Mw h cJ cI cX (nI (0)) (P) (La) (Co) (Mv) (M)) H := hP
    have hD : va_D A (kc_Mw h cJ cI cX (nI (0)) (P) (La) (Co) (Mv) (M)) := hD
    refine lv_if_ne (tgt := 22) hx hb d_M_digest_10 (by decide) (fun _ => ?_) (fun hc => absurd hc (by decide))
    refine lv_aload_n hx hb d_M_digest_22 rfl (lv_at hl 0 rfl) ?_
    refine lv_iconst (v := nI 1) hx hb d_M_digest_23 (by decide +kernel) ?_
    refine kc_goI (wr := []) (ws := kc_Mw h cJ cI cX (nI (0)) (P) (La) (Co) (Mv) (M)) (va_runV (As := [.int (nI (1))]) (rest := []) ⟨hx, hb, hml, hown, hts⟩ (c_M_fail l D h cJ cI cX (nI (0)) P La Co Mv M H.size (nI 1)) (cwV 1 hts (kc_inV kw_229 kw_231 ks_4 kw_3 kw_232) rfl rfl rfl (by decide +kernel) ⟨by decide, by decide⟩) (kc_preV (wr := []) (q0 := 0) (ci := 2) hK hP hD rfl rfl) rfl rfl hl.1 rfl (lv_room (Nat.le_of_ble_eq_true rfl)) d_M_digest_24 ⟨by decide, by decide⟩) hP hD hS hA (fun r u H locs hp hP hD hS => ?_)
    subst hp
    have hP : va_P D kc_cl (kc_Mw h cJ cI cX (nI (1)) (P) (La) (Co) (Mv) (M)) H := hP
    have hD : va_D A (kc_Mw h cJ cI cX (nI (1)) (P) (La) (Co) (Mv) (M)) := hD
    refine lv_i2l hx hb d_M_digest_27 rfl ?_
    exact kc_lret hx hb hr hlk () trivial hP hD hS d_M_digest_28
  · rcases hbad with hbad | hbad
    · refine lv_aload_n hx hb d_M_digest_0 rfl (lv_at hl 0 rfl) ?_
      refine lv_iconst (v := nI 0) hx hb d_M_digest_1 (by decide +kernel) ?_
      refine va_put (D := D) (ci := 2) (v := .int (nI (0))) (ty := .int) (C := R_M) (T := F_M) (N := 7) (own := R_M) hx hb hts u_M_in t_M t_M_ok n_M hown hK hP hD hS 0 rfl rfl 0 (by decide) (hts _ kw_191) (fun _ h9 => h9) rfl (by decide +kernel) rfl rfl (Nat.le_of_ble_eq_true rfl) d_M_digest_2 (fun H locs hP hD hS => ?_)
      have hP : va_P D kc_cl (kc_Mw h cJ cI cX (nI (0)) (P) (La) (Co) (Mv) (M)) H := hP
      have hD : va_D A (kc_Mw h cJ cI cX (nI (0)) (P) (La) (Co) (Mv) (M)) := hD
      refine lv_aload_n hx hb d_M_digest_5 rfl (lv_at hl 0 rfl) ?_
      refine lv_iload_n hx hb d_M_digest_6 rfl (lv_at hl 1 rfl) ?_
      refine kc_goI (wr := []) (ws := kc_Mw h cJ cI cX (nI (0)) (P) (La) (Co) (Mv) (M)) (va_runV (As := [.int (nI (j))]) (rest := []) ⟨hx, hb, hml, hown, hts⟩ (c_M_out_v l D h cJ cI cX (nI (0)) P La Co Mv M H.size j hj) (cwV 1 hts (kc_inV kw_221 kw_223 ks_3 kw_3 kw_224) rfl rfl rfl (by decide +kernel) ⟨by decide, by decide⟩) (kc_preV (wr := []) (q0 := 0) (ci := 2) hK hP hD rfl rfl) rfl rfl hl.1 rfl (lv_room (Nat.le_of_ble_eq_true rfl)) d_M_digest_7 ⟨by decide, by decide⟩) hP hD hS hA (fun r u H locs hp hP hD hS => ?_)
      subst hp
      have hP : va_P D kc_cl (kc_Mw h cJ cI cX (nI (0)) (P) (La) (Co) (Mv) (M)) H := hP
      have hD : va_D A (kc_Mw h cJ cI cX (nI (0)) (P) (La) (Co) (Mv) (M)) := hD
      refine lv_if_ne (tgt := 22) hx hb d_M_digest_10 (by decide) (fun hc => absurd hc (not_not_intro rfl)) (fun _ => ?_)
      refine lv_iload_n hx hb d_M_digest_13 rfl (lv_at hl 2 rfl) ?_
      refine lv_if_lt (tgt := 22) hx hb d_M_digest_14 (by decide) (fun _ => ?_) (fun hc => absurd hc (not_not_intro hbad))
      refine lv_aload_n hx hb d_M_digest_22 rfl (lv_at hl 0 rfl) ?_
      refine lv_iconst (v := nI 1) hx hb d_M_digest_23 (by decide +kernel) ?_
      refine kc_goI (wr := []) (ws := kc_Mw h cJ cI cX (nI (0)) (P) (La) (Co) (Mv) (M)) (va_runV (As := [.int (nI (1))]) (rest := []) ⟨hx, hb, hml, hown, hts⟩ (c_M_fail l D h cJ cI cX (nI (0)) P La Co Mv M H.size (nI 1)) (cwV 1 hts (kc_inV kw_229 kw_231 ks_4 kw_3 kw_232) rfl rfl rfl (by decide +kernel) ⟨by decide, by decide⟩) (kc_preV (wr := []) (q0 := 0) (ci := 2) hK hP hD rfl rfl) rfl rfl hl.1 rfl (lv_room (Nat.le_of_ble_eq_true rfl)) d_M_digest_24 ⟨by decide, by decide⟩) hP hD hS hA (fun r u H locs hp hP hD hS => ?_)
      subst hp
      have hP : va_P D kc_cl (kc_Mw h cJ cI cX (nI (1)) (P) (La) (Co) (Mv) (M)) H := hP
      have hD : va_D A (kc_Mw h cJ cI cX (nI (1)) (P) (La) (Co) (Mv) (M)) := hD
      refine lv_i2l hx hb d_M_digest_27 rfl ?_
      exact kc_lret hx hb hr hlk () trivial hP hD hS d_M_digest_28
    · refine lv_aload_n hx hb d_M_digest_0 rfl (lv_at hl 0 rfl) ?_
      refine lv_iconst (v := nI 0) hx hb d_M_digest_1 (by decide +kernel) ?_
      refine va_put (D := D) (ci := 2) (v := .int (nI (0))) (ty := .int) (C := R_M) (T := F_M) (N := 7) (own := R_M) hx hb hts u_M_in t_M t_M_ok n_M hown hK hP hD hS 0 rfl rfl 0 (by decide) (hts _ kw_191) (fun _ h9 => h9) rfl (by decide +kernel) rfl rfl (Nat.le_of_ble_eq_true rfl) d_M_digest_2 (fun H locs hP hD hS => ?_)
      have hP : va_P D kc_cl (kc_Mw h cJ cI cX (nI (0)) (P) (La) (Co) (Mv) (M)) H := hP
      have hD : va_D A (kc_Mw h cJ cI cX (nI (0)) (P) (La) (Co) (Mv) (M)) := hD
      refine lv_aload_n hx hb d_M_digest_5 rfl (lv_at hl 0 rfl) ?_
      refine lv_iload_n hx hb d_M_digest_6 rfl (lv_at hl 1 rfl) ?_
      refine kc_goI (wr := []) (ws := kc_Mw h cJ cI cX (nI (0)) (P) (La) (Co) (Mv) (M)) (va_runV (As := [.int (nI (j))]) (rest := []) ⟨hx, hb, hml, hown, hts⟩ (c_M_out_v l D h cJ cI cX (nI (0)) P La Co Mv M H.size j hj) (cwV 1 hts (kc_inV kw_221 kw_223 ks_3 kw_3 kw_224) rfl rfl rfl (by decide +kernel) ⟨by decide, by decide⟩) (kc_preV (wr := []) (q0 := 0) (ci := 2) hK hP hD rfl rfl) rfl rfl hl.1 rfl (lv_room (Nat.le_of_ble_eq_true rfl)) d_M_digest_7 ⟨by decide, by decide⟩) hP hD hS hA (fun r u H locs hp hP hD hS => ?_)
      subst hp
      have hP : va_P D kc_cl (kc_Mw h cJ cI cX (nI (0)) (P) (La) (Co) (Mv) (M)) H := hP
      have hD : va_D A (kc_Mw h cJ cI cX (nI (0)) (P) (La) (Co) (Mv) (M)) := hD
      refine lv_if_ne (tgt := 22) hx hb d_M_digest_10 (by decide) (fun hc => absurd hc (not_not_intro rfl)) (fun _ => ?_)
      refine lv_iload_n hx hb d_M_digest_13 rfl (lv_at hl 2 rfl) ?_
      refine lv_if_lt (tgt := 22) hx hb d_M_digest_14 (by decide) (fun hc => absurd hc (kc_ge0 (by decide) hbad)) (fun _ => ?_)
      refine lv_iload_n hx hb d_M_digest_17 rfl (lv_at hl 2 rfl) ?_
      refine lv_iconst (v := nI 3) hx hb d_M_digest_18 (by decide +kernel) ?_
      refine lv_icmp_le (tgt := 29) hx hb d_M_digest_19 (by decide) (fun hc => absurd hc (kc_gt (by decide) hbad)) (fun _ => ?_)
      refine lv_aload_n hx hb d_M_digest_22 rfl (lv_at hl 0 rfl) ?_
      refine lv_iconst (v := nI 1) hx hb d_M_digest_23 (by decide +kernel) ?_
      refine kc_goI (wr := []) (ws := kc_Mw h cJ cI cX (nI (0)) (P) (La) (Co) (Mv) (M)) (va_runV (As := [.int (nI (1))]) (rest := []) ⟨hx, hb, hml, hown, hts⟩ (c_M_fail l D h cJ cI cX (nI (0)) P La Co Mv M H.size (nI 1)) (cwV 1 hts (kc_inV kw_229 kw_231 ks_4 kw_3 kw_232) rfl rfl rfl (by decide +kernel) ⟨by decide, by decide⟩) (kc_preV (wr := []) (q0 := 0) (ci := 2) hK hP hD rfl rfl) rfl rfl hl.1 rfl (lv_room (Nat.le_of_ble_eq_true rfl)) d_M_digest_24 ⟨by decide, by decide⟩) hP hD hS hA (fun r u H locs hp hP hD hS => ?_)
      subst hp
      have hP : va_P D kc_cl (kc_Mw h cJ cI cX (nI (1)) (P) (La) (Co) (Mv) (M)) H := hP
      have hD : va_D A (kc_Mw h cJ cI cX (nI (1)) (P) (La) (Co) (Mv) (M)) := hD
      refine lv_i2l hx hb d_M_digest_27 rfl ?_
      exact kc_lret hx hb hr hlk () trivial hP hD hS d_M_digest_28
end
section
/-! the component: in, put, move, clear, take, fill, copy, mix, lane, digest on good arguments (rows printed by gen14.py) -/
abbrev r_K_put : Room := { frames := 2, cells := 0, slots := 0, locals := 49 }
abbrev r_Kv : Room := { frames := 3, cells := 0, slots := 0, locals := 72 }
def kc_mv (L L0 : Nat → Int64) (a b k : Nat) : Prop := (∀ c, c < k → L (25 * b + c) = L0 (25 * a + c)) ∧ ∀ j, (j < 25 * b ∨ 25 * b + k ≤ j) → L j = L0 j
theorem kc_mv_step {L L0 : Nat → Int64} {a b k : Nat} {v : Int64} (h : kc_mv L L0 a b k) (hk : k < 25) (hv : v = L (25 * a + k)) : kc_mv (vp_updL L (25 * b + k) v) L0 a b (k + 1) := by
  obtain ⟨h1, h2⟩ := h
  refine ⟨fun c hc => ?_, fun j hj => ?_⟩
  · by_cases hck : c = k
    · rw [hck, pk_uLs, hv, h2 (25 * a + k) (by omega)]
    · rw [pk_uLn (by omega)]; exact h1 c (by omega)
  · rw [pk_uLn (by omega)]; exact h2 j (by omega)
def kc_zr (L L0 : Nat → Int64) (q k : Nat) : Prop := (∀ c, c < k → L (25 * q + c) = 0) ∧ kc_fr q L L0
theorem kc_zr_step {L L0 : Nat → Int64} {q k : Nat} (h : kc_zr L L0 q k) (hk : k < 25) : kc_zr (vp_updL L (25 * q + k) 0) L0 q (k + 1) := by
  refine ⟨fun c hc => ?_, kc_fr_upd h.2 hk _⟩
  by_cases hck : c = k
  · rw [hck, pk_uLs]
  · rw [pk_uLn (by omega)]; exact h.1 c (by omega)
theorem c_K_in_v (l : Launch) (j hi : Nat) (hj : j ≤ hi) (hhi : hi < 3000) : Met l y_K_in w_K_in r_0 (va_Pc [.int (nI j), .int (nI hi)] (fun _ => True)) (va_Sv (fun _ => True)) 0 0 (fun _ => False) := by
  refine kc_ofWp (cc := b_K_in) (maxL := 2) (by decide) rfl (Nat.le_of_ble_eq_true rfl) ?_
  intro p e s m below meth c ls S hr hlk hl
  obtain ⟨hx, hb, hml, hown, hts⟩ := S
  have hl : lv_has ls 2 [(0, .int (nI (j))), (1, .int (nI (hi)))] := hl
  refine lv_iload_n hx hb d_K_in_0 rfl (lv_at hl 0 rfl) ?_
  refine kn_iflt (tgt := 9) hx hb (by omega) d_K_in_1 (by decide) ?_
  refine lv_iload_n hx hb d_K_in_4 rfl (lv_at hl 0 rfl) ?_
  refine lv_iload_n hx hb d_K_in_5 rfl (lv_at hl 1 rfl) ?_
  refine kn_le (tgt := 17) hx hb (by omega) (by omega) d_K_in_6 (by decide) (fun _ => ?_) (fun hc => absurd hc (by omega))
  exact W.vret hx hb hr (fun t ht _ => ⟨rfl, trivial, ht⟩) (fun q h => by cases h) d_K_in_17 hlk
set_option maxHeartbeats 4000000 in
theorem c_K_put (l : Launch) (D : va_G) (h : Nat → Nat) (cJ cI cX : ClassId) (P : Nat → Int32) (L N Sd : Nat → Int64) (sz : Nat) (q : Nat) (hq : q < 9) (b : Int64) (pp : Nat) (hpp : P q = nI pp) (hlt : pp < 136) : kc_Mv l y_K_put w_K_put r_K_put [.ref (h 0), .int (nI q), .long b] D (kc_ty cJ cI cX) (kc_C h cJ cI P L N Sd) sz (fun u : (Nat → Int32) × (Nat → Int64) × (Nat → Int64) × (Nat → Int64) => kc_eq (kc_row u.2.1 q) (kc_put (kc_row L q, pp) (b &&& 255)).1 ∧ u.1 q = nI (kc_put (kc_row L q, pp) (b &&& 255)).2 ∧ (∀ i, i ≠ q → u.1 i = P i) ∧ kc_fr q u.2.1 L) (fun u => kc_C h cJ cI u.1 u.2.1 u.2.2.1 u.2.2.2) 0 0 := by
  refine kc_ofWv (cc := b_K_put) (maxL := 4) (by decide) rfl (Nat.le_of_ble_eq_true rfl) ?_
  intro p e s m below meth c A ls S hr hlk hin hK hP hD hA hl hsz
  obtain ⟨hx, hb, hml, hown, hts⟩ := S
  have hS : va_S A s.heap s.heap [] := va_S.rf
  have hl : lv_has ls 4 [(0, .ref (h 0)), (1, .int (nI (q))), (2, .long (b))] := hl
  obtain ⟨H, hH⟩ : ∃ H, H = s.heap := ⟨_, rfl⟩
  obtain ⟨locs, hlo⟩ : ∃ q : List Loc, q = [] := ⟨_, rfl⟩
  rw [← hlo] at hS ⊢
  have hP : va_P D kc_cl _ H := hH ▸ hP
  have hS : va_S A s.heap H locs := by rw [hH]; exact hS
  refine (show W _ _ _ _ _ _ _ _ _ _ H _ _ _ _ _ → W _ _ _ _ _ _ _ _ _ _ s.heap _ _ _ _ _ from by rw [hH]; exact id) ?_
  clear hlo hH
  refine lv_aload_n hx hb d_K_put_0 rfl (lv_at hl 0 rfl) ?_
  refine kg_K hx hb hts hown hK hP 0 rfl 1 (by decide) kw_39 (v := .ref (h 3)) rfl d_K_put_1 ?_
  refine lv_bipush (v := nI 25) hx hb d_K_put_4 (by decide +kernel) ?_
  refine lv_iload_n hx hb d_K_put_6 rfl (lv_at hl 1 rfl) ?_
  refine kn_mul hx hb d_K_put_7 ?_
  refine lv_aload_n hx hb d_K_put_8 rfl (lv_at hl 0 rfl) ?_
  refine kg_K hx hb hts hown hK hP 0 rfl 2 (by decide) kw_40 (v := .ref (h 1)) rfl d_K_put_9 ?_
  refine lv_iload_n hx hb d_K_put_12 rfl (lv_at hl 1 rfl) ?_
  refine ka_iald (f := P) hx hb hK hP 1 1 rfl rfl (i := q) (by omega) (by decide) d_K_put_13 ?_
  refine kv_i (y := (nI (pp))) (hpp) ?_
  refine lv_bipush (v := nI 8) hx hb d_K_put_14 (by decide +kernel) ?_
  refine kn_div hx hb (by omega) (by decide) (by decide) d_K_put_16 ?_
  refine kn_add hx hb d_K_put_17 ?_
  refine lv_dup2_11 hx hb d_K_put_18 rfl rfl ?_
  refine ka_lald (f := L) hx hb hK hP 3 0 rfl rfl (i := 25 * q + pp / 8) (by omega) (by decide) d_K_put_19 ?_
  refine lv_lload_n hx hb d_K_put_20 rfl (lv_at hl 2 rfl) ?_
  refine lv_ldc2 (v := (255)) hx hb hown (hts _ kw_131) d_K_put_21 ?_
  refine lv_land hx hb d_K_put_24 ?_
  refine lv_bipush (v := nI 8) hx hb d_K_put_25 (by decide +kernel) ?_
  refine lv_aload_n hx hb d_K_put_27 rfl (lv_at hl 0 rfl) ?_
  refine kg_K hx hb hts hown hK hP 0 rfl 2 (by decide) kw_40 (v := .ref (h 1)) rfl d_K_put_28 ?_
  refine lv_iload_n hx hb d_K_put_31 rfl (lv_at hl 1 rfl) ?_
  refine ka_iald (f := P) hx hb hK hP 1 1 rfl rfl (i := q) (by omega) (by decide) d_K_put_32 ?_
  refine kv_i (y := (nI (pp))) (hpp) ?_
  refine lv_bipush (v := nI 8) hx hb d_K_put_33 (by decide +kernel) ?_
  refine kn_rem hx hb (by omega) (by decide) (by decide) d_K_put_35 ?_
  refine kn_mul hx hb d_K_put_36 ?_
  refine lv_lshl hx hb d_K_put_37 rfl ?_
  refine lv_lxor hx hb d_K_put_38 ?_
  refine lv_topl (fun v1 e_v1 => ?_)
  refine ka_last (f := L) hx hb hK hP hD hS 3 0 rfl rfl (i := 25 * q + pp / 8) (by omega) (by decide) d_K_put_39 (fun H locs hP hD hS => ?_)
  have hP : va_P D kc_cl (kc_C h cJ cI (P) (vp_updL L (25 * q + pp / 8) (v1)) (N) (Sd)) H := hP
  have hD : va_D A (kc_C h cJ cI (P) (vp_updL L (25 * q + pp / 8) (v1)) (N) (Sd)) := hD
  refine lv_aload_n hx hb d_K_put_40 rfl (lv_at hl 0 rfl) ?_
  refine kg_K hx hb hts hown hK hP 0 rfl 2 (by decide) kw_40 (v := .ref (h 1)) rfl d_K_put_41 ?_
  refine lv_iload_n hx hb d_K_put_44 rfl (lv_at hl 1 rfl) ?_
  refine lv_dup2_11 hx hb d_K_put_45 rfl rfl ?_
  refine ka_iald (f := P) hx hb hK hP 1 1 rfl rfl (i := q) (by omega) (by decide) d_K_put_46 ?_
  refine kv_i (y := (nI (pp))) (hpp) ?_
  refine lv_iconst (v := nI 1) hx hb d_K_put_47 (by decide +kernel) ?_
  refine kn_add hx hb d_K_put_48 ?_
  refine ka_iast (f := P) hx hb hK hP hD hS 1 1 rfl rfl (i := q) (by omega) (by decide) d_K_put_49 (fun H locs hP hD hS => ?_)
  have hP : va_P D kc_cl (kc_C h cJ cI (upd P (q) (nI (pp + 1))) (vp_updL L (25 * q + pp / 8) (v1)) (N) (Sd)) H := hP
  have hD : va_D A (kc_C h cJ cI (upd P (q) (nI (pp + 1))) (vp_updL L (25 * q + pp / 8) (v1)) (N) (Sd)) := hD
  refine lv_aload_n hx hb d_K_put_50 rfl (lv_at hl 0 rfl) ?_
  refine kg_K hx hb hts hown hK hP 0 rfl 2 (by decide) kw_40 (v := .ref (h 1)) rfl d_K_put_51 ?_
  refine lv_iload_n hx hb d_K_put_54 rfl (lv_at hl 1 rfl) ?_
  refine ka_iald (f := upd P (q) (nI (pp + 1))) hx hb hK hP 1 1 rfl rfl (i := q) (by omega) (by decide) d_K_put_55 ?_
  refine kv_i (y := (nI (pp + 1))) (pk_us) ?_
  refine lv_sipush (v := nI 136) hx hb d_K_put_56 (by decide +kernel) ?_
  have hby : kc_row (vp_updL L (25 * q + pp / 8) v1) q = kc_byte (kc_row L q) pp (b &&& 255) := by rw [kc_row_upd]; exact kc_byte_upd (by rw [e_v1]; rfl)
  have hf1 : kc_fr q (vp_updL L (25 * q + pp / 8) v1) L := kc_fr_upd kc_fr_rf (by omega) _
  refine kn_ge (tgt := 63) hx hb (by omega) (by omega) d_K_put_59 (by decide) (fun hc => ?_) (fun hc => ?_)
  · have hpt := kc_put_hi (q := (kc_row L q, pp)) (v := b &&& 255) hc
    refine lv_aload_n hx hb d_K_put_63 rfl (lv_at hl 0 rfl) ?_
    refine kg_K hx hb hts hown hK hP 0 rfl 0 (by decide) kw_38 (v := .ref (h 2)) rfl d_K_put_64 ?_
    refine lv_aload_n hx hb d_K_put_67 rfl (lv_at hl 0 rfl) ?_
    refine kg_K hx hb hts hown hK hP 0 rfl 1 (by decide) kw_39 (v := .ref (h 3)) rfl d_K_put_68 ?_
    refine lv_bipush (v := nI 25) hx hb d_K_put_71 (by decide +kernel) ?_
    refine lv_iload_n hx hb d_K_put_73 rfl (lv_at hl 1 rfl) ?_
    refine kn_mul hx hb d_K_put_74 ?_
    refine kc_goV (wr := []) (ws := kc_C h cJ cI (upd P (q) (nI (pp + 1))) (vp_updL L (25 * q + pp / 8) (v1)) (N) (Sd)) (va_runV (As := [.ref (h 3), .int (nI (25 * q))]) (rest := []) ⟨hx, hb, hml, hown, hts⟩ (c_X_mix l D h cJ cI cX (upd P (q) (nI (pp + 1))) (vp_updL L (25 * q + pp / 8) (v1)) N Sd q H.size hq) (cwV 2 hts (kc_inV kw_132 kw_133 kw_134 kw_2 kw_135) rfl rfl rfl (by decide +kernel) ⟨by decide, by decide⟩) (kc_preV (wr := []) (q0 := 2) (ci := 1) hK hP hD rfl rfl) rfl rfl hl.1 rfl (lv_room (Nat.le_of_ble_eq_true rfl)) d_K_put_75 ⟨by decide, by decide⟩) hP hD hS hA (fun u H locs hp hP hD hS => ?_)
    obtain ⟨L1, N1, S1⟩ := u
    have hP : va_P D kc_cl (kc_C h cJ cI (upd P (q) (nI (pp + 1))) (L1) (N1) (S1)) H := hP
    have hD : va_D A (kc_C h cJ cI (upd P (q) (nI (pp + 1))) (L1) (N1) (S1)) := hD
    obtain ⟨hpm, hfx⟩ : kc_eq (kc_row L1 q) (kc_perm 24 (kc_row (vp_updL L (25 * q + pp / 8) (v1)) q)) ∧ kc_fr q L1 (vp_updL L (25 * q + pp / 8) (v1)) := hp
    refine lv_aload_n hx hb d_K_put_78 rfl (lv_at hl 0 rfl) ?_
    refine kg_K hx hb hts hown hK hP 0 rfl 2 (by decide) kw_40 (v := .ref (h 1)) rfl d_K_put_79 ?_
    refine lv_iload_n hx hb d_K_put_82 rfl (lv_at hl 1 rfl) ?_
    refine lv_iconst (v := nI 0) hx hb d_K_put_83 (by decide +kernel) ?_
    refine ka_iast (f := upd P (q) (nI (pp + 1))) hx hb hK hP hD hS 1 1 rfl rfl (i := q) (by omega) (by decide) d_K_put_84 (fun H locs hP hD hS => ?_)
    have hP : va_P D kc_cl (kc_C h cJ cI (upd (upd P (q) (nI (pp + 1))) (q) (nI (0))) (L1) (N1) (S1)) H := hP
    have hD : va_D A (kc_C h cJ cI (upd (upd P (q) (nI (pp + 1))) (q) (nI (0))) (L1) (N1) (S1)) := hD
    refine kc_vret hx hb hr hlk (_, L1, N1, S1) ⟨?_, ?_, ?_, ?_⟩ hP hD hS d_K_put_85
    · rw [hpt]; rw [hby] at hpm; exact hpm
    · rw [hpt]; exact pk_us
    · intro i hi; show upd (upd P _ _) _ _ i = P i; rw [pk_un hi, pk_un hi]
    · exact kc_fr_tr hfx hf1
  · have hpt := kc_put_lo (q := (kc_row L q, pp)) (v := b &&& 255) hc
    refine kc_vret hx hb hr hlk (_, _, N, Sd) ⟨?_, ?_, ?_, ?_⟩ hP hD hS d_K_put_62
    · rw [hpt]; show kc_eq (kc_row (vp_updL L (25 * q + pp / 8) v1) q) _; rw [hby]; exact kc_eq.rf
    · rw [hpt]; exact pk_us
    · intro i hi; show upd P _ _ i = P i; rw [pk_un hi]
    · exact hf1
section KLO
variable {p : Program} {l : Launch} {e : Env} {R : Room} {s : State} {m : MethodId} {args : Array Value} {below : List Frame} {meth : Method} {c : Code} {Q : State → Prop} {D : va_G} {A : Nat → Prop} {h : Nat → Nat} {cJ cI cX : ClassId} {cells slots : Nat}
set_option maxHeartbeats 4000000 in
theorem K_move_L (S : CallFix p m c b_K_move 4 s args kc_tbl R_K) (hK : va_K D kc_cl (kc_ty cJ cI cX) s) {P : Nat → Int32} {N Sd L0 : Nat → Int64} {a b : Nat} (ha : a < 9) (hb9 : b < 9) (n : Nat) : ∀ (k : Nat) (H : Heap) (locs : List Loc) (ls : Array Slot) (L : Nat → Int64), k + n = 25 → lv_has ls 4 [(3, .int (nI (k))), (0, .ref (h 0)), (1, .int (nI (a))), (2, .int (nI (b)))] → kc_at D A s.heap H locs (kc_C h cJ cI (P) (L) (N) (Sd)) → (kc_mv L L0 a b k) → (∀ (H : Heap) (locs : List Loc) (ls : Array Slot) (L : Nat → Int64), lv_has ls 4 [(3, .int (nI (25))), (0, .ref (h 0)), (1, .int (nI (a))), (2, .int (nI (b)))] → kc_at D A s.heap H locs (kc_C h cJ cI (P) (L) (N) (Sd)) → (kc_mv L L0 a b 25) → W p l e R s m args below meth c H locs cells slots Q (F0 m 36 ls [])) → W p l e R s m args below meth c H locs cells slots Q (F0 m 2 ls []) := by
  obtain ⟨hx, hb, hml, hown, hts⟩ := S
  induction n with
  | zero =>
    intro k H locs ls L hn hl hw hinv K
    obtain ⟨hP, hD, hS⟩ := hw
    obtain rfl : k = 25 := by omega
    refine lv_iload_n hx hb d_K_move_2 rfl (lv_at hl 0 rfl) ?_
    refine lv_bipush (v := nI 25) hx hb d_K_move_3 (by decide +kernel) ?_
    refine kn_ge (tgt := 36) hx hb (by omega) (by omega) d_K_move_5 (by decide) (fun _ => ?_) (fun hc => absurd hc (by omega))
    exact K H locs ls L hl ⟨hP, hD, hS⟩ hinv
  | succ n ih =>
    intro k H locs ls L hn hl hw hinv K
    obtain ⟨hP, hD, hS⟩ := hw
    refine lv_iload_n hx hb d_K_move_2 rfl (lv_at hl 0 rfl) ?_
    refine lv_bipush (v := nI 25) hx hb d_K_move_3 (by decide +kernel) ?_
    refine kn_ge (tgt := 36) hx hb (by omega) (by omega) d_K_move_5 (by decide) (fun hc => absurd hc (by omega)) (fun _ => ?_)
    refine lv_aload_n hx hb d_K_move_8 rfl (lv_at hl 1 rfl) ?_
    refine kg_K hx hb hts hown hK hP 0 rfl 1 (by decide) kw_39 (v := .ref (h 3)) rfl d_K_move_9 ?_
    refine lv_bipush (v := nI 25) hx hb d_K_move_12 (by decide +kernel) ?_
    refine lv_iload_n hx hb d_K_move_14 rfl (lv_at hl 3 rfl) ?_
    refine kn_mul hx hb d_K_move_15 ?_
    refine lv_iload_n hx hb d_K_move_16 rfl (lv_at hl 0 rfl) ?_
    refine kn_add hx hb d_K_move_17 ?_
    refine lv_aload_n hx hb d_K_move_18 rfl (lv_at hl 1 rfl) ?_
    refine kg_K hx hb hts hown hK hP 0 rfl 1 (by decide) kw_39 (v := .ref (h 3)) rfl d_K_move_19 ?_
    refine lv_bipush (v := nI 25) hx hb d_K_move_22 (by decide +kernel) ?_
    refine lv_iload_n hx hb d_K_move_24 rfl (lv_at hl 2 rfl) ?_
    refine kn_mul hx hb d_K_move_25 ?_
    refine lv_iload_n hx hb d_K_move_26 rfl (lv_at hl 0 rfl) ?_
    refine kn_add hx hb d_K_move_27 ?_
    refine ka_lald (f := L) hx hb hK hP 3 0 rfl rfl (i := 25 * a + k) (by omega) (by decide) d_K_move_28 ?_
    refine lv_topl (fun v1 e_v1 => ?_)
    refine ka_last (f := L) hx hb hK hP hD hS 3 0 rfl rfl (i := 25 * b + k) (by omega) (by decide) d_K_move_29 (fun H locs hP hD hS => ?_)
    have hP : va_P D kc_cl (kc_C h cJ cI (P) (vp_updL L (25 * b + k) (v1)) (N) (Sd)) H := hP
    have hD : va_D A (kc_C h cJ cI (P) (vp_updL L (25 * b + k) (v1)) (N) (Sd)) := hD
    refine lv_iinc (k := 0) hx hb d_K_move_30 hl rfl (kn_i1 _) (by decide) rfl (fun ls hl => ?_)
    have hl : lv_has ls 4 [(3, .int (nI (k + 1))), (0, .ref (h 0)), (1, .int (nI (a))), (2, .int (nI (b)))] := hl
    refine lv_goto (tgt := 2) hx hb d_K_move_33 (by decide) ?_
    have hl : lv_has ls 4 [(3, .int (nI (k + 1))), (0, .ref (h 0)), (1, .int (nI (a))), (2, .int (nI (b)))] := lv_sub hl [0, 1, 2, 3] rfl
    exact ih (k + 1) H locs ls _ (by omega) hl ⟨hP, hD, hS⟩ (kc_mv_step hinv (by omega) (by rw [e_v1])) K
set_option maxHeartbeats 4000000 in
theorem K_clear_L (S : CallFix p m c b_K_clear 3 s args kc_tbl R_K) (hK : va_K D kc_cl (kc_ty cJ cI cX) s) {P : Nat → Int32} {N Sd L0 : Nat → Int64} {q : Nat} (hq : q < 9) (n : Nat) : ∀ (k : Nat) (H : Heap) (locs : List Loc) (ls : Array Slot) (L : Nat → Int64), k + n = 25 → lv_has ls 3 [(2, .int (nI (k))), (0, .ref (h 0)), (1, .int (nI (q)))] → kc_at D A s.heap H locs (kc_C h cJ cI (P) (L) (N) (Sd)) → (kc_zr L L0 q k) → (∀ (H : Heap) (locs : List Loc) (ls : Array Slot) (L : Nat → Int64), lv_has ls 3 [(2, .int (nI (25))), (0, .ref (h 0)), (1, .int (nI (q)))] → kc_at D A s.heap H locs (kc_C h cJ cI (P) (L) (N) (Sd)) → (kc_zr L L0 q 25) → W p l e R s m args below meth c H locs cells slots Q (F0 m 32 ls [])) → W p l e R s m args below meth c H locs cells slots Q (F0 m 8 ls []) := by
  obtain ⟨hx, hb, hml, hown, hts⟩ := S
  induction n with
  | zero =>
    intro k H locs ls L hn hl hw hinv K
    obtain ⟨hP, hD, hS⟩ := hw
    obtain rfl : k = 25 := by omega
    refine lv_iload_n hx hb d_K_clear_8 rfl (lv_at hl 0 rfl) ?_
    refine lv_bipush (v := nI 25) hx hb d_K_clear_9 (by decide +kernel) ?_
    refine kn_ge (tgt := 32) hx hb (by omega) (by omega) d_K_clear_11 (by decide) (fun _ => ?_) (fun hc => absurd hc (by omega))
    exact K H locs ls L hl ⟨hP, hD, hS⟩ hinv
  | succ n ih =>
    intro k H locs ls L hn hl hw hinv K
    obtain ⟨hP, hD, hS⟩ := hw
    refine lv_iload_n hx hb d_K_clear_8 rfl (lv_at hl 0 rfl) ?_
    refine lv_bipush (v := nI 25) hx hb d_K_clear_9 (by decide +kernel) ?_
    refine kn_ge (tgt := 32) hx hb (by omega) (by omega) d_K_clear_11 (by decide) (fun hc => absurd hc (by omega)) (fun _ => ?_)
    refine lv_aload_n hx hb d_K_clear_14 rfl (lv_at hl 1 rfl) ?_
    refine kg_K hx hb hts hown hK hP 0 rfl 1 (by decide) kw_39 (v := .ref (h 3)) rfl d_K_clear_15 ?_
    refine lv_bipush (v := nI 25) hx hb d_K_clear_18 (by decide +kernel) ?_
    refine lv_iload_n hx hb d_K_clear_20 rfl (lv_at hl 2 rfl) ?_
    refine kn_mul hx hb d_K_clear_21 ?_
    refine lv_iload_n hx hb d_K_clear_22 rfl (lv_at hl 0 rfl) ?_
    refine kn_add hx hb d_K_clear_23 ?_
    refine lv_lconst (v := 0) hx hb d_K_clear_24 (by decide +kernel) ?_
    refine ka_last (f := L) hx hb hK hP hD hS 3 0 rfl rfl (i := 25 * q + k) (by omega) (by decide) d_K_clear_25 (fun H locs hP hD hS => ?_)
    have hP : va_P D kc_cl (kc_C h cJ cI (P) (vp_updL L (25 * q + k) ((0 : Int64))) (N) (Sd)) H := hP
    have hD : va_D A (kc_C h cJ cI (P) (vp_updL L (25 * q + k) ((0 : Int64))) (N) (Sd)) := hD
    refine lv_iinc (k := 0) hx hb d_K_clear_26 hl rfl (kn_i1 _) (by decide) rfl (fun ls hl => ?_)
    have hl : lv_has ls 3 [(2, .int (nI (k + 1))), (0, .ref (h 0)), (1, .int (nI (q)))] := hl
    refine lv_goto (tgt := 8) hx hb d_K_clear_29 (by decide) ?_
    have hl : lv_has ls 3 [(2, .int (nI (k + 1))), (0, .ref (h 0)), (1, .int (nI (q)))] := lv_sub hl [0, 1, 2] rfl
    exact ih (k + 1) H locs ls _ (by omega) hl ⟨hP, hD, hS⟩ (kc_zr_step hinv (by omega)) K
set_option maxHeartbeats 4000000 in
theorem K_take_L (S : CallFix p m c b_K_take 6 s args kc_tbl R_K) (hK : va_K D kc_cl (kc_ty cJ cI cX) s) {P0 : Nat → Int32} {L0 : Nat → Int64} {q0 : kc_st} {q Nn : Nat} {v : Int64} (hA : ∀ q, s.heap.size ≤ q → A q) (hq : q < 9) (hN : Nn < 3000) (hlt : q0.2 < 136) (n : Nat) : ∀ (k : Nat) (H : Heap) (locs : List Loc) (ls : Array Slot) (P : Nat → Int32) (L N Sd : Nat → Int64), k + n = Nn → lv_has ls 6 [(5, .int (nI (k))), (0, .ref (h 0)), (1, .int (nI (q))), (2, .long (v)), (4, .int (nI (Nn)))] → kc_at D A s.heap H locs (kc_C h cJ cI (P) (L) (N) (Sd)) → (kc_eq (kc_row L q) (kc_steps (kc_vs v) k q0).1) → (P q = nI (kc_steps (kc_vs v) k q0).2) → (∀ i, i ≠ q → P i = P0 i) → (kc_fr q L L0) → (∀ (H : Heap) (locs : List Loc) (ls : Array Slot) (P : Nat → Int32) (L N Sd : Nat → Int64), lv_has ls 6 [(5, .int (nI (Nn))), (0, .ref (h 0)), (1, .int (nI (q))), (2, .long (v)), (4, .int (nI (Nn)))] → kc_at D A s.heap H locs (kc_C h cJ cI (P) (L) (N) (Sd)) → (kc_eq (kc_row L q) (kc_steps (kc_vs v) Nn q0).1) → (P q = nI (kc_steps (kc_vs v) Nn q0).2) → (∀ i, i ≠ q → P i = P0 i) → (kc_fr q L L0) → W p l e r_Kv s m args below meth c H locs 0 0 Q (F0 m 41 ls [])) → W p l e r_Kv s m args below meth c H locs 0 0 Q (F0 m 16 ls []) := by
  obtain ⟨hx, hb, hml, hown, hts⟩ := S
  induction n with
  | zero =>
    intro k H locs ls P L N Sd hn hl hw hLa hPj hPo hfr K
    obtain ⟨hP, hD, hS⟩ := hw
    obtain rfl : Nn = k := by omega
    refine lv_iload hx hb d_K_take_16 (lv_at hl 0 rfl) ?_
    refine lv_iload hx hb d_K_take_18 (lv_at hl 4 rfl) ?_
    refine kn_ge (tgt := 41) hx hb (by omega) (by omega) d_K_take_20 (by decide) (fun _ => ?_) (fun hc => absurd hc (by omega))
    exact K H locs ls P L N Sd hl ⟨hP, hD, hS⟩ hLa hPj hPo hfr
  | succ n ih =>
    intro k H locs ls P L N Sd hn hl hw hLa hPj hPo hfr K
    obtain ⟨hP, hD, hS⟩ := hw
    refine lv_iload hx hb d_K_take_16 (lv_at hl 0 rfl) ?_
    refine lv_iload hx hb d_K_take_18 (lv_at hl 4 rfl) ?_
    refine kn_ge (tgt := 41) hx hb (by omega) (by omega) d_K_take_20 (by decide) (fun hc => absurd hc (by omega)) (fun _ => ?_)
    refine lv_aload_n hx hb d_K_take_23 rfl (lv_at hl 1 rfl) ?_
    refine lv_iload_n hx hb d_K_take_24 rfl (lv_at hl 2 rfl) ?_
    refine lv_lload_n hx hb d_K_take_25 rfl (lv_at hl 3 rfl) ?_
    refine lv_bipush (v := nI 8) hx hb d_K_take_26 (by decide +kernel) ?_
    refine lv_iload hx hb d_K_take_28 (lv_at hl 0 rfl) ?_
    refine kn_mul hx hb d_K_take_30 ?_
    refine lv_lushr hx hb d_K_take_31 rfl ?_
    refine kc_goV (wr := []) (ws := kc_C h cJ cI (P) (L) (N) (Sd)) (va_runV (As := [.int (nI (q)), .long (((v).toUInt64 >>> ((nI (8 * k)).toInt64.toUInt64 &&& Int64.toUInt64 63)).toInt64)]) (rest := []) ⟨hx, hb, hml, hown, hts⟩ (c_K_put l D h cJ cI cX P L N Sd H.size q hq (((v).toUInt64 >>> ((nI (8 * k)).toInt64.toUInt64 &&& Int64.toUInt64 63)).toInt64) _ hPj (kc_steps_lt hlt _ _)) (cwV 2 hts (kc_inV kw_127 kw_129 ks_1 kw_1 kw_130) rfl rfl rfl (by decide +kernel) ⟨by decide, by decide⟩) (kc_preV (wr := []) (q0 := 0) (ci := 0) hK hP hD rfl rfl) rfl rfl hl.1 rfl (lv_room (Nat.le_of_ble_eq_true rfl)) d_K_take_32 ⟨by decide, by decide⟩) hP hD hS hA (fun u H locs hp hP hD hS => ?_)
    obtain ⟨P1, L1, N1, S1⟩ := u
    have hP : va_P D kc_cl (kc_C h cJ cI (P1) (L1) (N1) (S1)) H := hP
    have hD : va_D A (kc_C h cJ cI (P1) (L1) (N1) (S1)) := hD
    obtain ⟨hp1, hp2, hp3, hp4⟩ := hp
    have hbv : (((v).toUInt64 >>> ((nI (8 * k)).toInt64.toUInt64 &&& Int64.toUInt64 63)).toInt64) &&& 255 = kc_vs v k := rfl
    rw [hbv] at hp1 hp2
    have hsm := kc_same_put (q := (kc_row L q, (kc_steps (kc_vs v) k q0).2)) (r := kc_steps (kc_vs v) k q0) ⟨hLa, rfl⟩ (kc_vs v k)
    have hn1 : kc_eq (kc_row L1 q) (kc_steps (kc_vs v) (k + 1) q0).1 := kc_eq.trans hp1 hsm.1
    have hn2 : P1 q = nI (kc_steps (kc_vs v) (k + 1) q0).2 := hp2.trans (congrArg nI hsm.2)
    have hn3 : ∀ i, i ≠ q → P1 i = P0 i := fun i hi => (hp3 i hi).trans (hPo i hi)
    have hn4 : kc_fr q L1 L0 := kc_fr_tr hp4 hfr
    refine lv_iinc (k := 0) hx hb d_K_take_35 hl rfl (kn_i1 _) (by decide) rfl (fun ls hl => ?_)
    have hl : lv_has ls 6 [(5, .int (nI (k + 1))), (0, .ref (h 0)), (1, .int (nI (q))), (2, .long (v)), (4, .int (nI (Nn)))] := hl
    refine lv_goto (tgt := 16) hx hb d_K_take_38 (by decide) ?_
    have hl : lv_has ls 6 [(5, .int (nI (k + 1))), (0, .ref (h 0)), (1, .int (nI (q))), (2, .long (v)), (4, .int (nI (Nn)))] := lv_sub hl [0, 1, 2, 3, 4] rfl
    exact ih (k + 1) H locs ls P1 L1 N1 S1 (by omega) hl ⟨hP, hD, hS⟩ hn1 hn2 hn3 hn4 K
set_option maxHeartbeats 4000000 in
theorem K_fill_L (S : CallFix p m c b_K_fill 6 s args kc_tbl R_K) (hK : va_K D kc_cl (kc_ty cJ cI cX) s) {P0 : Nat → Int32} {L0 : Nat → Int64} {q0 : kc_st} {q Nn : Nat} {v st : Int32} (hA : ∀ q, s.heap.size ≤ q → A q) (hq : q < 9) (hN : Nn < 3000) (hlt : q0.2 < 136) (n : Nat) : ∀ (k : Nat) (H : Heap) (locs : List Loc) (ls : Array Slot) (P : Nat → Int32) (L N Sd : Nat → Int64), k + n = Nn → lv_has ls 6 [(5, .int (nI (k))), (0, .ref (h 0)), (1, .int (nI (q))), (2, .int (v)), (3, .int (st)), (4, .int (nI (Nn)))] → kc_at D A s.heap H locs (kc_C h cJ cI (P) (L) (N) (Sd)) → (kc_eq (kc_row L q) (kc_steps (kc_fs v st) k q0).1) → (P q = nI (kc_steps (kc_fs v st) k q0).2) → (∀ i, i ≠ q → P i = P0 i) → (kc_fr q L L0) → (∀ (H : Heap) (locs : List Loc) (ls : Array Slot) (P : Nat → Int32) (L N Sd : Nat → Int64), lv_has ls 6 [(5, .int (nI (Nn))), (0, .ref (h 0)), (1, .int (nI (q))), (2, .int (v)), (3, .int (st)), (4, .int (nI (Nn)))] → kc_at D A s.heap H locs (kc_C h cJ cI (P) (L) (N) (Sd)) → (kc_eq (kc_row L q) (kc_steps (kc_fs v st) Nn q0).1) → (P q = nI (kc_steps (kc_fs v st) Nn q0).2) → (∀ i, i ≠ q → P i = P0 i) → (kc_fr q L L0) → W p l e r_Kv s m args below meth c H locs 0 0 Q (F0 m 42 ls [])) → W p l e r_Kv s m args below meth c H locs 0 0 Q (F0 m 17 ls []) := by
  obtain ⟨hx, hb, hml, hown, hts⟩ := S
  induction n with
  | zero =>
    intro k H locs ls P L N Sd hn hl hw hLa hPj hPo hfr K
    obtain ⟨hP, hD, hS⟩ := hw
    obtain rfl : Nn = k := by omega
    refine lv_iload hx hb d_K_fill_17 (lv_at hl 0 rfl) ?_
    refine lv_iload hx hb d_K_fill_19 (lv_at hl 5 rfl) ?_
    refine kn_ge (tgt := 42) hx hb (by omega) (by omega) d_K_fill_21 (by decide) (fun _ => ?_) (fun hc => absurd hc (by omega))
    exact K H locs ls P L N Sd hl ⟨hP, hD, hS⟩ hLa hPj hPo hfr
  | succ n ih =>
    intro k H locs ls P L N Sd hn hl hw hLa hPj hPo hfr K
    obtain ⟨hP, hD, hS⟩ := hw
    refine lv_iload hx hb d_K_fill_17 (lv_at hl 0 rfl) ?_
    refine lv_iload hx hb d_K_fill_19 (lv_at hl 5 rfl) ?_
    refine kn_ge (tgt := 42) hx hb (by omega) (by omega) d_K_fill_21 (by decide) (fun hc => absurd hc (by omega)) (fun _ => ?_)
    refine lv_aload_n hx hb d_K_fill_24 rfl (lv_at hl 1 rfl) ?_
    refine lv_iload_n hx hb d_K_fill_25 rfl (lv_at hl 2 rfl) ?_
    refine lv_iload_n hx hb d_K_fill_26 rfl (lv_at hl 3 rfl) ?_
    refine lv_iload hx hb d_K_fill_27 (lv_at hl 0 rfl) ?_
    refine lv_iload_n hx hb d_K_fill_29 rfl (lv_at hl 4 rfl) ?_
    refine lv_imul hx hb d_K_fill_30 ?_
    refine lv_iadd hx hb d_K_fill_31 ?_
    refine lv_i2l hx hb d_K_fill_32 rfl ?_
    refine kc_goV (wr := []) (ws := kc_C h cJ cI (P) (L) (N) (Sd)) (va_runV (As := [.int (nI (q)), .long (((v) + ((nI (k)) * (st))).toInt64)]) (rest := []) ⟨hx, hb, hml, hown, hts⟩ (c_K_put l D h cJ cI cX P L N Sd H.size q hq (((v) + ((nI (k)) * (st))).toInt64) _ hPj (kc_steps_lt hlt _ _)) (cwV 2 hts (kc_inV kw_127 kw_129 ks_1 kw_1 kw_130) rfl rfl rfl (by decide +kernel) ⟨by decide, by decide⟩) (kc_preV (wr := []) (q0 := 0) (ci := 0) hK hP hD rfl rfl) rfl rfl hl.1 rfl (lv_room (Nat.le_of_ble_eq_true rfl)) d_K_fill_33 ⟨by decide, by decide⟩) hP hD hS hA (fun u H locs hp hP hD hS => ?_)
    obtain ⟨P1, L1, N1, S1⟩ := u
    have hP : va_P D kc_cl (kc_C h cJ cI (P1) (L1) (N1) (S1)) H := hP
    have hD : va_D A (kc_C h cJ cI (P1) (L1) (N1) (S1)) := hD
    obtain ⟨hp1, hp2, hp3, hp4⟩ := hp
    have hbv : (((v) + ((nI (k)) * (st))).toInt64) &&& 255 = kc_fs v st k := rfl
    rw [hbv] at hp1 hp2
    have hsm := kc_same_put (q := (kc_row L q, (kc_steps (kc_fs v st) k q0).2)) (r := kc_steps (kc_fs v st) k q0) ⟨hLa, rfl⟩ (kc_fs v st k)
    have hn1 : kc_eq (kc_row L1 q) (kc_steps (kc_fs v st) (k + 1) q0).1 := kc_eq.trans hp1 hsm.1
    have hn2 : P1 q = nI (kc_steps (kc_fs v st) (k + 1) q0).2 := hp2.trans (congrArg nI hsm.2)
    have hn3 : ∀ i, i ≠ q → P1 i = P0 i := fun i hi => (hp3 i hi).trans (hPo i hi)
    have hn4 : kc_fr q L1 L0 := kc_fr_tr hp4 hfr
    refine lv_iinc (k := 0) hx hb d_K_fill_36 hl rfl (kn_i1 _) (by decide) rfl (fun ls hl => ?_)
    have hl : lv_has ls 6 [(5, .int (nI (k + 1))), (0, .ref (h 0)), (1, .int (nI (q))), (2, .int (v)), (3, .int (st)), (4, .int (nI (Nn)))] := hl
    refine lv_goto (tgt := 17) hx hb d_K_fill_39 (by decide) ?_
    have hl : lv_has ls 6 [(5, .int (nI (k + 1))), (0, .ref (h 0)), (1, .int (nI (q))), (2, .int (v)), (3, .int (st)), (4, .int (nI (Nn)))] := lv_sub hl [0, 1, 2, 3, 4, 5] rfl
    exact ih (k + 1) H locs ls P1 L1 N1 S1 (by omega) hl ⟨hP, hD, hS⟩ hn1 hn2 hn3 hn4 K
set_option maxHeartbeats 4000000 in
theorem K_digest_L (S : CallFix p m c b_K_digest 7 s args kc_tbl R_K) (hK : va_K D kc_cl (kc_ty cJ cI cX) s) {P : Nat → Int32} {L N Sd : Nat → Int64} {i : Nat} (hi : i < 4) (n : Nat) : ∀ (k : Nat) (H : Heap) (locs : List Loc) (ls : Array Slot) , k + n = 8 → lv_has ls 7 [(6, .int (nI (k))), (4, .long (kc_dig (L (200 + i)) k)), (0, .ref (h 0)), (2, .int (nI (i)))] → kc_at D A s.heap H locs (kc_C h cJ cI (P) (L) (N) (Sd)) → (∀ (H : Heap) (locs : List Loc) (ls : Array Slot) , lv_has ls 7 [(6, .int (nI (8))), (4, .long (kc_dig (L (200 + i)) 8)), (0, .ref (h 0)), (2, .int (nI (i)))] → kc_at D A s.heap H locs (kc_C h cJ cI (P) (L) (N) (Sd)) → W p l e R s m args below meth c H locs cells slots Q (F0 m 126 ls [])) → W p l e R s m args below meth c H locs cells slots Q (F0 m 85 ls []) := by
  obtain ⟨hx, hb, hml, hown, hts⟩ := S
  induction n with
  | zero =>
    intro k H locs ls  hn hl hw  K
    obtain ⟨hP, hD, hS⟩ := hw
    obtain rfl : k = 8 := by omega
    refine lv_iload hx hb d_K_digest_85 (lv_at hl 0 rfl) ?_
    refine lv_bipush (v := nI 8) hx hb d_K_digest_87 (by decide +kernel) ?_
    refine kn_ge (tgt := 126) hx hb (by omega) (by omega) d_K_digest_89 (by decide) (fun _ => ?_) (fun hc => absurd hc (by omega))
    exact K H locs ls  hl ⟨hP, hD, hS⟩ 
  | succ n ih =>
    intro k H locs ls  hn hl hw  K
    obtain ⟨hP, hD, hS⟩ := hw
    refine lv_iload hx hb d_K_digest_85 (lv_at hl 0 rfl) ?_
    refine lv_bipush (v := nI 8) hx hb d_K_digest_87 (by decide +kernel) ?_
    refine kn_ge (tgt := 126) hx hb (by omega) (by omega) d_K_digest_89 (by decide) (fun hc => absurd hc (by omega)) (fun _ => ?_)
    refine lv_lload hx hb d_K_digest_92 (lv_at hl 1 rfl) ?_
    refine lv_bipush (v := nI 8) hx hb d_K_digest_94 (by decide +kernel) ?_
    refine lv_lshl hx hb d_K_digest_96 rfl ?_
    refine lv_aload_n hx hb d_K_digest_97 rfl (lv_at hl 2 rfl) ?_
    refine kg_K hx hb hts hown hK hP 0 rfl 1 (by decide) kw_39 (v := .ref (h 3)) rfl d_K_digest_98 ?_
    refine lv_sipush (v := nI 200) hx hb d_K_digest_101 (by decide +kernel) ?_
    refine lv_iload_n hx hb d_K_digest_104 rfl (lv_at hl 3 rfl) ?_
    refine kn_add hx hb d_K_digest_105 ?_
    refine ka_lald (f := L) hx hb hK hP 3 0 rfl rfl (i := 200 + i) (by omega) (by decide) d_K_digest_106 ?_
    refine lv_bipush (v := nI 8) hx hb d_K_digest_107 (by decide +kernel) ?_
    refine lv_iload hx hb d_K_digest_109 (lv_at hl 0 rfl) ?_
    refine kn_mul hx hb d_K_digest_111 ?_
    refine lv_lushr hx hb d_K_digest_112 rfl ?_
    refine lv_ldc2 (v := (255)) hx hb hown (hts _ kw_131) d_K_digest_113 ?_
    refine lv_land hx hb d_K_digest_116 ?_
    refine lv_lor hx hb d_K_digest_117 ?_
    refine kv_l (y := (kc_dig (L (200 + i)) (k + 1))) (rfl) ?_
    refine lv_lstore hx hb d_K_digest_118 hl (by decide) rfl (fun ls hl => ?_)
    have hl : lv_has ls 7 [(4, .long (kc_dig (L (200 + i)) (k + 1))), (6, .int (nI (k))), (0, .ref (h 0)), (2, .int (nI (i)))] := hl
    refine lv_iinc (k := 1) hx hb d_K_digest_120 hl rfl (kn_i1 _) (by decide) rfl (fun ls hl => ?_)
    have hl : lv_has ls 7 [(6, .int (nI (k + 1))), (4, .long (kc_dig (L (200 + i)) (k + 1))), (0, .ref (h 0)), (2, .int (nI (i)))] := hl
    refine lv_goto (tgt := 85) hx hb d_K_digest_123 (by decide) ?_
    have hl : lv_has ls 7 [(6, .int (nI (k + 1))), (4, .long (kc_dig (L (200 + i)) (k + 1))), (0, .ref (h 0)), (2, .int (nI (i)))] := lv_sub hl [0, 1, 2, 3] rfl
    exact ih (k + 1) H locs ls (by omega) hl ⟨hP, hD, hS⟩ K
end KLO
set_option maxHeartbeats 4000000 in
theorem c_K_move (l : Launch) (D : va_G) (h : Nat → Nat) (cJ cI cX : ClassId) (P : Nat → Int32) (L N Sd : Nat → Int64) (sz : Nat) (a b : Nat) (ha : a < 9) (hb9 : b < 9) : kc_Mv l y_K_move w_K_move r_0 [.ref (h 0), .int (nI a), .int (nI b)] D (kc_ty cJ cI cX) (kc_C h cJ cI P L N Sd) sz (fun u : Nat → Int64 => kc_eq (kc_row u b) (kc_row L a) ∧ kc_fr b u L) (fun u => kc_C h cJ cI (upd P b (P a)) u N Sd) 0 0 := by
  refine kc_ofWv (cc := b_K_move) (maxL := 4) (by decide) rfl (Nat.le_of_ble_eq_true rfl) ?_
  intro p e s m below meth c A ls S hr hlk hin hK hP hD hA hl hsz
  obtain ⟨hx, hb, hml, hown, hts⟩ := S
  have hS : va_S A s.heap s.heap [] := va_S.rf
  have hl : lv_has ls 4 [(0, .ref (h 0)), (1, .int (nI (a))), (2, .int (nI (b)))] := hl
  obtain ⟨H, hH⟩ : ∃ H, H = s.heap := ⟨_, rfl⟩
  obtain ⟨locs, hlo⟩ : ∃ q : List Loc, q = [] := ⟨_, rfl⟩
  rw [← hlo] at hS ⊢
  have hP : va_P D kc_cl _ H := hH ▸ hP
  have hS : va_S A s.heap H locs := by rw [hH]; exact hS
  refine (show W _ _ _ _ _ _ _ _ _ _ H _ _ _ _ _ → W _ _ _ _ _ _ _ _ _ _ s.heap _ _ _ _ _ from by rw [hH]; exact id) ?_
  clear hlo hH
  refine lv_iconst (v := nI 0) hx hb d_K_move_0 (by decide +kernel) ?_
  refine lv_istore_n hx hb d_K_move_1 rfl hl (by decide) rfl (fun ls hl => ?_)
  have hl : lv_has ls 4 [(3, .int (nI (0))), (0, .ref (h 0)), (1, .int (nI (a))), (2, .int (nI (b)))] := hl
  have hl : lv_has ls 4 [(3, .int (nI (0))), (0, .ref (h 0)), (1, .int (nI (a))), (2, .int (nI (b)))] := lv_sub hl [0, 1, 2, 3] rfl
  refine K_move_L ⟨hx, hb, hml, hown, hts⟩ hK (L0 := L) ha hb9 25 0 H locs ls L (by omega) hl ⟨hP, hD, hS⟩ ⟨fun c hc => absurd hc (by omega), fun j _ => rfl⟩ (fun H locs ls L1 hl hw hinv => ?_)
  obtain ⟨hP, hD, hS⟩ := hw
  refine lv_aload_n hx hb d_K_move_36 rfl (lv_at hl 1 rfl) ?_
  refine kg_K hx hb hts hown hK hP 0 rfl 2 (by decide) kw_40 (v := .ref (h 1)) rfl d_K_move_37 ?_
  refine lv_iload_n hx hb d_K_move_40 rfl (lv_at hl 3 rfl) ?_
  refine lv_aload_n hx hb d_K_move_41 rfl (lv_at hl 1 rfl) ?_
  refine kg_K hx hb hts hown hK hP 0 rfl 2 (by decide) kw_40 (v := .ref (h 1)) rfl d_K_move_42 ?_
  refine lv_iload_n hx hb d_K_move_45 rfl (lv_at hl 2 rfl) ?_
  refine ka_iald (f := P) hx hb hK hP 1 1 rfl rfl (i := a) (by omega) (by decide) d_K_move_46 ?_
  refine ka_iast (f := P) hx hb hK hP hD hS 1 1 rfl rfl (i := b) (by omega) (by decide) d_K_move_47 (fun H locs hP hD hS => ?_)
  have hP : va_P D kc_cl (kc_C h cJ cI (upd P b (P (a))) (L1) (N) (Sd)) H := hP
  have hD : va_D A (kc_C h cJ cI (upd P b (P (a))) (L1) (N) (Sd)) := hD
  exact kc_vret hx hb hr hlk L1 ⟨fun c hc => hinv.1 c hc, fun j hj => hinv.2 j hj⟩ hP hD hS d_K_move_48
set_option maxHeartbeats 4000000 in
theorem c_K_clear_v (l : Launch) (D : va_G) (h : Nat → Nat) (cJ cI cX : ClassId) (P : Nat → Int32) (L N Sd : Nat → Int64) (sz : Nat) (q : Nat) (hq : q < 8) : kc_Mv l y_K_clear w_K_clear r_Kv [.ref (h 0), .int (nI q)] D (kc_ty cJ cI cX) (kc_C h cJ cI P L N Sd) sz (fun u : Nat → Int64 => (∀ c, c < 25 → u (25 * q + c) = 0) ∧ kc_fr q u L) (fun u => kc_C h cJ cI (upd P q (nI 0)) u N Sd) 0 0 := by
  refine kc_ofWv (cc := b_K_clear) (maxL := 3) (by decide) rfl (Nat.le_of_ble_eq_true rfl) ?_
  intro p e s m below meth c A ls S hr hlk hin hK hP hD hA hl hsz
  obtain ⟨hx, hb, hml, hown, hts⟩ := S
  have hS : va_S A s.heap s.heap [] := va_S.rf
  have hl : lv_has ls 3 [(0, .ref (h 0)), (1, .int (nI (q)))] := hl
  obtain ⟨H, hH⟩ : ∃ H, H = s.heap := ⟨_, rfl⟩
  obtain ⟨locs, hlo⟩ : ∃ q : List Loc, q = [] := ⟨_, rfl⟩
  rw [← hlo] at hS ⊢
  have hP : va_P D kc_cl _ H := hH ▸ hP
  have hS : va_S A s.heap H locs := by rw [hH]; exact hS
  refine (show W _ _ _ _ _ _ _ _ _ _ H _ _ _ _ _ → W _ _ _ _ _ _ _ _ _ _ s.heap _ _ _ _ _ from by rw [hH]; exact id) ?_
  clear hlo hH
  refine lv_iload_n hx hb d_K_clear_0 rfl (lv_at hl 1 rfl) ?_
  refine lv_bipush (v := nI 7) hx hb d_K_clear_1 (by decide +kernel) ?_
  refine va_csv (va_Run.run (va_runS (As := [.int (nI (q)), .int (nI (7))]) (rest := []) ⟨hx, hb, hml, hown, hts⟩ (c_K_in_v l q 7 (by omega) (by omega)) (va_cwS 2 hts (kc_inS kw_56 kw_57 kw_1 kw_58) rfl rfl rfl (by decide +kernel) ⟨by decide, by decide⟩) kc_preP rfl rfl hl.1 rfl (lv_room (Nat.le_of_ble_eq_true rfl)) d_K_clear_3 ⟨by decide, by decide⟩)) (fun _ => ?_)
  refine lv_iconst (v := nI 0) hx hb d_K_clear_6 (by decide +kernel) ?_
  refine lv_istore_n hx hb d_K_clear_7 rfl hl (by decide) rfl (fun ls hl => ?_)
  have hl : lv_has ls 3 [(2, .int (nI (0))), (0, .ref (h 0)), (1, .int (nI (q)))] := hl
  have hl : lv_has ls 3 [(2, .int (nI (0))), (0, .ref (h 0)), (1, .int (nI (q)))] := lv_sub hl [0, 1, 2] rfl
  refine K_clear_L ⟨hx, hb, hml, hown, hts⟩ hK (L0 := L) (by omega) 25 0 H locs ls L (by omega) hl ⟨hP, hD, hS⟩ ⟨fun c hc => absurd hc (by omega), kc_fr_rf⟩ (fun H locs ls L1 hl hw hinv => ?_)
  obtain ⟨hP, hD, hS⟩ := hw
  refine lv_aload_n hx hb d_K_clear_32 rfl (lv_at hl 1 rfl) ?_
  refine kg_K hx hb hts hown hK hP 0 rfl 2 (by decide) kw_40 (v := .ref (h 1)) rfl d_K_clear_33 ?_
  refine lv_iload_n hx hb d_K_clear_36 rfl (lv_at hl 2 rfl) ?_
  refine lv_iconst (v := nI 0) hx hb d_K_clear_37 (by decide +kernel) ?_
  refine ka_iast (f := P) hx hb hK hP hD hS 1 1 rfl rfl (i := q) (by omega) (by decide) d_K_clear_38 (fun H locs hP hD hS => ?_)
  have hP : va_P D kc_cl (kc_C h cJ cI (upd P (q) (nI (0))) (L1) (N) (Sd)) H := hP
  have hD : va_D A (kc_C h cJ cI (upd P (q) (nI (0))) (L1) (N) (Sd)) := hD
  exact kc_vret hx hb hr hlk L1 hinv hP hD hS d_K_clear_39
set_option maxHeartbeats 4000000 in
theorem c_K_take_v (l : Launch) (D : va_G) (h : Nat → Nat) (cJ cI cX : ClassId) (P : Nat → Int32) (L N Sd : Nat → Int64) (sz : Nat) (q n pp : Nat) (v : Int64) (hq : q < 8) (hn : n ≤ 8) (hpp : P q = nI pp) (hlt : pp < 136) : kc_Mi l y_K_take w_K_take r_Kv [.ref (h 0), .int (nI q), .long v, .int (nI n)] D (kc_ty cJ cI cX) (kc_C h cJ cI P L N Sd) sz (fun r (u : (Nat → Int32) × (Nat → Int64) × (Nat → Int64) × (Nat → Int64)) => kc_eq (kc_row u.2.1 q) (kc_steps (kc_vs v) n (kc_row L q, pp)).1 ∧ u.1 q = nI (kc_steps (kc_vs v) n (kc_row L q, pp)).2 ∧ (∀ i, i ≠ q → u.1 i = P i) ∧ kc_fr q u.2.1 L ∧ r = nI (kc_steps (kc_vs v) n (kc_row L q, pp)).2) (fun u => kc_C h cJ cI u.1 u.2.1 u.2.2.1 u.2.2.2) 0 0 := by
  refine kc_ofWi (cc := b_K_take) (maxL := 6) (by decide) rfl (Nat.le_of_ble_eq_true rfl) ?_
  intro p e s m below meth c A ls S hr hlk hin hK hP hD hA hl hsz
  obtain ⟨hx, hb, hml, hown, hts⟩ := S
  have hS : va_S A s.heap s.heap [] := va_S.rf
  have hl : lv_has ls 6 [(0, .ref (h 0)), (1, .int (nI (q))), (2, .long (v)), (4, .int (nI (n)))] := hl
  obtain ⟨H, hH⟩ : ∃ H, H = s.heap := ⟨_, rfl⟩
  obtain ⟨locs, hlo⟩ : ∃ q : List Loc, q = [] := ⟨_, rfl⟩
  rw [← hlo] at hS ⊢
  have hP : va_P D kc_cl _ H := hH ▸ hP
  have hS : va_S A s.heap H locs := by rw [hH]; exact hS
  refine (show W _ _ _ _ _ _ _ _ _ _ H _ _ _ _ _ → W _ _ _ _ _ _ _ _ _ _ s.heap _ _ _ _ _ from by rw [hH]; exact id) ?_
  clear hlo hH
  refine lv_iload_n hx hb d_K_take_0 rfl (lv_at hl 1 rfl) ?_
  refine lv_bipush (v := nI 7) hx hb d_K_take_1 (by decide +kernel) ?_
  refine va_csv (va_Run.run (va_runS (As := [.int (nI (q)), .int (nI (7))]) (rest := []) ⟨hx, hb, hml, hown, hts⟩ (c_K_in_v l q 7 (by omega) (by omega)) (va_cwS 2 hts (kc_inS kw_56 kw_57 kw_1 kw_58) rfl rfl rfl (by decide +kernel) ⟨by decide, by decide⟩) kc_preP rfl rfl hl.1 rfl (lv_room (Nat.le_of_ble_eq_true rfl)) d_K_take_3 ⟨by decide, by decide⟩)) (fun _ => ?_)
  refine lv_iload hx hb d_K_take_6 (lv_at hl 3 rfl) ?_
  refine lv_bipush (v := nI 8) hx hb d_K_take_8 (by decide +kernel) ?_
  refine va_csv (va_Run.run (va_runS (As := [.int (nI (n)), .int (nI (8))]) (rest := []) ⟨hx, hb, hml, hown, hts⟩ (c_K_in_v l n 8 (by omega) (by omega)) (va_cwS 2 hts (kc_inS kw_56 kw_57 kw_1 kw_58) rfl rfl rfl (by decide +kernel) ⟨by decide, by decide⟩) kc_preP rfl rfl hl.1 rfl (lv_room (Nat.le_of_ble_eq_true rfl)) d_K_take_10 ⟨by decide, by decide⟩)) (fun _ => ?_)
  refine lv_iconst (v := nI 0) hx hb d_K_take_13 (by decide +kernel) ?_
  refine lv_istore hx hb d_K_take_14 hl (by decide) rfl (fun ls hl => ?_)
  have hl : lv_has ls 6 [(5, .int (nI (0))), (0, .ref (h 0)), (1, .int (nI (q))), (2, .long (v)), (4, .int (nI (n)))] := hl
  have hl : lv_has ls 6 [(5, .int (nI (0))), (0, .ref (h 0)), (1, .int (nI (q))), (2, .long (v)), (4, .int (nI (n)))] := lv_sub hl [0, 1, 2, 3, 4] rfl
  refine K_take_L ⟨hx, hb, hml, hown, hts⟩ hK (P0 := P) (L0 := L) (q0 := (kc_row L q, pp)) (Nn := n) hA (by omega) (by omega) hlt n 0 H locs ls P L N Sd (by omega) hl ⟨hP, hD, hS⟩ kc_eq.rf hpp (fun i _ => rfl) kc_fr_rf (fun H locs ls P1 L1 N1 S1 hl hw hLa hPj hPo hfr => ?_)
  obtain ⟨hP, hD, hS⟩ := hw
  refine lv_aload_n hx hb d_K_take_41 rfl (lv_at hl 1 rfl) ?_
  refine kg_K hx hb hts hown hK hP 0 rfl 2 (by decide) kw_40 (v := .ref (h 1)) rfl d_K_take_42 ?_
  refine lv_iload_n hx hb d_K_take_45 rfl (lv_at hl 2 rfl) ?_
  refine ka_iald (f := P1) hx hb hK hP 1 1 rfl rfl (i := q) (by omega) (by decide) d_K_take_46 ?_
  exact kc_iret hx hb hr hlk (P1, L1, N1, S1) ⟨hLa, hPj, hPo, hfr, hPj⟩ hP hD hS d_K_take_47
set_option maxHeartbeats 4000000 in
theorem c_K_fill_v (l : Launch) (D : va_G) (h : Nat → Nat) (cJ cI cX : ClassId) (P : Nat → Int32) (L N Sd : Nat → Int64) (sz : Nat) (q n pp : Nat) (v st : Int32) (hq : q < 8) (hn : n ≤ 2000) (hpp : P q = nI pp) (hlt : pp < 136) : kc_Mi l y_K_fill w_K_fill r_Kv [.ref (h 0), .int (nI q), .int v, .int st, .int (nI n)] D (kc_ty cJ cI cX) (kc_C h cJ cI P L N Sd) sz (fun r (u : (Nat → Int32) × (Nat → Int64) × (Nat → Int64) × (Nat → Int64)) => kc_eq (kc_row u.2.1 q) (kc_steps (kc_fs v st) n (kc_row L q, pp)).1 ∧ u.1 q = nI (kc_steps (kc_fs v st) n (kc_row L q, pp)).2 ∧ (∀ i, i ≠ q → u.1 i = P i) ∧ kc_fr q u.2.1 L ∧ r = nI (kc_steps (kc_fs v st) n (kc_row L q, pp)).2) (fun u => kc_C h cJ cI u.1 u.2.1 u.2.2.1 u.2.2.2) 0 0 := by
  refine kc_ofWi (cc := b_K_fill) (maxL := 6) (by decide) rfl (Nat.le_of_ble_eq_true rfl) ?_
  intro p e s m below meth c A ls S hr hlk hin hK hP hD hA hl hsz
  obtain ⟨hx, hb, hml, hown, hts⟩ := S
  have hS : va_S A s.heap s.heap [] := va_S.rf
  have hl : lv_has ls 6 [(0, .ref (h 0)), (1, .int (nI (q))), (2, .int (v)), (3, .int (st)), (4, .int (nI (n)))] := hl
  obtain ⟨H, hH⟩ : ∃ H, H = s.heap := ⟨_, rfl⟩
  obtain ⟨locs, hlo⟩ : ∃ q : List Loc, q = [] := ⟨_, rfl⟩
  rw [← hlo] at hS ⊢
  have hP : va_P D kc_cl _ H := hH ▸ hP
  have hS : va_S A s.heap H locs := by rw [hH]; exact hS
  refine (show W _ _ _ _ _ _ _ _ _ _ H _ _ _ _ _ → W _ _ _ _ _ _ _ _ _ _ s.heap _ _ _ _ _ from by rw [hH]; exact id) ?_
  clear hlo hH
  refine lv_iload_n hx hb d_K_fill_0 rfl (lv_at hl 1 rfl) ?_
  refine lv_bipush (v := nI 7) hx hb d_K_fill_1 (by decide +kernel) ?_
  refine va_csv (va_Run.run (va_runS (As := [.int (nI (q)), .int (nI (7))]) (rest := []) ⟨hx, hb, hml, hown, hts⟩ (c_K_in_v l q 7 (by omega) (by omega)) (va_cwS 2 hts (kc_inS kw_56 kw_57 kw_1 kw_58) rfl rfl rfl (by decide +kernel) ⟨by decide, by decide⟩) kc_preP rfl rfl hl.1 rfl (lv_room (Nat.le_of_ble_eq_true rfl)) d_K_fill_3 ⟨by decide, by decide⟩)) (fun _ => ?_)
  refine lv_iload hx hb d_K_fill_6 (lv_at hl 4 rfl) ?_
  refine lv_sipush (v := nI 2000) hx hb d_K_fill_8 (by decide +kernel) ?_
  refine va_csv (va_Run.run (va_runS (As := [.int (nI (n)), .int (nI (2000))]) (rest := []) ⟨hx, hb, hml, hown, hts⟩ (c_K_in_v l n 2000 (by omega) (by omega)) (va_cwS 2 hts (kc_inS kw_56 kw_57 kw_1 kw_58) rfl rfl rfl (by decide +kernel) ⟨by decide, by decide⟩) kc_preP rfl rfl hl.1 rfl (lv_room (Nat.le_of_ble_eq_true rfl)) d_K_fill_11 ⟨by decide, by decide⟩)) (fun _ => ?_)
  refine lv_iconst (v := nI 0) hx hb d_K_fill_14 (by decide +kernel) ?_
  refine lv_istore hx hb d_K_fill_15 hl (by decide) rfl (fun ls hl => ?_)
  have hl : lv_has ls 6 [(5, .int (nI (0))), (0, .ref (h 0)), (1, .int (nI (q))), (2, .int (v)), (3, .int (st)), (4, .int (nI (n)))] := hl
  have hl : lv_has ls 6 [(5, .int (nI (0))), (0, .ref (h 0)), (1, .int (nI (q))), (2, .int (v)), (3, .int (st)), (4, .int (nI (n)))] := lv_sub hl [0, 1, 2, 3, 4, 5] rfl
  refine K_fill_L ⟨hx, hb, hml, hown, hts⟩ hK (P0 := P) (L0 := L) (q0 := (kc_row L q, pp)) (Nn := n) hA (by omega) (by omega) hlt n 0 H locs ls P L N Sd (by omega) hl ⟨hP, hD, hS⟩ kc_eq.rf hpp (fun i _ => rfl) kc_fr_rf (fun H locs ls P1 L1 N1 S1 hl hw hLa hPj hPo hfr => ?_)
  obtain ⟨hP, hD, hS⟩ := hw
  refine lv_aload_n hx hb d_K_fill_42 rfl (lv_at hl 1 rfl) ?_
  refine kg_K hx hb hts hown hK hP 0 rfl 2 (by decide) kw_40 (v := .ref (h 1)) rfl d_K_fill_43 ?_
  refine lv_iload_n hx hb d_K_fill_46 rfl (lv_at hl 2 rfl) ?_
  refine ka_iald (f := P1) hx hb hK hP 1 1 rfl rfl (i := q) (by omega) (by decide) d_K_fill_47 ?_
  exact kc_iret hx hb hr hlk (P1, L1, N1, S1) ⟨hLa, hPj, hPo, hfr, hPj⟩ hP hD hS d_K_fill_48
set_option maxHeartbeats 4000000 in
theorem c_K_copy_v (l : Launch) (D : va_G) (h : Nat → Nat) (cJ cI cX : ClassId) (P : Nat → Int32) (L N Sd : Nat → Int64) (sz : Nat) (a b : Nat) (ha : a < 8) (hb8 : b < 8) : kc_Mv l y_K_copy w_K_copy r_Kv [.ref (h 0), .int (nI a), .int (nI b)] D (kc_ty cJ cI cX) (kc_C h cJ cI P L N Sd) sz (fun u : Nat → Int64 => kc_eq (kc_row u b) (kc_row L a) ∧ kc_fr b u L) (fun u => kc_C h cJ cI (upd P b (P a)) u N Sd) 0 0 := by
  refine kc_ofWv (cc := b_K_copy) (maxL := 3) (by decide) rfl (Nat.le_of_ble_eq_true rfl) ?_
  intro p e s m below meth c A ls S hr hlk hin hK hP hD hA hl hsz
  obtain ⟨hx, hb, hml, hown, hts⟩ := S
  have hS : va_S A s.heap s.heap [] := va_S.rf
  have hl : lv_has ls 3 [(0, .ref (h 0)), (1, .int (nI (a))), (2, .int (nI (b)))] := hl
  obtain ⟨H, hH⟩ : ∃ H, H = s.heap := ⟨_, rfl⟩
  obtain ⟨locs, hlo⟩ : ∃ q : List Loc, q = [] := ⟨_, rfl⟩
  rw [← hlo] at hS ⊢
  have hP : va_P D kc_cl _ H := hH ▸ hP
  have hS : va_S A s.heap H locs := by rw [hH]; exact hS
  refine (show W _ _ _ _ _ _ _ _ _ _ H _ _ _ _ _ → W _ _ _ _ _ _ _ _ _ _ s.heap _ _ _ _ _ from by rw [hH]; exact id) ?_
  clear hlo hH
  refine lv_iload_n hx hb d_K_copy_0 rfl (lv_at hl 1 rfl) ?_
  refine lv_bipush (v := nI 7) hx hb d_K_copy_1 (by decide +kernel) ?_
  refine va_csv (va_Run.run (va_runS (As := [.int (nI (a)), .int (nI (7))]) (rest := []) ⟨hx, hb, hml, hown, hts⟩ (c_K_in_v l a 7 (by omega) (by omega)) (va_cwS 2 hts (kc_inS kw_56 kw_57 kw_1 kw_58) rfl rfl rfl (by decide +kernel) ⟨by decide, by decide⟩) kc_preP rfl rfl hl.1 rfl (lv_room (Nat.le_of_ble_eq_true rfl)) d_K_copy_3 ⟨by decide, by decide⟩)) (fun _ => ?_)
  refine lv_iload_n hx hb d_K_copy_6 rfl (lv_at hl 2 rfl) ?_
  refine lv_bipush (v := nI 7) hx hb d_K_copy_7 (by decide +kernel) ?_
  refine va_csv (va_Run.run (va_runS (As := [.int (nI (b)), .int (nI (7))]) (rest := []) ⟨hx, hb, hml, hown, hts⟩ (c_K_in_v l b 7 (by omega) (by omega)) (va_cwS 2 hts (kc_inS kw_56 kw_57 kw_1 kw_58) rfl rfl rfl (by decide +kernel) ⟨by decide, by decide⟩) kc_preP rfl rfl hl.1 rfl (lv_room (Nat.le_of_ble_eq_true rfl)) d_K_copy_9 ⟨by decide, by decide⟩)) (fun _ => ?_)
  refine lv_aload_n hx hb d_K_copy_12 rfl (lv_at hl 0 rfl) ?_
  refine lv_iload_n hx hb d_K_copy_13 rfl (lv_at hl 1 rfl) ?_
  refine lv_iload_n hx hb d_K_copy_14 rfl (lv_at hl 2 rfl) ?_
  refine kc_goV (wr := []) (ws := kc_C h cJ cI (P) (L) (N) (Sd)) (va_runV (As := [.int (nI (a)), .int (nI (b))]) (rest := []) ⟨hx, hb, hml, hown, hts⟩ (c_K_move l D h cJ cI cX P L N Sd H.size a b (by omega) (by omega)) (cwV 2 hts (kc_inV kw_154 kw_156 ks_2 kw_1 kw_157) rfl rfl rfl (by decide +kernel) ⟨by decide, by decide⟩) (kc_preV (wr := []) (q0 := 0) (ci := 0) hK hP hD rfl rfl) rfl rfl hl.1 rfl (lv_room (Nat.le_of_ble_eq_true rfl)) d_K_copy_15 ⟨by decide, by decide⟩) hP hD hS hA (fun u H locs hp hP hD hS => ?_)
  obtain ⟨L1, e_L1⟩ : ∃ z, z = u := ⟨_, rfl⟩
  rw [← e_L1] at hp hP hD
  have hP : va_P D kc_cl (kc_C h cJ cI (upd P b (P a)) (L1) (N) (Sd)) H := hP
  have hD : va_D A (kc_C h cJ cI (upd P b (P a)) (L1) (N) (Sd)) := hD
  obtain ⟨hm1, hm2⟩ : kc_eq (kc_row L1 b) (kc_row L a) ∧ kc_fr b L1 L := hp
  exact kc_vret hx hb hr hlk L1 ⟨hm1, hm2⟩ hP hD hS d_K_copy_18
set_option maxHeartbeats 4000000 in
theorem c_K_mix_v (l : Launch) (D : va_G) (h : Nat → Nat) (cJ cI cX : ClassId) (P : Nat → Int32) (L N Sd : Nat → Int64) (sz : Nat) (q : Nat) (hq : q < 8) : kc_Mv l y_K_mix w_K_mix r_Kv [.ref (h 0), .int (nI q)] D (kc_ty cJ cI cX) (kc_C h cJ cI P L N Sd) sz (fun u : (Nat → Int64) × (Nat → Int64) × (Nat → Int64) => kc_eq (kc_row u.1 q) (kc_perm 24 (kc_row L q)) ∧ kc_fr q u.1 L) (fun u => kc_C h cJ cI P u.1 u.2.1 u.2.2) 0 0 := by
  refine kc_ofWv (cc := b_K_mix) (maxL := 2) (by decide) rfl (Nat.le_of_ble_eq_true rfl) ?_
  intro p e s m below meth c A ls S hr hlk hin hK hP hD hA hl hsz
  obtain ⟨hx, hb, hml, hown, hts⟩ := S
  have hS : va_S A s.heap s.heap [] := va_S.rf
  have hl : lv_has ls 2 [(0, .ref (h 0)), (1, .int (nI (q)))] := hl
  obtain ⟨H, hH⟩ : ∃ H, H = s.heap := ⟨_, rfl⟩
  obtain ⟨locs, hlo⟩ : ∃ q : List Loc, q = [] := ⟨_, rfl⟩
  rw [← hlo] at hS ⊢
  have hP : va_P D kc_cl _ H := hH ▸ hP
  have hS : va_S A s.heap H locs := by rw [hH]; exact hS
  refine (show W _ _ _ _ _ _ _ _ _ _ H _ _ _ _ _ → W _ _ _ _ _ _ _ _ _ _ s.heap _ _ _ _ _ from by rw [hH]; exact id) ?_
  clear hlo hH
  refine lv_iload_n hx hb d_K_mix_0 rfl (lv_at hl 1 rfl) ?_
  refine lv_bipush (v := nI 7) hx hb d_K_mix_1 (by decide +kernel) ?_
  refine va_csv (va_Run.run (va_runS (As := [.int (nI (q)), .int (nI (7))]) (rest := []) ⟨hx, hb, hml, hown, hts⟩ (c_K_in_v l q 7 (by omega) (by omega)) (va_cwS 2 hts (kc_inS kw_56 kw_57 kw_1 kw_58) rfl rfl rfl (by decide +kernel) ⟨by decide, by decide⟩) kc_preP rfl rfl hl.1 rfl (lv_room (Nat.le_of_ble_eq_true rfl)) d_K_mix_3 ⟨by decide, by decide⟩)) (fun _ => ?_)
  refine lv_aload_n hx hb d_K_mix_6 rfl (lv_at hl 0 rfl) ?_
  refine kg_K hx hb hts hown hK hP 0 rfl 0 (by decide) kw_38 (v := .ref (h 2)) rfl d_K_mix_7 ?_
  refine lv_aload_n hx hb d_K_mix_10 rfl (lv_at hl 0 rfl) ?_
  refine kg_K hx hb hts hown hK hP 0 rfl 1 (by decide) kw_39 (v := .ref (h 3)) rfl d_K_mix_11 ?_
  refine lv_bipush (v := nI 25) hx hb d_K_mix_14 (by decide +kernel) ?_
  refine lv_iload_n hx hb d_K_mix_16 rfl (lv_at hl 1 rfl) ?_
  refine kn_mul hx hb d_K_mix_17 ?_
  refine kc_goV (wr := []) (ws := kc_C h cJ cI (P) (L) (N) (Sd)) (va_runV (As := [.ref (h 3), .int (nI (25 * q))]) (rest := []) ⟨hx, hb, hml, hown, hts⟩ (c_X_mix l D h cJ cI cX P L N Sd q H.size (by omega)) (cwV 2 hts (kc_inV kw_132 kw_133 kw_134 kw_2 kw_135) rfl rfl rfl (by decide +kernel) ⟨by decide, by decide⟩) (kc_preV (wr := []) (q0 := 2) (ci := 1) hK hP hD rfl rfl) rfl rfl hl.1 rfl (lv_room (Nat.le_of_ble_eq_true rfl)) d_K_mix_18 ⟨by decide, by decide⟩) hP hD hS hA (fun u H locs hp hP hD hS => ?_)
  obtain ⟨L1, N1, S1⟩ := u
  have hP : va_P D kc_cl (kc_C h cJ cI (P) (L1) (N1) (S1)) H := hP
  have hD : va_D A (kc_C h cJ cI (P) (L1) (N1) (S1)) := hD
  obtain ⟨hpm, hfx⟩ : kc_eq (kc_row L1 q) (kc_perm 24 (kc_row L q)) ∧ kc_fr q L1 L := hp
  exact kc_vret hx hb hr hlk (L1, N1, S1) ⟨hpm, hfx⟩ hP hD hS d_K_mix_21
set_option maxHeartbeats 4000000 in
theorem c_K_lane_v (l : Launch) (D : va_G) (h : Nat → Nat) (cJ cI cX : ClassId) (P : Nat → Int32) (L N Sd : Nat → Int64) (sz : Nat) (q i : Nat) (hq : q < 8) (hi : i < 25) : kc_Ml l y_K_lane w_K_lane r_Kv [.ref (h 0), .int (nI q), .int (nI i)] D (kc_ty cJ cI cX) (kc_C h cJ cI P L N Sd) sz (fun r (_ : Unit) => r = L (25 * q + i)) (fun _ => kc_C h cJ cI P L N Sd) 0 0 := by
  refine kc_ofWl (cc := b_K_lane) (maxL := 3) (by decide) rfl (Nat.le_of_ble_eq_true rfl) ?_
  intro p e s m below meth c A ls S hr hlk hin hK hP hD hA hl hsz
  obtain ⟨hx, hb, hml, hown, hts⟩ := S
  have hS : va_S A s.heap s.heap [] := va_S.rf
  have hl : lv_has ls 3 [(0, .ref (h 0)), (1, .int (nI (q))), (2, .int (nI (i)))] := hl
  obtain ⟨H, hH⟩ : ∃ H, H = s.heap := ⟨_, rfl⟩
  obtain ⟨locs, hlo⟩ : ∃ q : List Loc, q = [] := ⟨_, rfl⟩
  rw [← hlo] at hS ⊢
  have hP : va_P D kc_cl _ H := hH ▸ hP
  have hS : va_S A s.heap H locs := by rw [hH]; exact hS
  refine (show W _ _ _ _ _ _ _ _ _ _ H _ _ _ _ _ → W _ _ _ _ _ _ _ _ _ _ s.heap _ _ _ _ _ from by rw [hH]; exact id) ?_
  clear hlo hH
  refine lv_iload_n hx hb d_K_lane_0 rfl (lv_at hl 1 rfl) ?_
  refine lv_bipush (v := nI 7) hx hb d_K_lane_1 (by decide +kernel) ?_
  refine va_csv (va_Run.run (va_runS (As := [.int (nI (q)), .int (nI (7))]) (rest := []) ⟨hx, hb, hml, hown, hts⟩ (c_K_in_v l q 7 (by omega) (by omega)) (va_cwS 2 hts (kc_inS kw_56 kw_57 kw_1 kw_58) rfl rfl rfl (by decide +kernel) ⟨by decide, by decide⟩) kc_preP rfl rfl hl.1 rfl (lv_room (Nat.le_of_ble_eq_true rfl)) d_K_lane_3 ⟨by decide, by decide⟩)) (fun _ => ?_)
  refine lv_iload_n hx hb d_K_lane_6 rfl (lv_at hl 2 rfl) ?_
  refine lv_bipush (v := nI 24) hx hb d_K_lane_7 (by decide +kernel) ?_
  refine va_csv (va_Run.run (va_runS (As := [.int (nI (i)), .int (nI (24))]) (rest := []) ⟨hx, hb, hml, hown, hts⟩ (c_K_in_v l i 24 (by omega) (by omega)) (va_cwS 2 hts (kc_inS kw_56 kw_57 kw_1 kw_58) rfl rfl rfl (by decide +kernel) ⟨by decide, by decide⟩) kc_preP rfl rfl hl.1 rfl (lv_room (Nat.le_of_ble_eq_true rfl)) d_K_lane_9 ⟨by decide, by decide⟩)) (fun _ => ?_)
  refine lv_aload_n hx hb d_K_lane_12 rfl (lv_at hl 0 rfl) ?_
  refine kg_K hx hb hts hown hK hP 0 rfl 1 (by decide) kw_39 (v := .ref (h 3)) rfl d_K_lane_13 ?_
  refine lv_bipush (v := nI 25) hx hb d_K_lane_16 (by decide +kernel) ?_
  refine lv_iload_n hx hb d_K_lane_18 rfl (lv_at hl 1 rfl) ?_
  refine kn_mul hx hb d_K_lane_19 ?_
  refine lv_iload_n hx hb d_K_lane_20 rfl (lv_at hl 2 rfl) ?_
  refine kn_add hx hb d_K_lane_21 ?_
  refine ka_lald (f := L) hx hb hK hP 3 0 rfl rfl (i := 25 * q + i) (by omega) (by decide) d_K_lane_22 ?_
  exact kc_lret hx hb hr hlk () rfl hP hD hS d_K_lane_23
set_option maxHeartbeats 4000000 in
theorem c_K_digest_v (l : Launch) (D : va_G) (h : Nat → Nat) (cJ cI cX : ClassId) (P : Nat → Int32) (L N Sd : Nat → Int64) (sz : Nat) (q i pp : Nat) (hq : q < 8) (hi : i < 4) (hpp : P q = nI pp) (hlt : pp < 136) : kc_Ml l y_K_digest w_K_digest r_Kv [.ref (h 0), .int (nI q), .int (nI i)] D (kc_ty cJ cI cX) (kc_C h cJ cI P L N Sd) sz (fun r (u : (Nat → Int64) × (Nat → Int64) × (Nat → Int64)) => r = kc_dig (kc_perm 24 (kc_pad (kc_row L q) pp) i) 8 ∧ kc_fr 8 u.1 L) (fun u => kc_C h cJ cI (upd P 8 (P q)) u.1 u.2.1 u.2.2) 0 0 := by
  refine kc_ofWl (cc := b_K_digest) (maxL := 7) (by decide) rfl (Nat.le_of_ble_eq_true rfl) ?_
  intro p e s m below meth c A ls S hr hlk hin hK hP hD hA hl hsz
  obtain ⟨hx, hb, hml, hown, hts⟩ := S
  have hS : va_S A s.heap s.heap [] := va_S.rf
  have hl : lv_has ls 7 [(0, .ref (h 0)), (1, .int (nI (q))), (2, .int (nI (i)))] := hl
  obtain ⟨H, hH⟩ : ∃ H, H = s.heap := ⟨_, rfl⟩
  obtain ⟨locs, hlo⟩ : ∃ q : List Loc, q = [] := ⟨_, rfl⟩
  rw [← hlo] at hS ⊢
  have hP : va_P D kc_cl _ H := hH ▸ hP
  have hS : va_S A s.heap H locs := by rw [hH]; exact hS
  refine (show W _ _ _ _ _ _ _ _ _ _ H _ _ _ _ _ → W _ _ _ _ _ _ _ _ _ _ s.heap _ _ _ _ _ from by rw [hH]; exact id) ?_
  clear hlo hH
  refine lv_iload_n hx hb d_K_digest_0 rfl (lv_at hl 1 rfl) ?_
  refine lv_bipush (v := nI 7) hx hb d_K_digest_1 (by decide +kernel) ?_
  refine va_csv (va_Run.run (va_runS (As := [.int (nI (q)), .int (nI (7))]) (rest := []) ⟨hx, hb, hml, hown, hts⟩ (c_K_in_v l q 7 (by omega) (by omega)) (va_cwS 2 hts (kc_inS kw_56 kw_57 kw_1 kw_58) rfl rfl rfl (by decide +kernel) ⟨by decide, by decide⟩) kc_preP rfl rfl hl.1 rfl (lv_room (Nat.le_of_ble_eq_true rfl)) d_K_digest_3 ⟨by decide, by decide⟩)) (fun _ => ?_)
  refine lv_iload_n hx hb d_K_digest_6 rfl (lv_at hl 2 rfl) ?_
  refine lv_iconst (v := nI 3) hx hb d_K_digest_7 (by decide +kernel) ?_
  refine va_csv (va_Run.run (va_runS (As := [.int (nI (i)), .int (nI (3))]) (rest := []) ⟨hx, hb, hml, hown, hts⟩ (c_K_in_v l i 3 (by omega) (by omega)) (va_cwS 2 hts (kc_inS kw_56 kw_57 kw_1 kw_58) rfl rfl rfl (by decide +kernel) ⟨by decide, by decide⟩) kc_preP rfl rfl hl.1 rfl (lv_room (Nat.le_of_ble_eq_true rfl)) d_K_digest_8 ⟨by decide, by decide⟩)) (fun _ => ?_)
  refine lv_aload_n hx hb d_K_digest_11 rfl (lv_at hl 0 rfl) ?_
  refine lv_iload_n hx hb d_K_digest_12 rfl (lv_at hl 1 rfl) ?_
  refine lv_bipush (v := nI 8) hx hb d_K_digest_13 (by decide +kernel) ?_
  refine kc_goV (wr := []) (ws := kc_C h cJ cI (P) (L) (N) (Sd)) (va_runV (As := [.int (nI (q)), .int (nI (8))]) (rest := []) ⟨hx, hb, hml, hown, hts⟩ (c_K_move l D h cJ cI cX P L N Sd H.size q 8 (by omega) (by omega)) (cwV 2 hts (kc_inV kw_154 kw_156 ks_2 kw_1 kw_157) rfl rfl rfl (by decide +kernel) ⟨by decide, by decide⟩) (kc_preV (wr := []) (q0 := 0) (ci := 0) hK hP hD rfl rfl) rfl rfl hl.1 rfl (lv_room (Nat.le_of_ble_eq_true rfl)) d_K_digest_15 ⟨by decide, by decide⟩) hP hD hS hA (fun u H locs hp hP hD hS => ?_)
  obtain ⟨L1, e_L1⟩ : ∃ z, z = u := ⟨_, rfl⟩
  rw [← e_L1] at hp hP hD
  have hP : va_P D kc_cl (kc_C h cJ cI (upd P 8 (P q)) (L1) (N) (Sd)) H := hP
  have hD : va_D A (kc_C h cJ cI (upd P 8 (P q)) (L1) (N) (Sd)) := hD
  obtain ⟨hm1, hm2⟩ : kc_eq (kc_row L1 8) (kc_row L q) ∧ kc_fr 8 L1 L := hp
  refine lv_aload_n hx hb d_K_digest_18 rfl (lv_at hl 0 rfl) ?_
  refine kg_K hx hb hts hown hK hP 0 rfl 2 (by decide) kw_40 (v := .ref (h 1)) rfl d_K_digest_19 ?_
  refine lv_bipush (v := nI 8) hx hb d_K_digest_22 (by decide +kernel) ?_
  refine ka_iald (f := upd P 8 (P q)) hx hb hK hP 1 1 rfl rfl (i := 8) (by omega) (by decide) d_K_digest_24 ?_
  refine kv_i (y := (nI (pp))) (by rw [pk_us]; exact hpp) ?_
  refine lv_istore_n hx hb d_K_digest_25 rfl hl (by decide) rfl (fun ls hl => ?_)
  have hl : lv_has ls 7 [(3, .int (nI (pp))), (0, .ref (h 0)), (1, .int (nI (q))), (2, .int (nI (i)))] := hl
  refine lv_aload_n hx hb d_K_digest_26 rfl (lv_at hl 1 rfl) ?_
  refine kg_K hx hb hts hown hK hP 0 rfl 1 (by decide) kw_39 (v := .ref (h 3)) rfl d_K_digest_27 ?_
  refine lv_sipush (v := nI 200) hx hb d_K_digest_30 (by decide +kernel) ?_
  refine lv_iload_n hx hb d_K_digest_33 rfl (lv_at hl 0 rfl) ?_
  refine lv_bipush (v := nI 8) hx hb d_K_digest_34 (by decide +kernel) ?_
  refine kn_div hx hb (by omega) (by decide) (by decide) d_K_digest_36 ?_
  refine kn_add hx hb d_K_digest_37 ?_
  refine kv_i (y := (nI (25 * 8 + pp / 8))) (rfl) ?_
  refine lv_dup2_11 hx hb d_K_digest_38 rfl rfl ?_
  refine ka_lald (f := L1) hx hb hK hP 3 0 rfl rfl (i := 25 * 8 + pp / 8) (by omega) (by decide) d_K_digest_39 ?_
  refine lv_lconst (v := 1) hx hb d_K_digest_40 (by decide +kernel) ?_
  refine lv_bipush (v := nI 8) hx hb d_K_digest_41 (by decide +kernel) ?_
  refine lv_iload_n hx hb d_K_digest_43 rfl (lv_at hl 0 rfl) ?_
  refine lv_bipush (v := nI 8) hx hb d_K_digest_44 (by decide +kernel) ?_
  refine kn_rem hx hb (by omega) (by decide) (by decide) d_K_digest_46 ?_
  refine kn_mul hx hb d_K_digest_47 ?_
  refine lv_lshl hx hb d_K_digest_48 rfl ?_
  refine lv_lxor hx hb d_K_digest_49 ?_
  refine lv_topl (fun v1 e_v1 => ?_)
  refine ka_last (f := L1) hx hb hK hP hD hS 3 0 rfl rfl (i := 25 * 8 + pp / 8) (by omega) (by decide) d_K_digest_50 (fun H locs hP hD hS => ?_)
  have hP : va_P D kc_cl (kc_C h cJ cI (upd P 8 (P q)) (vp_updL L1 (25 * 8 + pp / 8) (v1)) (N) (Sd)) H := hP
  have hD : va_D A (kc_C h cJ cI (upd P 8 (P q)) (vp_updL L1 (25 * 8 + pp / 8) (v1)) (N) (Sd)) := hD
  obtain ⟨L2, e_L2⟩ : ∃ z, z = vp_updL L1 (25 * 8 + pp / 8) v1 := ⟨_, rfl⟩
  rw [← e_L2] at hP hD
  have hr2 : kc_row L2 8 = kc_byte (kc_row L1 8) pp 1 := by rw [e_L2, kc_row_upd]; exact kc_byte_upd (by rw [e_v1]; rfl)
  have hf2 : kc_fr 8 L2 L1 := by rw [e_L2]; exact kc_fr_upd kc_fr_rf (by omega) _
  refine lv_aload_n hx hb d_K_digest_51 rfl (lv_at hl 1 rfl) ?_
  refine kg_K hx hb hts hown hK hP 0 rfl 1 (by decide) kw_39 (v := .ref (h 3)) rfl d_K_digest_52 ?_
  refine lv_sipush (v := nI 216) hx hb d_K_digest_55 (by decide +kernel) ?_
  refine kv_i (y := (nI (25 * 8 + 16))) (rfl) ?_
  refine lv_dup2_11 hx hb d_K_digest_58 rfl rfl ?_
  refine ka_lald (f := L2) hx hb hK hP 3 0 rfl rfl (i := 25 * 8 + 16) (by omega) (by decide) d_K_digest_59 ?_
  refine lv_ldc2 (v := (-9223372036854775808)) hx hb hown (hts _ kw_179) d_K_digest_60 ?_
  refine lv_lxor hx hb d_K_digest_63 ?_
  refine lv_topl (fun v2 e_v2 => ?_)
  refine ka_last (f := L2) hx hb hK hP hD hS 3 0 rfl rfl (i := 25 * 8 + 16) (by omega) (by decide) d_K_digest_64 (fun H locs hP hD hS => ?_)
  have hP : va_P D kc_cl (kc_C h cJ cI (upd P 8 (P q)) (vp_updL L2 (25 * 8 + 16) (v2)) (N) (Sd)) H := hP
  have hD : va_D A (kc_C h cJ cI (upd P 8 (P q)) (vp_updL L2 (25 * 8 + 16) (v2)) (N) (Sd)) := hD
  obtain ⟨L3, e_L3⟩ : ∃ z, z = vp_updL L2 (25 * 8 + 16) v2 := ⟨_, rfl⟩
  rw [← e_L3] at hP hD
  have hr3 : kc_row L3 8 = kc_pad (kc_row L1 8) pp := by rw [e_L3, kc_row_upd, hr2]; funext c; unfold kc_pad vp_updL; by_cases hc : c = 16; (rw [if_pos hc, if_pos hc, e_v2, ← hr2, hc]; rfl); (rw [if_neg hc, if_neg hc])
  have hf3 : kc_fr 8 L3 L1 := by rw [e_L3]; exact kc_fr_upd hf2 (by omega) _
  refine lv_aload_n hx hb d_K_digest_65 rfl (lv_at hl 1 rfl) ?_
  refine kg_K hx hb hts hown hK hP 0 rfl 0 (by decide) kw_38 (v := .ref (h 2)) rfl d_K_digest_66 ?_
  refine lv_aload_n hx hb d_K_digest_69 rfl (lv_at hl 1 rfl) ?_
  refine kg_K hx hb hts hown hK hP 0 rfl 1 (by decide) kw_39 (v := .ref (h 3)) rfl d_K_digest_70 ?_
  refine lv_sipush (v := nI 200) hx hb d_K_digest_73 (by decide +kernel) ?_
  refine kc_goV (wr := []) (ws := kc_C h cJ cI (upd P 8 (P q)) (L3) (N) (Sd)) (va_runV (As := [.ref (h 3), .int (nI (200))]) (rest := []) ⟨hx, hb, hml, hown, hts⟩ (c_X_mix l D h cJ cI cX (upd P 8 (P q)) L3 N Sd 8 H.size (by omega)) (cwV 2 hts (kc_inV kw_132 kw_133 kw_134 kw_2 kw_135) rfl rfl rfl (by decide +kernel) ⟨by decide, by decide⟩) (kc_preV (wr := []) (q0 := 2) (ci := 1) hK hP hD rfl rfl) rfl rfl hl.1 rfl (lv_room (Nat.le_of_ble_eq_true rfl)) d_K_digest_76 ⟨by decide, by decide⟩) hP hD hS hA (fun u H locs hp hP hD hS => ?_)
  obtain ⟨L4, N1, S1⟩ := u
  have hP : va_P D kc_cl (kc_C h cJ cI (upd P 8 (P q)) (L4) (N1) (S1)) H := hP
  have hD : va_D A (kc_C h cJ cI (upd P 8 (P q)) (L4) (N1) (S1)) := hD
  obtain ⟨hpm, hfx⟩ : kc_eq (kc_row L4 8) (kc_perm 24 (kc_row L3 8)) ∧ kc_fr 8 L4 L3 := hp
  refine lv_lconst (v := 0) hx hb d_K_digest_79 (by decide +kernel) ?_
  refine lv_lstore hx hb d_K_digest_80 hl (by decide) rfl (fun ls hl => ?_)
  have hl : lv_has ls 7 [(4, .long ((0 : Int64))), (3, .int (nI (pp))), (0, .ref (h 0)), (1, .int (nI (q))), (2, .int (nI (i)))] := hl
  refine lv_iconst (v := nI 0) hx hb d_K_digest_82 (by decide +kernel) ?_
  refine lv_istore hx hb d_K_digest_83 hl (by decide) rfl (fun ls hl => ?_)
  have hl : lv_has ls 7 [(6, .int (nI (0))), (4, .long ((0 : Int64))), (3, .int (nI (pp))), (0, .ref (h 0)), (1, .int (nI (q))), (2, .int (nI (i)))] := hl
  have hl : lv_has ls 7 [(6, .int (nI (0))), (4, .long (kc_dig (L4 (200 + i)) 0)), (0, .ref (h 0)), (2, .int (nI (i)))] := lv_sub hl [0, 1, 3, 5] rfl
  refine K_digest_L ⟨hx, hb, hml, hown, hts⟩ hK hi 8 0 H locs ls (by omega) hl ⟨hP, hD, hS⟩ (fun H locs ls hl hw => ?_)
  obtain ⟨hP, hD, hS⟩ := hw
  refine lv_lload hx hb d_K_digest_126 (lv_at hl 1 rfl) ?_
  rw [hr3] at hpm
  have hfin : L4 (200 + i) = kc_perm 24 (kc_pad (kc_row L q) pp) i := (hpm i (by omega)).trans (kc_eq_perm (kc_eq_pad hm1 pp) 24 i (by omega))
  exact kc_lret hx hb hr hlk (L4, N1, S1) ⟨by rw [hfin], kc_fr_tr hfx (kc_fr_tr hf3 hm2)⟩ hP hD hS d_K_digest_128
end
section
/-! constant; the constructors of Mixer and of KeccakLanes (rows printed by gen15.py) -/
def kc_ri (Rd : Nat → Int64) (i k : Nat) : Prop := (∀ j, j < i → Rd j = kc_R j) ∧ Rd i = kc_P i k ∧ ∀ j, i < j → Rd j = 0
theorem kc_ri_1 {Rd : Nat → Int64} {i k : Nat} {v : Int64} (h : kc_ri Rd i k) (ho : kc_lf (7 * i + k) % 2 = 1) (hv : v = Rd i ||| kc_bit k) : kc_ri (vp_updL Rd i v) i (k + 1) := by
  obtain ⟨h1, h2, h3⟩ := h
  refine ⟨fun j hj => by rw [pk_uLn (by omega)]; exact h1 j hj, by rw [pk_uLs, hv, h2, kc_P_1 ho], fun j hj => by rw [pk_uLn (by omega)]; exact h3 j hj⟩
theorem kc_ri_0 {Rd : Nat → Int64} {i k : Nat} (h : kc_ri Rd i k) (ho : ¬ kc_lf (7 * i + k) % 2 = 1) : kc_ri Rd i (k + 1) := ⟨h.1, by rw [kc_P_0 ho]; exact h.2.1, h.2.2⟩
theorem kc_ri_n {Rd : Nat → Int64} {i : Nat} (h : kc_ri Rd i 7) : kc_ri Rd (i + 1) 0 := by
  obtain ⟨h1, h2, h3⟩ := h
  refine ⟨fun j hj => ?_, h3 (i + 1) (by omega), fun j hj => h3 j (by omega)⟩
  by_cases hji : j = i
  · subst hji; exact h2
  · exact h1 j (by omega)
def kc_ti (Tn : Nat → Int32) (t : Nat) : Prop := Tn 0 = nI 0 ∧ ∀ c, c < 25 → kc_pos c < t → Tn c = kc_T c
theorem kc_ti_s {Tn : Nat → Int32} {t : Nat} (h : kc_ti Tn t) (ht : t < 24) : kc_ti (upd Tn (kc_px t + 5 * kc_py t) (nI ((t + 1) * (t + 2) / 2 % 64))) (t + 1) := by
  obtain ⟨-, -, -, -, p5, p6⟩ := kc_path t ht
  refine ⟨by rw [pk_un (Ne.symm p6)]; exact h.1, fun c hc hp => ?_⟩
  by_cases hcx : c = kc_px t + 5 * kc_py t
  · rw [hcx, pk_us, p5]; rfl
  · rw [pk_un hcx]
    rcases kc_path_c t ht c hc hp with h1 | h1
    · exact h.2 c hc h1
    · exact absurd h1 hcx
theorem kc_ti_e {Tn : Nat → Int32} (h : kc_ti Tn 24) : ∀ c, c < 25 → Tn c = kc_T c := fun c hc => by
  rcases kc_path_z c hc with rfl | ⟨h1, -⟩
  · exact h.1
  · exact h.2 c hc h1
theorem kc_odd1 {n : Nat} (h : nI (n % 2) = nI 1) : n % 2 = 1 := by
  rcases Nat.mod_two_eq_zero_or_one n with h1 | h1
  · rw [h1] at h; exact absurd h (by decide)
  · exact h1
theorem kc_even1 {n : Nat} (h : ¬ nI (n % 2) = nI 1) : ¬ n % 2 = 1 := fun h1 => h (by rw [h1])
abbrev kc_X0 (o a b d f : Nat) (cJ cI : ClassId) (Rd : Nat → Int64) (Tn : Nat → Int32) : va_W := [(o, .inr (1, [.ref a, .ref b, .ref d, .ref f])), (a, .inl (cJ, (24, .inr (.inl Rd)))), (b, .inl (cI, (25, .inl Tn))), (d, .inl (cJ, (25, .inr (.inl (fun _ => 0))))), (f, .inl (cJ, (5, .inr (.inl (fun _ => 0)))))]
abbrev r_X_init : Room := { frames := 1, cells := 4, slots := 79, locals := 12 }
abbrev r_K_init : Room := { frames := 2, cells := 7, slots := 317, locals := 52 }
section MCO
variable {p : Program} {l : Launch} {e : Env} {R : Room} {s : State} {m : MethodId} {args : Array Value} {below : List Frame} {meth : Method} {c : Code} {H : Heap} {locs : List Loc} {cells slots : Nat} {Q : State → Prop}
set_option maxHeartbeats 4000000 in
theorem M_const_R (S : CallFix p m c b_M_constant 7 s args kc_tbl R_M) {i j T : Nat} (hT : T < 168) (n : Nat) : ∀ (k : Nat) (ls : Array Slot), k + n = T → lv_has ls 7 [(6, .int (nI (k))), (5, .int (nI (kc_lf k))), (4, .int (nI (T))), (3, .int (nI (j))), (1, .long (kc_P i j)), (0, .int (nI (i)))] → (∀ (ls : Array Slot), lv_has ls 7 [(6, .int (nI (T))), (5, .int (nI (kc_lf T))), (4, .int (nI (T))), (3, .int (nI (j))), (1, .long (kc_P i j)), (0, .int (nI (i)))] → W p l e R s m args below meth c H locs cells slots Q (F0 m 72 ls [])) → W p l e R s m args below meth c H locs cells slots Q (F0 m 28 ls []) := by
  obtain ⟨hx, hb, hml, hown, hts⟩ := S
  induction n with
  | zero =>
    intro k ls hn hl K
    obtain rfl : T = k := by omega
    refine lv_iload hx hb d_M_constant_28 (lv_at hl 0 rfl) ?_
    refine lv_iload hx hb d_M_constant_30 (lv_at hl 2 rfl) ?_
    refine kn_ge (tgt := 72) hx hb (by omega) (by omega) d_M_constant_32 (by decide) (fun _ => ?_) (fun hc => absurd hc (by omega))
    exact K ls hl
  | succ n ih =>
    intro k ls hn hl K
    refine lv_iload hx hb d_M_constant_28 (lv_at hl 0 rfl) ?_
    refine lv_iload hx hb d_M_constant_30 (lv_at hl 2 rfl) ?_
    refine kn_ge (tgt := 72) hx hb (by omega) (by omega) d_M_constant_32 (by decide) (fun hc => absurd hc (by omega)) (fun _ => ?_)
    refine lv_iload hx hb d_M_constant_35 (lv_at hl 1 rfl) ?_
    refine lv_iconst (v := nI 1) hx hb d_M_constant_37 (by decide +kernel) ?_
    refine lv_ishl hx hb d_M_constant_38 ?_
    refine lv_topi (fun v1 e_v1 => ?_)
    refine lv_istore hx hb d_M_constant_39 hl (by decide) rfl (fun ls hl => ?_)
    have hl : lv_has ls 7 [(5, .int (v1)), (6, .int (nI (k))), (4, .int (nI (T))), (3, .int (nI (j))), (1, .long (kc_P i j)), (0, .int (nI (i)))] := hl
    refine lv_iload hx hb d_M_constant_41 (lv_at hl 0 rfl) ?_
    refine lv_sipush (v := nI 256) hx hb d_M_constant_43 (by decide +kernel) ?_
    refine lv_iand hx hb d_M_constant_46 ?_
    refine lv_if_eq (tgt := 58) hx hb d_M_constant_47 (by decide) (fun hc => ?_) (fun hc => ?_)
    · refine lv_iload hx hb d_M_constant_58 (lv_at hl 0 rfl) ?_
      refine lv_sipush (v := nI 255) hx hb d_M_constant_60 (by decide +kernel) ?_
      refine lv_iand hx hb d_M_constant_63 ?_
      refine kv_i (y := (nI (kc_lf (k + 1)))) (by rw [e_v1] at hc ⊢; have := kc_lf_M k (by omega); rw [if_pos hc] at this; exact this) ?_
      refine lv_istore hx hb d_M_constant_64 hl (by decide) rfl (fun ls hl => ?_)
      have hl : lv_has ls 7 [(5, .int (nI (kc_lf (k + 1)))), (6, .int (nI (k))), (4, .int (nI (T))), (3, .int (nI (j))), (1, .long (kc_P i j)), (0, .int (nI (i)))] := hl
      refine lv_iinc (k := 1) hx hb d_M_constant_66 hl rfl (kn_i1 _) (by decide) rfl (fun ls hl => ?_)
      have hl : lv_has ls 7 [(6, .int (nI (k + 1))), (5, .int (nI (kc_lf (k + 1)))), (4, .int (nI (T))), (3, .int (nI (j))), (1, .long (kc_P i j)), (0, .int (nI (i)))] := hl
      refine lv_goto (tgt := 28) hx hb d_M_constant_69 (by decide) ?_
      have hl : lv_has ls 7 [(6, .int (nI (k + 1))), (5, .int (nI (kc_lf (k + 1)))), (4, .int (nI (T))), (3, .int (nI (j))), (1, .long (kc_P i j)), (0, .int (nI (i)))] := lv_sub hl [0, 1, 2, 3, 4, 5] rfl
      exact ih (k + 1) ls (by omega) hl K
    · refine lv_iload hx hb d_M_constant_50 (lv_at hl 0 rfl) ?_
      refine lv_sipush (v := nI 369) hx hb d_M_constant_52 (by decide +kernel) ?_
      refine lv_ixor hx hb d_M_constant_55 ?_
      refine lv_topi (fun v2 e_v2 => ?_)
      refine lv_istore hx hb d_M_constant_56 hl (by decide) rfl (fun ls hl => ?_)
      have hl : lv_has ls 7 [(5, .int (v2)), (6, .int (nI (k))), (4, .int (nI (T))), (3, .int (nI (j))), (1, .long (kc_P i j)), (0, .int (nI (i)))] := hl
      refine lv_iload hx hb d_M_constant_58 (lv_at hl 0 rfl) ?_
      refine lv_sipush (v := nI 255) hx hb d_M_constant_60 (by decide +kernel) ?_
      refine lv_iand hx hb d_M_constant_63 ?_
      refine kv_i (y := (nI (kc_lf (k + 1)))) (by rw [e_v2, e_v1]; rw [e_v1] at hc; have := kc_lf_M k (by omega); rw [if_neg hc] at this; exact this) ?_
      refine lv_istore hx hb d_M_constant_64 hl (by decide) rfl (fun ls hl => ?_)
      have hl : lv_has ls 7 [(5, .int (nI (kc_lf (k + 1)))), (6, .int (nI (k))), (4, .int (nI (T))), (3, .int (nI (j))), (1, .long (kc_P i j)), (0, .int (nI (i)))] := hl
      refine lv_iinc (k := 1) hx hb d_M_constant_66 hl rfl (kn_i1 _) (by decide) rfl (fun ls hl => ?_)
      have hl : lv_has ls 7 [(6, .int (nI (k + 1))), (5, .int (nI (kc_lf (k + 1)))), (4, .int (nI (T))), (3, .int (nI (j))), (1, .long (kc_P i j)), (0, .int (nI (i)))] := hl
      refine lv_goto (tgt := 28) hx hb d_M_constant_69 (by decide) ?_
      have hl : lv_has ls 7 [(6, .int (nI (k + 1))), (5, .int (nI (kc_lf (k + 1)))), (4, .int (nI (T))), (3, .int (nI (j))), (1, .long (kc_P i j)), (0, .int (nI (i)))] := lv_sub hl [0, 1, 2, 3, 4, 5] rfl
      exact ih (k + 1) ls (by omega) hl K
set_option maxHeartbeats 4000000 in
theorem M_const_L (S : CallFix p m c b_M_constant 7 s args kc_tbl R_M) {i : Nat} (hi : i < 24) (n : Nat) : ∀ (j : Nat) (ls : Array Slot), j + n = 7 → lv_has ls 7 [(3, .int (nI (j))), (1, .long (kc_P i j)), (0, .int (nI (i)))] → (∀ (ls : Array Slot), lv_has ls 7 [(3, .int (nI (7))), (1, .long (kc_P i 7)), (0, .int (nI (i)))] → W p l e R s m args below meth c H locs cells slots Q (F0 m 95 ls [])) → W p l e R s m args below meth c H locs cells slots Q (F0 m 4 ls []) := by
  obtain ⟨hx, hb, hml, hown, hts⟩ := S
  induction n with
  | zero =>
    intro j ls hn hl K
    obtain rfl : j = 7 := by omega
    refine lv_iload_n hx hb d_M_constant_4 rfl (lv_at hl 0 rfl) ?_
    refine lv_bipush (v := nI 7) hx hb d_M_constant_5 (by decide +kernel) ?_
    refine kn_ge (tgt := 95) hx hb (by omega) (by omega) d_M_constant_7 (by decide) (fun _ => ?_) (fun hc => absurd hc (by omega))
    exact K ls hl
  | succ n ih =>
    intro j ls hn hl K
    refine lv_iload_n hx hb d_M_constant_4 rfl (lv_at hl 0 rfl) ?_
    refine lv_bipush (v := nI 7) hx hb d_M_constant_5 (by decide +kernel) ?_
    refine kn_ge (tgt := 95) hx hb (by omega) (by omega) d_M_constant_7 (by decide) (fun hc => absurd hc (by omega)) (fun _ => ?_)
    refine lv_iload_n hx hb d_M_constant_10 rfl (lv_at hl 0 rfl) ?_
    refine lv_bipush (v := nI 7) hx hb d_M_constant_11 (by decide +kernel) ?_
    refine lv_iload_n hx hb d_M_constant_13 rfl (lv_at hl 2 rfl) ?_
    refine kn_mul hx hb d_M_constant_14 ?_
    refine kn_add hx hb d_M_constant_15 ?_
    refine lv_sipush (v := nI 255) hx hb d_M_constant_16 (by decide +kernel) ?_
    refine kn_rem hx hb (by omega) (by decide) (by decide) d_M_constant_19 ?_
    refine kv_i (y := (nI (7 * i + j))) (by rw [show (j + 7 * i) % 255 = 7 * i + j by omega]) ?_
    refine lv_istore hx hb d_M_constant_20 hl (by decide) rfl (fun ls hl => ?_)
    have hl : lv_has ls 7 [(4, .int (nI (7 * i + j))), (3, .int (nI (j))), (1, .long (kc_P i j)), (0, .int (nI (i)))] := hl
    refine lv_iconst (v := nI 1) hx hb d_M_constant_22 (by decide +kernel) ?_
    refine lv_istore hx hb d_M_constant_23 hl (by decide) rfl (fun ls hl => ?_)
    have hl : lv_has ls 7 [(5, .int (nI (1))), (4, .int (nI (7 * i + j))), (3, .int (nI (j))), (1, .long (kc_P i j)), (0, .int (nI (i)))] := hl
    refine lv_iconst (v := nI 0) hx hb d_M_constant_25 (by decide +kernel) ?_
    refine lv_istore hx hb d_M_constant_26 hl (by decide) rfl (fun ls hl => ?_)
    have hl : lv_has ls 7 [(6, .int (nI (0))), (5, .int (nI (1))), (4, .int (nI (7 * i + j))), (3, .int (nI (j))), (1, .long (kc_P i j)), (0, .int (nI (i)))] := hl
    have hl : lv_has ls 7 [(6, .int (nI (0))), (5, .int (nI (kc_lf 0))), (4, .int (nI (7 * i + j))), (3, .int (nI (j))), (1, .long (kc_P i j)), (0, .int (nI (i)))] := lv_sub hl [0, 1, 2, 3, 4, 5] rfl
    refine M_const_R ⟨hx, hb, hml, hown, hts⟩ (T := 7 * i + j) (by omega) (7 * i + j) 0 ls (by omega) hl (fun ls hl => ?_)
    refine lv_iload hx hb d_M_constant_72 (lv_at hl 1 rfl) ?_
    refine lv_iconst (v := nI 1) hx hb d_M_constant_74 (by decide +kernel) ?_
    refine lv_iand hx hb d_M_constant_75 ?_
    refine kv_i (y := (nI (kc_lf (7 * i + j) % 2))) (kc_lf_b _ (by omega)) ?_
    refine lv_if_eq (tgt := 89) hx hb d_M_constant_76 (by decide) (fun hc => ?_) (fun hc => ?_)
    · have hev := kc_even hc
      refine lv_iinc (k := 3) hx hb d_M_constant_89 hl rfl (kn_i1 _) (by decide) rfl (fun ls hl => ?_)
      have hl : lv_has ls 7 [(3, .int (nI (j + 1))), (6, .int (nI (7 * i + j))), (5, .int (nI (kc_lf (7 * i + j)))), (4, .int (nI (7 * i + j))), (1, .long (kc_P i j)), (0, .int (nI (i)))] := hl
      refine lv_goto (tgt := 4) hx hb d_M_constant_92 (by decide) ?_
      have hl : lv_has ls 7 [(3, .int (nI (j + 1))), (6, .int (nI (7 * i + j))), (5, .int (nI (kc_lf (7 * i + j)))), (4, .int (nI (7 * i + j))), (1, .long (kc_P i (j + 1))), (0, .int (nI (i)))] := by rw [kc_P_0 hev]; exact hl
      have hl : lv_has ls 7 [(3, .int (nI (j + 1))), (1, .long (kc_P i (j + 1))), (0, .int (nI (i)))] := lv_sub hl [0, 4, 5] rfl
      exact ih (j + 1) ls (by omega) hl K
    · have hev := kc_odd hc
      refine lv_lload_n hx hb d_M_constant_79 rfl (lv_at hl 4 rfl) ?_
      refine lv_lconst (v := 1) hx hb d_M_constant_80 (by decide +kernel) ?_
      refine lv_iconst (v := nI 1) hx hb d_M_constant_81 (by decide +kernel) ?_
      refine lv_iload_n hx hb d_M_constant_82 rfl (lv_at hl 3 rfl) ?_
      refine lv_ishl hx hb d_M_constant_83 ?_
      refine lv_iconst (v := nI 1) hx hb d_M_constant_84 (by decide +kernel) ?_
      refine lv_isub hx hb d_M_constant_85 ?_
      refine lv_lshl hx hb d_M_constant_86 rfl ?_
      refine lv_lor hx hb d_M_constant_87 ?_
      refine kv_l (y := (kc_P i (j + 1))) (by rw [kc_P_1 hev]; rfl) ?_
      refine lv_lstore_n hx hb d_M_constant_88 rfl hl (by decide) rfl (fun ls hl => ?_)
      have hl : lv_has ls 7 [(1, .long (kc_P i (j + 1))), (6, .int (nI (7 * i + j))), (5, .int (nI (kc_lf (7 * i + j)))), (4, .int (nI (7 * i + j))), (3, .int (nI (j))), (0, .int (nI (i)))] := hl
      refine lv_iinc (k := 4) hx hb d_M_constant_89 hl rfl (kn_i1 _) (by decide) rfl (fun ls hl => ?_)
      have hl : lv_has ls 7 [(3, .int (nI (j + 1))), (1, .long (kc_P i (j + 1))), (6, .int (nI (7 * i + j))), (5, .int (nI (kc_lf (7 * i + j)))), (4, .int (nI (7 * i + j))), (0, .int (nI (i)))] := hl
      refine lv_goto (tgt := 4) hx hb d_M_constant_92 (by decide) ?_
      have hl : lv_has ls 7 [(3, .int (nI (j + 1))), (1, .long (kc_P i (j + 1))), (0, .int (nI (i)))] := lv_sub hl [0, 1, 5] rfl
      exact ih (j + 1) ls (by omega) hl K
end MCO
theorem c_M_constant (l : Launch) (i : Nat) (hi : i < 24) : Met l y_M_constant w_M_constant r_0 (va_Pc [.int (nI i)] (fun _ => True)) (vp_Sl (fun r => r = kc_R i)) 0 0 (fun _ => False) := by
  refine kc_ofWp (cc := b_M_constant) (maxL := 7) (by decide) rfl (Nat.le_of_ble_eq_true rfl) ?_
  intro p e s m below meth c ls S hr hlk hl
  obtain ⟨hx, hb, hml, hown, hts⟩ := S
  have hl : lv_has ls 7 [(0, .int (nI i))] := hl
  refine lv_lconst (v := 0) hx hb d_M_constant_0 (by decide +kernel) ?_
  refine lv_lstore_n hx hb d_M_constant_1 rfl hl (by decide) rfl (fun ls hl => ?_)
  have hl : lv_has ls 7 [(1, .long ((0 : Int64))), (0, .int (nI (i)))] := hl
  refine lv_iconst (v := nI 0) hx hb d_M_constant_2 (by decide +kernel) ?_
  refine lv_istore_n hx hb d_M_constant_3 rfl hl (by decide) rfl (fun ls hl => ?_)
  have hl : lv_has ls 7 [(3, .int (nI (0))), (1, .long ((0 : Int64))), (0, .int (nI (i)))] := hl
  have hl : lv_has ls 7 [(3, .int (nI (0))), (1, .long (kc_P i 0)), (0, .int (nI (i)))] := lv_sub hl [0, 1, 2] rfl
  refine M_const_L ⟨hx, hb, hml, hown, hts⟩ hi 7 0 ls (by omega) hl (fun ls hl => ?_)
  refine lv_lload_n hx hb d_M_constant_95 rfl (lv_at hl 1 rfl) ?_
  exact W.lret hx hb hr (fun t ht _ => ⟨_, rfl, rfl, ht⟩) (fun q h => by cases h) d_M_constant_96 hlk
section XIN
variable {p : Program} {l : Launch} {e : Env} {R : Room} {s : State} {m : MethodId} {args : Array Value} {below : List Frame} {meth : Method} {c : Code} {Q : State → Prop} {D : va_G} {A : Nat → Prop} {o a b d f : Nat} {cJ cI cX : ClassId} {cells slots : Nat}
set_option maxHeartbeats 4000000 in
theorem X_init_K (S : CallFix p m c b_X_init 6 s args kc_tbl R_X) (hK : va_K D kc_cl (kc_ty cJ cI cX) s) {Tn : Nat → Int32} {i : Nat} (hi : i < 24) (n : Nat) : ∀ (k : Nat) (H : Heap) (locs : List Loc) (ls : Array Slot) (Rd : Nat → Int64), k + n = 7 → lv_has ls 6 [(3, .int (nI (k))), (1, .int (nI (kc_lf (7 * i + k)))), (2, .int (nI (i))), (0, .ref (o))] → kc_at D A s.heap H locs (kc_X0 o a b d f cJ cI (Rd) (Tn)) → (kc_ri Rd i k) → (∀ (H : Heap) (locs : List Loc) (ls : Array Slot) (Rd : Nat → Int64), lv_has ls 6 [(3, .int (nI (7))), (1, .int (nI (kc_lf (7 * i + 7)))), (2, .int (nI (i))), (0, .ref (o))] → kc_at D A s.heap H locs (kc_X0 o a b d f cJ cI (Rd) (Tn)) → (kc_ri Rd i 7) → W p l e R s m args below meth c H locs cells slots Q (F0 m 95 ls [])) → W p l e R s m args below meth c H locs cells slots Q (F0 m 47 ls []) := by
  obtain ⟨hx, hb, hml, hown, hts⟩ := S
  induction n with
  | zero =>
    intro k H locs ls Rd hn hl hw hri K
    obtain ⟨hP, hD, hS⟩ := hw
    obtain rfl : k = 7 := by omega
    refine lv_iload_n hx hb d_X_init_47 rfl (lv_at hl 0 rfl) ?_
    refine lv_bipush (v := nI 7) hx hb d_X_init_48 (by decide +kernel) ?_
    refine kn_ge (tgt := 95) hx hb (by omega) (by omega) d_X_init_50 (by decide) (fun _ => ?_) (fun hc => absurd hc (by omega))
    exact K H locs ls Rd hl ⟨hP, hD, hS⟩ hri
  | succ n ih =>
    intro k H locs ls Rd hn hl hw hri K
    obtain ⟨hP, hD, hS⟩ := hw
    refine lv_iload_n hx hb d_X_init_47 rfl (lv_at hl 0 rfl) ?_
    refine lv_bipush (v := nI 7) hx hb d_X_init_48 (by decide +kernel) ?_
    refine kn_ge (tgt := 95) hx hb (by omega) (by omega) d_X_init_50 (by decide) (fun hc => absurd hc (by omega)) (fun _ => ?_)
    refine lv_iload_n hx hb d_X_init_53 rfl (lv_at hl 1 rfl) ?_
    refine lv_iconst (v := nI 1) hx hb d_X_init_54 (by decide +kernel) ?_
    refine lv_iand hx hb d_X_init_55 ?_
    refine kv_i (y := (nI (kc_lf (7 * i + k) % 2))) (kc_lf_b _ (by omega)) ?_
    refine lv_iconst (v := nI 1) hx hb d_X_init_56 (by decide +kernel) ?_
    refine lv_icmp_ne (tgt := 76) hx hb d_X_init_57 (by decide) (fun hc => ?_) (fun hc => ?_)
    · refine lv_iload_n hx hb d_X_init_76 rfl (lv_at hl 1 rfl) ?_
      refine lv_iconst (v := nI 1) hx hb d_X_init_77 (by decide +kernel) ?_
      refine lv_ishl hx hb d_X_init_78 ?_
      refine lv_iload_n hx hb d_X_init_79 rfl (lv_at hl 1 rfl) ?_
      refine lv_bipush (v := nI 7) hx hb d_X_init_80 (by decide +kernel) ?_
      refine lv_ishr hx hb d_X_init_82 ?_
      refine lv_sipush (v := nI 369) hx hb d_X_init_83 (by decide +kernel) ?_
      refine lv_imul hx hb d_X_init_86 ?_
      refine lv_ixor hx hb d_X_init_87 ?_
      refine kv_i (y := (nI (kc_lf (7 * i + (k + 1))))) (kc_lf_K _ (by omega)) ?_
      refine lv_istore_n hx hb d_X_init_88 rfl hl (by decide) rfl (fun ls hl => ?_)
      have hl : lv_has ls 6 [(1, .int (nI (kc_lf (7 * i + (k + 1))))), (3, .int (nI (k))), (2, .int (nI (i))), (0, .ref (o))] := hl
      refine lv_iinc (k := 1) hx hb d_X_init_89 hl rfl (kn_i1 _) (by decide) rfl (fun ls hl => ?_)
      have hl : lv_has ls 6 [(3, .int (nI (k + 1))), (1, .int (nI (kc_lf (7 * i + (k + 1))))), (2, .int (nI (i))), (0, .ref (o))] := hl
      refine lv_goto (tgt := 47) hx hb d_X_init_92 (by decide) ?_
      have hl : lv_has ls 6 [(3, .int (nI (k + 1))), (1, .int (nI (kc_lf (7 * i + (k + 1))))), (2, .int (nI (i))), (0, .ref (o))] := lv_sub hl [0, 1, 2, 3] rfl
      exact ih (k + 1) H locs ls Rd (by omega) hl ⟨hP, hD, hS⟩ (kc_ri_0 hri (kc_even1 hc)) K
    · refine lv_aload_n hx hb d_X_init_60 rfl (lv_at hl 3 rfl) ?_
      refine kg_X hx hb hts hown hK hP 0 rfl 0 (by decide) kw_23 (v := .ref (a)) rfl d_X_init_61 ?_
      refine lv_iload_n hx hb d_X_init_64 rfl (lv_at hl 2 rfl) ?_
      refine lv_dup2_11 hx hb d_X_init_65 rfl rfl ?_
      refine ka_lald (f := Rd) hx hb hK hP 1 0 rfl rfl (i := i) (by omega) (by decide) d_X_init_66 ?_
      refine lv_lconst (v := 1) hx hb d_X_init_67 (by decide +kernel) ?_
      refine lv_iconst (v := nI 1) hx hb d_X_init_68 (by decide +kernel) ?_
      refine lv_iload_n hx hb d_X_init_69 rfl (lv_at hl 0 rfl) ?_
      refine lv_ishl hx hb d_X_init_70 ?_
      refine lv_iconst (v := nI 1) hx hb d_X_init_71 (by decide +kernel) ?_
      refine lv_isub hx hb d_X_init_72 ?_
      refine lv_lshl hx hb d_X_init_73 rfl ?_
      refine lv_lor hx hb d_X_init_74 ?_
      refine lv_topl (fun v1 e_v1 => ?_)
      refine ka_last (f := Rd) hx hb hK hP hD hS 1 0 rfl rfl (i := i) (by omega) (by decide) d_X_init_75 (fun H locs hP hD hS => ?_)
      have hP : va_P D kc_cl (kc_X0 o a b d f cJ cI (vp_updL Rd (i) (v1)) (Tn)) H := hP
      have hD : va_D A (kc_X0 o a b d f cJ cI (vp_updL Rd (i) (v1)) (Tn)) := hD
      refine lv_iload_n hx hb d_X_init_76 rfl (lv_at hl 1 rfl) ?_
      refine lv_iconst (v := nI 1) hx hb d_X_init_77 (by decide +kernel) ?_
      refine lv_ishl hx hb d_X_init_78 ?_
      refine lv_iload_n hx hb d_X_init_79 rfl (lv_at hl 1 rfl) ?_
      refine lv_bipush (v := nI 7) hx hb d_X_init_80 (by decide +kernel) ?_
      refine lv_ishr hx hb d_X_init_82 ?_
      refine lv_sipush (v := nI 369) hx hb d_X_init_83 (by decide +kernel) ?_
      refine lv_imul hx hb d_X_init_86 ?_
      refine lv_ixor hx hb d_X_init_87 ?_
      refine kv_i (y := (nI (kc_lf (7 * i + (k + 1))))) (kc_lf_K _ (by omega)) ?_
      refine lv_istore_n hx hb d_X_init_88 rfl hl (by decide) rfl (fun ls hl => ?_)
      have hl : lv_has ls 6 [(1, .int (nI (kc_lf (7 * i + (k + 1))))), (3, .int (nI (k))), (2, .int (nI (i))), (0, .ref (o))] := hl
      refine lv_iinc (k := 1) hx hb d_X_init_89 hl rfl (kn_i1 _) (by decide) rfl (fun ls hl => ?_)
      have hl : lv_has ls 6 [(3, .int (nI (k + 1))), (1, .int (nI (kc_lf (7 * i + (k + 1))))), (2, .int (nI (i))), (0, .ref (o))] := hl
      refine lv_goto (tgt := 47) hx hb d_X_init_92 (by decide) ?_
      have hl : lv_has ls 6 [(3, .int (nI (k + 1))), (1, .int (nI (kc_lf (7 * i + (k + 1))))), (2, .int (nI (i))), (0, .ref (o))] := lv_sub hl [0, 1, 2, 3] rfl
      exact ih (k + 1) H locs ls _ (by omega) hl ⟨hP, hD, hS⟩ (kc_ri_1 hri (kc_odd1 hc) (by rw [e_v1]; rfl)) K
set_option maxHeartbeats 4000000 in
theorem X_init_I (S : CallFix p m c b_X_init 6 s args kc_tbl R_X) (hK : va_K D kc_cl (kc_ty cJ cI cX) s) {Tn : Nat → Int32} (n : Nat) : ∀ (i : Nat) (H : Heap) (locs : List Loc) (ls : Array Slot) (Rd : Nat → Int64), i + n = 24 → lv_has ls 6 [(2, .int (nI (i))), (1, .int (nI (kc_lf (7 * i)))), (0, .ref (o))] → kc_at D A s.heap H locs (kc_X0 o a b d f cJ cI (Rd) (Tn)) → (kc_ri Rd i 0) → (∀ (H : Heap) (locs : List Loc) (ls : Array Slot) (Rd : Nat → Int64), lv_has ls 6 [(2, .int (nI (24))), (1, .int (nI (kc_lf (7 * 24)))), (0, .ref (o))] → kc_at D A s.heap H locs (kc_X0 o a b d f cJ cI (Rd) (Tn)) → (kc_ri Rd 24 0) → W p l e R s m args below meth c H locs cells slots Q (F0 m 101 ls [])) → W p l e R s m args below meth c H locs cells slots Q (F0 m 39 ls []) := by
  obtain ⟨hx, hb, hml, hown, hts⟩ := S
  induction n with
  | zero =>
    intro i H locs ls Rd hn hl hw hri K
    obtain ⟨hP, hD, hS⟩ := hw
    obtain rfl : i = 24 := by omega
    refine lv_iload_n hx hb d_X_init_39 rfl (lv_at hl 0 rfl) ?_
    refine lv_bipush (v := nI 24) hx hb d_X_init_40 (by decide +kernel) ?_
    refine kn_ge (tgt := 101) hx hb (by omega) (by omega) d_X_init_42 (by decide) (fun _ => ?_) (fun hc => absurd hc (by omega))
    exact K H locs ls Rd hl ⟨hP, hD, hS⟩ hri
  | succ n ih =>
    intro i H locs ls Rd hn hl hw hri K
    obtain ⟨hP, hD, hS⟩ := hw
    refine lv_iload_n hx hb d_X_init_39 rfl (lv_at hl 0 rfl) ?_
    refine lv_bipush (v := nI 24) hx hb d_X_init_40 (by decide +kernel) ?_
    refine kn_ge (tgt := 101) hx hb (by omega) (by omega) d_X_init_42 (by decide) (fun hc => absurd hc (by omega)) (fun _ => ?_)
    refine lv_iconst (v := nI 0) hx hb d_X_init_45 (by decide +kernel) ?_
    refine lv_istore_n hx hb d_X_init_46 rfl hl (by decide) rfl (fun ls hl => ?_)
    have hl : lv_has ls 6 [(3, .int (nI (0))), (2, .int (nI (i))), (1, .int (nI (kc_lf (7 * i)))), (0, .ref (o))] := hl
    have hl : lv_has ls 6 [(3, .int (nI (0))), (1, .int (nI (kc_lf (7 * i + 0)))), (2, .int (nI (i))), (0, .ref (o))] := lv_sub hl [0, 2, 1, 3] rfl
    refine X_init_K ⟨hx, hb, hml, hown, hts⟩ hK (by omega) 7 0 H locs ls Rd (by omega) hl ⟨hP, hD, hS⟩ hri (fun H locs ls Rd hl hw hri => ?_)
    obtain ⟨hP, hD, hS⟩ := hw
    have hl : lv_has ls 6 [(3, .int (nI (7))), (1, .int (nI (kc_lf (7 * (i + 1))))), (2, .int (nI (i))), (0, .ref (o))] := hl
    refine lv_iinc (k := 2) hx hb d_X_init_95 hl rfl (kn_i1 _) (by decide) rfl (fun ls hl => ?_)
    have hl : lv_has ls 6 [(2, .int (nI (i + 1))), (3, .int (nI (7))), (1, .int (nI (kc_lf (7 * (i + 1))))), (0, .ref (o))] := hl
    refine lv_goto (tgt := 39) hx hb d_X_init_98 (by decide) ?_
    have hl : lv_has ls 6 [(2, .int (nI (i + 1))), (1, .int (nI (kc_lf (7 * (i + 1))))), (0, .ref (o))] := lv_sub hl [0, 2, 3] rfl
    exact ih (i + 1) H locs ls Rd (by omega) hl ⟨hP, hD, hS⟩ (kc_ri_n hri) K
set_option maxHeartbeats 4000000 in
theorem X_init_T (S : CallFix p m c b_X_init 6 s args kc_tbl R_X) (hK : va_K D kc_cl (kc_ty cJ cI cX) s) {Rd : Nat → Int64} (n : Nat) : ∀ (t : Nat) (H : Heap) (locs : List Loc) (ls : Array Slot) (Tn : Nat → Int32), t + n = 24 → lv_has ls 6 [(4, .int (nI (t))), (2, .int (nI (kc_px t))), (3, .int (nI (kc_py t))), (0, .ref (o))] → kc_at D A s.heap H locs (kc_X0 o a b d f cJ cI (Rd) (Tn)) → (kc_ti Tn t) → (∀ (H : Heap) (locs : List Loc) (ls : Array Slot) (Tn : Nat → Int32), lv_has ls 6 [(4, .int (nI (24))), (2, .int (nI (kc_px 24))), (3, .int (nI (kc_py 24))), (0, .ref (o))] → kc_at D A s.heap H locs (kc_X0 o a b d f cJ cI (Rd) (Tn)) → (kc_ti Tn 24) → W p l e R s m args below meth c H locs cells slots Q (F0 m 161 ls [])) → W p l e R s m args below meth c H locs cells slots Q (F0 m 108 ls []) := by
  obtain ⟨hx, hb, hml, hown, hts⟩ := S
  induction n with
  | zero =>
    intro t H locs ls Tn hn hl hw hti K
    obtain ⟨hP, hD, hS⟩ := hw
    obtain rfl : t = 24 := by omega
    refine lv_iload hx hb d_X_init_108 (lv_at hl 0 rfl) ?_
    refine lv_bipush (v := nI 24) hx hb d_X_init_110 (by decide +kernel) ?_
    refine kn_ge (tgt := 161) hx hb (by omega) (by omega) d_X_init_112 (by decide) (fun _ => ?_) (fun hc => absurd hc (by omega))
    exact K H locs ls Tn hl ⟨hP, hD, hS⟩ hti
  | succ n ih =>
    intro t H locs ls Tn hn hl hw hti K
    obtain ⟨hP, hD, hS⟩ := hw
    obtain ⟨p1, p2, p3, p4, p5, p6⟩ := kc_path t (by omega)
    have q3 := Nat.mul_le_mul (show t + 1 ≤ 24 by omega) (show t + 2 ≤ 25 by omega)
    refine lv_iload hx hb d_X_init_108 (lv_at hl 0 rfl) ?_
    refine lv_bipush (v := nI 24) hx hb d_X_init_110 (by decide +kernel) ?_
    refine kn_ge (tgt := 161) hx hb (by omega) (by omega) d_X_init_112 (by decide) (fun hc => absurd hc (by omega)) (fun _ => ?_)
    refine lv_aload_n hx hb d_X_init_115 rfl (lv_at hl 3 rfl) ?_
    refine kg_X hx hb hts hown hK hP 0 rfl 1 (by decide) kw_24 (v := .ref (b)) rfl d_X_init_116 ?_
    refine lv_iload_n hx hb d_X_init_119 rfl (lv_at hl 1 rfl) ?_
    refine lv_iconst (v := nI 5) hx hb d_X_init_120 (by decide +kernel) ?_
    refine lv_iload_n hx hb d_X_init_121 rfl (lv_at hl 2 rfl) ?_
    refine kn_mul hx hb d_X_init_122 ?_
    refine kn_add hx hb d_X_init_123 ?_
    refine lv_iload hx hb d_X_init_124 (lv_at hl 0 rfl) ?_
    refine lv_iconst (v := nI 1) hx hb d_X_init_126 (by decide +kernel) ?_
    refine kn_add hx hb d_X_init_127 ?_
    refine lv_iload hx hb d_X_init_128 (lv_at hl 0 rfl) ?_
    refine lv_iconst (v := nI 2) hx hb d_X_init_130 (by decide +kernel) ?_
    refine kn_add hx hb d_X_init_131 ?_
    refine kn_mul hx hb d_X_init_132 ?_
    refine lv_iconst (v := nI 2) hx hb d_X_init_133 (by decide +kernel) ?_
    refine kn_div hx hb (by omega) (by decide) (by decide) d_X_init_134 ?_
    refine lv_bipush (v := nI 64) hx hb d_X_init_135 (by decide +kernel) ?_
    refine kn_rem hx hb (by omega) (by decide) (by decide) d_X_init_137 ?_
    refine ka_iast (f := Tn) hx hb hK hP hD hS 2 1 rfl rfl (i := kc_px t + 5 * (kc_py t)) (by omega) (by decide) d_X_init_138 (fun H locs hP hD hS => ?_)
    have hP : va_P D kc_cl (kc_X0 o a b d f cJ cI (Rd) (upd Tn (kc_px t + 5 * (kc_py t)) (nI ((((t + 1) * (t + 2)) / 2) % 64)))) H := hP
    have hD : va_D A (kc_X0 o a b d f cJ cI (Rd) (upd Tn (kc_px t + 5 * (kc_py t)) (nI ((((t + 1) * (t + 2)) / 2) % 64)))) := hD
    refine lv_iconst (v := nI 2) hx hb d_X_init_139 (by decide +kernel) ?_
    refine lv_iload_n hx hb d_X_init_140 rfl (lv_at hl 1 rfl) ?_
    refine kn_mul hx hb d_X_init_141 ?_
    refine lv_iconst (v := nI 3) hx hb d_X_init_142 (by decide +kernel) ?_
    refine lv_iload_n hx hb d_X_init_143 rfl (lv_at hl 2 rfl) ?_
    refine kn_mul hx hb d_X_init_144 ?_
    refine kn_add hx hb d_X_init_145 ?_
    refine lv_iconst (v := nI 5) hx hb d_X_init_146 (by decide +kernel) ?_
    refine kn_rem hx hb (by omega) (by decide) (by decide) d_X_init_147 ?_
    refine kv_i (y := (nI (kc_py (t + 1)))) (by rw [p2]) ?_
    refine lv_istore hx hb d_X_init_148 hl (by decide) rfl (fun ls hl => ?_)
    have hl : lv_has ls 6 [(5, .int (nI (kc_py (t + 1)))), (4, .int (nI (t))), (2, .int (nI (kc_px t))), (3, .int (nI (kc_py t))), (0, .ref (o))] := hl
    refine lv_iload_n hx hb d_X_init_150 rfl (lv_at hl 3 rfl) ?_
    refine lv_istore_n hx hb d_X_init_151 rfl hl (by decide) rfl (fun ls hl => ?_)
    have hl : lv_has ls 6 [(2, .int (nI (kc_py t))), (5, .int (nI (kc_py (t + 1)))), (4, .int (nI (t))), (3, .int (nI (kc_py t))), (0, .ref (o))] := hl
    refine lv_iload hx hb d_X_init_152 (lv_at hl 1 rfl) ?_
    refine lv_istore_n hx hb d_X_init_154 rfl hl (by decide) rfl (fun ls hl => ?_)
    have hl : lv_has ls 6 [(3, .int (nI (kc_py (t + 1)))), (2, .int (nI (kc_py t))), (5, .int (nI (kc_py (t + 1)))), (4, .int (nI (t))), (0, .ref (o))] := hl
    have hl : lv_has ls 6 [(3, .int (nI (kc_py (t + 1)))), (2, .int (nI (kc_px (t + 1)))), (5, .int (nI (kc_py (t + 1)))), (4, .int (nI (t))), (0, .ref (o))] := by rw [p1]; exact hl
    refine lv_iinc (k := 3) hx hb d_X_init_155 hl rfl (kn_i1 _) (by decide) rfl (fun ls hl => ?_)
    have hl : lv_has ls 6 [(4, .int (nI (t + 1))), (3, .int (nI (kc_py (t + 1)))), (2, .int (nI (kc_px (t + 1)))), (5, .int (nI (kc_py (t + 1)))), (0, .ref (o))] := hl
    refine lv_goto (tgt := 108) hx hb d_X_init_158 (by decide) ?_
    have hl : lv_has ls 6 [(4, .int (nI (t + 1))), (2, .int (nI (kc_px (t + 1)))), (3, .int (nI (kc_py (t + 1)))), (0, .ref (o))] := lv_sub hl [0, 2, 1, 4] rfl
    exact ih (t + 1) H locs ls _ (by omega) hl ⟨hP, hD, hS⟩ (kc_ti_s hti (by omega)) K
end XIN
set_option maxHeartbeats 4000000 in
/-- Mixer(): its four arrays, the rounds' constants and the rotations -/
theorem c_X_init (l : Launch) (D : va_G) (o : Nat) (cJ cI cX : ClassId) (sz : Nat) : kc_Mv l y_X_init w_X_init r_X_init [.ref o] D (kc_ty cJ cI cX) [(o, .inr (1, [.null, .null, .null, .null]))] sz (fun _ : Nat × Nat × Nat × Nat => True) (fun u => kc_X0 o u.1 u.2.1 u.2.2.1 u.2.2.2 cJ cI kc_R kc_T) 4 79 := by
  refine kc_ofWv (cc := b_X_init) (maxL := 6) (by decide) rfl (Nat.le_of_ble_eq_true rfl) ?_
  intro p e s m below meth c A ls S hr hlk hin hK hP hD hA hl hsz
  obtain ⟨hx, hb, hml, hown, hts⟩ := S
  have hS : va_S A s.heap s.heap [] := va_S.rf
  have hl : lv_has ls 6 [(0, .ref (o))] := hl
  obtain ⟨H, hH⟩ : ∃ H, H = s.heap := ⟨_, rfl⟩
  obtain ⟨locs, hlo⟩ : ∃ q : List Loc, q = [] := ⟨_, rfl⟩
  rw [← hlo] at hS ⊢
  have hP : va_P D kc_cl _ H := hH ▸ hP
  have hS : va_S A s.heap H locs := by rw [hH]; exact hS
  refine (show W _ _ _ _ _ _ _ _ _ _ H _ _ _ _ _ → W _ _ _ _ _ _ _ _ _ _ s.heap _ _ _ _ _ from by rw [hH]; exact id) ?_
  clear hlo hH
  refine lv_aload_n hx hb d_X_init_0 rfl (lv_at hl 0 rfl) ?_
  refine W.objInit hx hb hown (hts _ kw_22) (hts _ kw_15) (hts _ kw_16) rfl (by rw [hml]; exact hl.1) rfl d_X_init_1 (Nat.le_of_ble_eq_true rfl) (Nat.le_of_ble_eq_true rfl) ?_
  refine W.eq (g2 := F0 m 4 ls []) rfl ?_
  refine lv_aload_n hx hb d_X_init_4 rfl (lv_at hl 0 rfl) ?_
  refine lv_bipush (v := nI 24) hx hb d_X_init_5 (by decide +kernel) ?_
  refine ka_newJ (n := 24) hx hb (hts _ kw_36) hK hP hD hS hA 0 rfl (by decide) (by decide) (by decide) d_X_init_7 (fun q1 H hP hD hS => ?_)
  have hP : va_P D kc_cl ([(o, .inr (1, [.null, .null, .null, .null])), (q1, .inl (cJ, (24, .inr (.inl (fun _ => 0)))))]) H := hP
  have hD : va_D A ([(o, .inr (1, [.null, .null, .null, .null])), (q1, .inl (cJ, (24, .inr (.inl (fun _ => 0)))))]) := hD
  refine va_putF (D := D) (ci := 1) (v := .ref (q1)) (ty := (.array .long)) (C := R_X) (T := F_X) (N := 4) (own := R_X) hx hb hts u_X_in t_X t_X_ok n_X hown hK hP hD hS 0 rfl rfl 0 (by decide) (hts _ kw_23) (fun _ h9 => h9) rfl hin rfl (by decide +kernel) rfl rfl (Nat.le_of_ble_eq_true rfl) d_X_init_9 (fun H locs hP hD hS => ?_)
  have hP : va_P D kc_cl ([(o, .inr (1, [.ref (q1), .null, .null, .null])), (q1, .inl (cJ, (24, .inr (.inl (fun _ => 0)))))]) H := hP
  have hD : va_D A ([(o, .inr (1, [.ref (q1), .null, .null, .null])), (q1, .inl (cJ, (24, .inr (.inl (fun _ => 0)))))]) := hD
  refine lv_aload_n hx hb d_X_init_12 rfl (lv_at hl 0 rfl) ?_
  refine lv_bipush (v := nI 25) hx hb d_X_init_13 (by decide +kernel) ?_
  refine ka_newI (n := 25) hx hb (hts _ kw_37) hK hP hD hS hA 1 rfl (by decide) (by decide) (by decide) d_X_init_15 (fun q2 H hP hD hS => ?_)
  have hP : va_P D kc_cl ([(o, .inr (1, [.ref (q1), .null, .null, .null])), (q1, .inl (cJ, (24, .inr (.inl (fun _ => 0))))), (q2, .inl (cI, (25, .inl (fun _ => 0))))]) H := hP
  have hD : va_D A ([(o, .inr (1, [.ref (q1), .null, .null, .null])), (q1, .inl (cJ, (24, .inr (.inl (fun _ => 0))))), (q2, .inl (cI, (25, .inl (fun _ => 0))))]) := hD
  refine va_putF (D := D) (ci := 1) (v := .ref (q2)) (ty := (.array .int)) (C := R_X) (T := F_X) (N := 4) (own := R_X) hx hb hts u_X_in t_X t_X_ok n_X hown hK hP hD hS 0 rfl rfl 1 (by decide) (hts _ kw_24) (fun _ h9 => h9) rfl hin rfl (by decide +kernel) rfl rfl (Nat.le_of_ble_eq_true rfl) d_X_init_17 (fun H locs hP hD hS => ?_)
  have hP : va_P D kc_cl ([(o, .inr (1, [.ref (q1), .ref (q2), .null, .null])), (q1, .inl (cJ, (24, .inr (.inl (fun _ => 0))))), (q2, .inl (cI, (25, .inl (fun _ => 0))))]) H := hP
  have hD : va_D A ([(o, .inr (1, [.ref (q1), .ref (q2), .null, .null])), (q1, .inl (cJ, (24, .inr (.inl (fun _ => 0))))), (q2, .inl (cI, (25, .inl (fun _ => 0))))]) := hD
  refine lv_aload_n hx hb d_X_init_20 rfl (lv_at hl 0 rfl) ?_
  refine lv_bipush (v := nI 25) hx hb d_X_init_21 (by decide +kernel) ?_
  refine ka_newJ (n := 25) hx hb (hts _ kw_36) hK hP hD hS hA 0 rfl (by decide) (by decide) (by decide) d_X_init_23 (fun q3 H hP hD hS => ?_)
  have hP : va_P D kc_cl ([(o, .inr (1, [.ref (q1), .ref (q2), .null, .null])), (q1, .inl (cJ, (24, .inr (.inl (fun _ => 0))))), (q2, .inl (cI, (25, .inl (fun _ => 0)))), (q3, .inl (cJ, (25, .inr (.inl (fun _ => 0)))))]) H := hP
  have hD : va_D A ([(o, .inr (1, [.ref (q1), .ref (q2), .null, .null])), (q1, .inl (cJ, (24, .inr (.inl (fun _ => 0))))), (q2, .inl (cI, (25, .inl (fun _ => 0)))), (q3, .inl (cJ, (25, .inr (.inl (fun _ => 0)))))]) := hD
  refine va_putF (D := D) (ci := 1) (v := .ref (q3)) (ty := (.array .long)) (C := R_X) (T := F_X) (N := 4) (own := R_X) hx hb hts u_X_in t_X t_X_ok n_X hown hK hP hD hS 0 rfl rfl 2 (by decide) (hts _ kw_25) (fun _ h9 => h9) rfl hin rfl (by decide +kernel) rfl rfl (Nat.le_of_ble_eq_true rfl) d_X_init_25 (fun H locs hP hD hS => ?_)
  have hP : va_P D kc_cl ([(o, .inr (1, [.ref (q1), .ref (q2), .ref (q3), .null])), (q1, .inl (cJ, (24, .inr (.inl (fun _ => 0))))), (q2, .inl (cI, (25, .inl (fun _ => 0)))), (q3, .inl (cJ, (25, .inr (.inl (fun _ => 0)))))]) H := hP
  have hD : va_D A ([(o, .inr (1, [.ref (q1), .ref (q2), .ref (q3), .null])), (q1, .inl (cJ, (24, .inr (.inl (fun _ => 0))))), (q2, .inl (cI, (25, .inl (fun _ => 0)))), (q3, .inl (cJ, (25, .inr (.inl (fun _ => 0)))))]) := hD
  refine lv_aload_n hx hb d_X_init_28 rfl (lv_at hl 0 rfl) ?_
  refine lv_iconst (v := nI 5) hx hb d_X_init_29 (by decide +kernel) ?_
  refine ka_newJ (n := 5) hx hb (hts _ kw_36) hK hP hD hS hA 0 rfl (by decide) (by decide) (by decide) d_X_init_30 (fun q4 H hP hD hS => ?_)
  have hP : va_P D kc_cl ([(o, .inr (1, [.ref (q1), .ref (q2), .ref (q3), .null])), (q1, .inl (cJ, (24, .inr (.inl (fun _ => 0))))), (q2, .inl (cI, (25, .inl (fun _ => 0)))), (q3, .inl (cJ, (25, .inr (.inl (fun _ => 0))))), (q4, .inl (cJ, (5, .inr (.inl (fun _ => 0)))))]) H := hP
  have hD : va_D A ([(o, .inr (1, [.ref (q1), .ref (q2), .ref (q3), .null])), (q1, .inl (cJ, (24, .inr (.inl (fun _ => 0))))), (q2, .inl (cI, (25, .inl (fun _ => 0)))), (q3, .inl (cJ, (25, .inr (.inl (fun _ => 0))))), (q4, .inl (cJ, (5, .inr (.inl (fun _ => 0)))))]) := hD
  refine va_putF (D := D) (ci := 1) (v := .ref (q4)) (ty := (.array .long)) (C := R_X) (T := F_X) (N := 4) (own := R_X) hx hb hts u_X_in t_X t_X_ok n_X hown hK hP hD hS 0 rfl rfl 3 (by decide) (hts _ kw_26) (fun _ h9 => h9) rfl hin rfl (by decide +kernel) rfl rfl (Nat.le_of_ble_eq_true rfl) d_X_init_32 (fun H locs hP hD hS => ?_)
  have hP : va_P D kc_cl ([(o, .inr (1, [.ref (q1), .ref (q2), .ref (q3), .ref (q4)])), (q1, .inl (cJ, (24, .inr (.inl (fun _ => 0))))), (q2, .inl (cI, (25, .inl (fun _ => 0)))), (q3, .inl (cJ, (25, .inr (.inl (fun _ => 0))))), (q4, .inl (cJ, (5, .inr (.inl (fun _ => 0)))))]) H := hP
  have hD : va_D A ([(o, .inr (1, [.ref (q1), .ref (q2), .ref (q3), .ref (q4)])), (q1, .inl (cJ, (24, .inr (.inl (fun _ => 0))))), (q2, .inl (cI, (25, .inl (fun _ => 0)))), (q3, .inl (cJ, (25, .inr (.inl (fun _ => 0))))), (q4, .inl (cJ, (5, .inr (.inl (fun _ => 0)))))]) := hD
  refine lv_iconst (v := nI 1) hx hb d_X_init_35 (by decide +kernel) ?_
  refine lv_istore_n hx hb d_X_init_36 rfl hl (by decide) rfl (fun ls hl => ?_)
  have hl : lv_has ls 6 [(1, .int (nI (1))), (0, .ref (o))] := hl
  refine lv_iconst (v := nI 0) hx hb d_X_init_37 (by decide +kernel) ?_
  refine lv_istore_n hx hb d_X_init_38 rfl hl (by decide) rfl (fun ls hl => ?_)
  have hl : lv_has ls 6 [(2, .int (nI (0))), (1, .int (nI (1))), (0, .ref (o))] := hl
  have hl : lv_has ls 6 [(2, .int (nI (0))), (1, .int (nI (kc_lf (7 * 0)))), (0, .ref (o))] := lv_sub hl [0, 1, 2] rfl
  refine X_init_I ⟨hx, hb, hml, hown, hts⟩ hK (o := o) (a := q1) (b := q2) (d := q3) (f := q4) 24 0 H locs ls (fun _ => 0) (by omega) hl ⟨hP, hD, hS⟩ ⟨fun j hj => absurd hj (by omega), rfl, fun j _ => rfl⟩ (fun H locs ls Rd hl hw hri => ?_)
  obtain ⟨hP, hD, hS⟩ := hw
  refine lv_iconst (v := nI 1) hx hb d_X_init_101 (by decide +kernel) ?_
  refine lv_istore_n hx hb d_X_init_102 rfl hl (by decide) rfl (fun ls hl => ?_)
  have hl : lv_has ls 6 [(2, .int (nI (1))), (1, .int (nI (kc_lf (7 * 24)))), (0, .ref (o))] := hl
  refine lv_iconst (v := nI 0) hx hb d_X_init_103 (by decide +kernel) ?_
  refine lv_istore_n hx hb d_X_init_104 rfl hl (by decide) rfl (fun ls hl => ?_)
  have hl : lv_has ls 6 [(3, .int (nI (0))), (2, .int (nI (1))), (1, .int (nI (kc_lf (7 * 24)))), (0, .ref (o))] := hl
  refine lv_iconst (v := nI 0) hx hb d_X_init_105 (by decide +kernel) ?_
  refine lv_istore hx hb d_X_init_106 hl (by decide) rfl (fun ls hl => ?_)
  have hl : lv_has ls 6 [(4, .int (nI (0))), (3, .int (nI (0))), (2, .int (nI (1))), (1, .int (nI (kc_lf (7 * 24)))), (0, .ref (o))] := hl
  have hl : lv_has ls 6 [(4, .int (nI (0))), (2, .int (nI (kc_px 0))), (3, .int (nI (kc_py 0))), (0, .ref (o))] := lv_sub hl [0, 2, 1, 4] rfl
  refine X_init_T ⟨hx, hb, hml, hown, hts⟩ hK 24 0 H locs ls (fun _ => 0) (by omega) hl ⟨hP, hD, hS⟩ ⟨rfl, fun c _ hc => absurd hc (by omega)⟩ (fun H locs ls Tn hl hw hti => ?_)
  obtain ⟨hP, hD, hS⟩ := hw
  have hP := ka_swap hP 1 rfl (ka_ext (g := kc_R) hri.1)
  have hP := ka_swap hP 2 rfl (ka_extI (g := kc_T) (kc_ti_e hti))
  have hD := hD.set (p := 1) (e := .inl (cJ, (24, .inr (.inl kc_R)))) rfl
  have hD := hD.set (p := 2) (e := .inl (cI, (25, .inl kc_T))) rfl
  exact kc_vret hx hb hr hlk (q1, q2, q3, q4) trivial hP hD hS d_X_init_161
set_option maxHeartbeats 4000000 in
/-- KeccakLanes(): all cells of the component, lanes and places zero -/
theorem c_K_init (l : Launch) (D : va_G) (o : Nat) (cJ cI cX : ClassId) (sz : Nat) : kc_Mv l y_K_init w_K_init r_K_init [.ref o] D (kc_ty cJ cI cX) [(o, .inr (0, [.null, .null, .null]))] sz (fun h : Nat → Nat => h 0 = o) (fun h => kc_C h cJ cI (fun _ => 0) (fun _ => 0) (fun _ => 0) (fun _ => 0)) 7 317 := by
  refine kc_ofWv (cc := b_K_init) (maxL := 1) (by decide) rfl (Nat.le_of_ble_eq_true rfl) ?_
  intro p e s m below meth c A ls S hr hlk hin hK hP hD hA hl hsz
  obtain ⟨hx, hb, hml, hown, hts⟩ := S
  have hS : va_S A s.heap s.heap [] := va_S.rf
  have hl : lv_has ls 1 [(0, .ref (o))] := hl
  obtain ⟨H, hH⟩ : ∃ H, H = s.heap := ⟨_, rfl⟩
  obtain ⟨locs, hlo⟩ : ∃ q : List Loc, q = [] := ⟨_, rfl⟩
  rw [← hlo] at hS ⊢
  have hP : va_P D kc_cl _ H := hH ▸ hP
  have hS : va_S A s.heap H locs := by rw [hH]; exact hS
  refine (show W _ _ _ _ _ _ _ _ _ _ H _ _ _ _ _ → W _ _ _ _ _ _ _ _ _ _ s.heap _ _ _ _ _ from by rw [hH]; exact id) ?_
  clear hlo hH
  refine lv_aload_n hx hb d_K_init_0 rfl (lv_at hl 0 rfl) ?_
  refine W.objInit hx hb hown (hts _ kw_14) (hts _ kw_15) (hts _ kw_16) rfl (by rw [hml]; exact hl.1) rfl d_K_init_1 (Nat.le_of_ble_eq_true rfl) (Nat.le_of_ble_eq_true rfl) ?_
  refine W.eq (g2 := F0 m 4 ls []) rfl ?_
  refine lv_aload_n hx hb d_K_init_4 rfl (lv_at hl 0 rfl) ?_
  refine va_new (ci := 1) (fs := [.null, .null, .null, .null]) (C := R_X) (T := F_X) (N := 4) (own := R_K) hx hb hts u_X_in t_X t_X_ok hown (hts _ kw_17) (hts _ kw_18) (hts _ kw_2) hK hP hD hS hA rfl (fun j hj => by rcases j with _ | _ | _ | _ | j <;> first | rfl | omega) (by decide) (by decide) d_K_init_5 (fun mx H hP hD hS => ?_)
  have hP : va_P D kc_cl ([(o, .inr (0, [.null, .null, .null])), (mx, .inr (1, [.null, .null, .null, .null]))]) H := hP
  have hD : va_D A ([(o, .inr (0, [.null, .null, .null])), (mx, .inr (1, [.null, .null, .null, .null]))]) := hD
  refine lv_dup hx hb d_K_init_8 rfl ?_
  refine kc_goV (wr := [(o, .inr (0, [.null, .null, .null]))]) (ws := [(mx, .inr (1, [.null, .null, .null, .null]))]) (va_runI (As := []) (rest := [.ref (mx), .ref (o)]) ⟨hx, hb, hml, hown, hts⟩ (c_X_init l D mx cJ cI cX H.size) (cwI 0 hts (kc_gi (kc_inC kw_21)) rfl rfl rfl (hts _ kw_2) (hts _ kw_19) (hts _ kw_20) rfl (by decide +kernel) ⟨by decide, by decide⟩) (kc_preS (wr := [(o, .inr (0, [.null, .null, .null]))]) hK hP hD) rfl rfl hl.1 rfl (lv_room (Nat.le_of_ble_eq_true rfl)) d_K_init_9 ⟨by decide, by decide⟩) hP hD hS hA (fun u H locs hp hP hD hS => ?_)
  obtain ⟨a1, a2, a3, a4⟩ := u
  have hP : va_P D kc_cl ([(o, .inr (0, [.null, .null, .null])), (mx, .inr (1, [.ref (a1), .ref (a2), .ref (a3), .ref (a4)])), (a1, .inl (cJ, (24, .inr (.inl (kc_R))))), (a2, .inl (cI, (25, .inl (kc_T)))), (a3, .inl (cJ, (25, .inr (.inl (fun _ => 0))))), (a4, .inl (cJ, (5, .inr (.inl (fun _ => 0)))))]) H := hP
  have hD : va_D A ([(o, .inr (0, [.null, .null, .null])), (mx, .inr (1, [.ref (a1), .ref (a2), .ref (a3), .ref (a4)])), (a1, .inl (cJ, (24, .inr (.inl (kc_R))))), (a2, .inl (cI, (25, .inl (kc_T)))), (a3, .inl (cJ, (25, .inr (.inl (fun _ => 0))))), (a4, .inl (cJ, (5, .inr (.inl (fun _ => 0)))))]) := hD
  refine va_putF (D := D) (ci := 0) (v := .ref (mx)) (ty := (.object "KeccakLanes$Mixer")) (C := R_K) (T := F_K) (N := 3) (own := R_K) hx hb hts u_K_in t_K t_K_ok n_K hown hK hP hD hS 0 rfl rfl 0 (by decide) (hts _ kw_38) (fun _ h9 => h9) rfl hin rfl (by decide +kernel) rfl rfl (Nat.le_of_ble_eq_true rfl) d_K_init_12 (fun H locs hP hD hS => ?_)
  have hP : va_P D kc_cl ([(o, .inr (0, [.ref (mx), .null, .null])), (mx, .inr (1, [.ref (a1), .ref (a2), .ref (a3), .ref (a4)])), (a1, .inl (cJ, (24, .inr (.inl (kc_R))))), (a2, .inl (cI, (25, .inl (kc_T)))), (a3, .inl (cJ, (25, .inr (.inl (fun _ => 0))))), (a4, .inl (cJ, (5, .inr (.inl (fun _ => 0)))))]) H := hP
  have hD : va_D A ([(o, .inr (0, [.ref (mx), .null, .null])), (mx, .inr (1, [.ref (a1), .ref (a2), .ref (a3), .ref (a4)])), (a1, .inl (cJ, (24, .inr (.inl (kc_R))))), (a2, .inl (cI, (25, .inl (kc_T)))), (a3, .inl (cJ, (25, .inr (.inl (fun _ => 0))))), (a4, .inl (cJ, (5, .inr (.inl (fun _ => 0)))))]) := hD
  refine lv_aload_n hx hb d_K_init_15 rfl (lv_at hl 0 rfl) ?_
  refine lv_sipush (v := nI 225) hx hb d_K_init_16 (by decide +kernel) ?_
  refine ka_newJ (n := 225) hx hb (hts _ kw_36) hK hP hD hS hA 0 rfl (by decide) (by decide) (by decide) d_K_init_19 (fun q1 H hP hD hS => ?_)
  have hP : va_P D kc_cl ([(o, .inr (0, [.ref (mx), .null, .null])), (mx, .inr (1, [.ref (a1), .ref (a2), .ref (a3), .ref (a4)])), (a1, .inl (cJ, (24, .inr (.inl (kc_R))))), (a2, .inl (cI, (25, .inl (kc_T)))), (a3, .inl (cJ, (25, .inr (.inl (fun _ => 0))))), (a4, .inl (cJ, (5, .inr (.inl (fun _ => 0))))), (q1, .inl (cJ, (225, .inr (.inl (fun _ => 0)))))]) H := hP
  have hD : va_D A ([(o, .inr (0, [.ref (mx), .null, .null])), (mx, .inr (1, [.ref (a1), .ref (a2), .ref (a3), .ref (a4)])), (a1, .inl (cJ, (24, .inr (.inl (kc_R))))), (a2, .inl (cI, (25, .inl (kc_T)))), (a3, .inl (cJ, (25, .inr (.inl (fun _ => 0))))), (a4, .inl (cJ, (5, .inr (.inl (fun _ => 0))))), (q1, .inl (cJ, (225, .inr (.inl (fun _ => 0)))))]) := hD
  refine va_putF (D := D) (ci := 0) (v := .ref (q1)) (ty := (.array .long)) (C := R_K) (T := F_K) (N := 3) (own := R_K) hx hb hts u_K_in t_K t_K_ok n_K hown hK hP hD hS 0 rfl rfl 1 (by decide) (hts _ kw_39) (fun _ h9 => h9) rfl hin rfl (by decide +kernel) rfl rfl (Nat.le_of_ble_eq_true rfl) d_K_init_21 (fun H locs hP hD hS => ?_)
  have hP : va_P D kc_cl ([(o, .inr (0, [.ref (mx), .ref (q1), .null])), (mx, .inr (1, [.ref (a1), .ref (a2), .ref (a3), .ref (a4)])), (a1, .inl (cJ, (24, .inr (.inl (kc_R))))), (a2, .inl (cI, (25, .inl (kc_T)))), (a3, .inl (cJ, (25, .inr (.inl (fun _ => 0))))), (a4, .inl (cJ, (5, .inr (.inl (fun _ => 0))))), (q1, .inl (cJ, (225, .inr (.inl (fun _ => 0)))))]) H := hP
  have hD : va_D A ([(o, .inr (0, [.ref (mx), .ref (q1), .null])), (mx, .inr (1, [.ref (a1), .ref (a2), .ref (a3), .ref (a4)])), (a1, .inl (cJ, (24, .inr (.inl (kc_R))))), (a2, .inl (cI, (25, .inl (kc_T)))), (a3, .inl (cJ, (25, .inr (.inl (fun _ => 0))))), (a4, .inl (cJ, (5, .inr (.inl (fun _ => 0))))), (q1, .inl (cJ, (225, .inr (.inl (fun _ => 0)))))]) := hD
  refine lv_aload_n hx hb d_K_init_24 rfl (lv_at hl 0 rfl) ?_
  refine lv_bipush (v := nI 9) hx hb d_K_init_25 (by decide +kernel) ?_
  refine ka_newI (n := 9) hx hb (hts _ kw_37) hK hP hD hS hA 1 rfl (by decide) (by decide) (by decide) d_K_init_27 (fun q2 H hP hD hS => ?_)
  have hP : va_P D kc_cl ([(o, .inr (0, [.ref (mx), .ref (q1), .null])), (mx, .inr (1, [.ref (a1), .ref (a2), .ref (a3), .ref (a4)])), (a1, .inl (cJ, (24, .inr (.inl (kc_R))))), (a2, .inl (cI, (25, .inl (kc_T)))), (a3, .inl (cJ, (25, .inr (.inl (fun _ => 0))))), (a4, .inl (cJ, (5, .inr (.inl (fun _ => 0))))), (q1, .inl (cJ, (225, .inr (.inl (fun _ => 0))))), (q2, .inl (cI, (9, .inl (fun _ => 0))))]) H := hP
  have hD : va_D A ([(o, .inr (0, [.ref (mx), .ref (q1), .null])), (mx, .inr (1, [.ref (a1), .ref (a2), .ref (a3), .ref (a4)])), (a1, .inl (cJ, (24, .inr (.inl (kc_R))))), (a2, .inl (cI, (25, .inl (kc_T)))), (a3, .inl (cJ, (25, .inr (.inl (fun _ => 0))))), (a4, .inl (cJ, (5, .inr (.inl (fun _ => 0))))), (q1, .inl (cJ, (225, .inr (.inl (fun _ => 0))))), (q2, .inl (cI, (9, .inl (fun _ => 0))))]) := hD
  refine va_putF (D := D) (ci := 0) (v := .ref (q2)) (ty := (.array .int)) (C := R_K) (T := F_K) (N := 3) (own := R_K) hx hb hts u_K_in t_K t_K_ok n_K hown hK hP hD hS 0 rfl rfl 2 (by decide) (hts _ kw_40) (fun _ h9 => h9) rfl hin rfl (by decide +kernel) rfl rfl (Nat.le_of_ble_eq_true rfl) d_K_init_29 (fun H locs hP hD hS => ?_)
  have hP : va_P D kc_cl ([(o, .inr (0, [.ref (mx), .ref (q1), .ref (q2)])), (mx, .inr (1, [.ref (a1), .ref (a2), .ref (a3), .ref (a4)])), (a1, .inl (cJ, (24, .inr (.inl (kc_R))))), (a2, .inl (cI, (25, .inl (kc_T)))), (a3, .inl (cJ, (25, .inr (.inl (fun _ => 0))))), (a4, .inl (cJ, (5, .inr (.inl (fun _ => 0))))), (q1, .inl (cJ, (225, .inr (.inl (fun _ => 0))))), (q2, .inl (cI, (9, .inl (fun _ => 0))))]) H := hP
  have hD : va_D A ([(o, .inr (0, [.ref (mx), .ref (q1), .ref (q2)])), (mx, .inr (1, [.ref (a1), .ref (a2), .ref (a3), .ref (a4)])), (a1, .inl (cJ, (24, .inr (.inl (kc_R))))), (a2, .inl (cI, (25, .inl (kc_T)))), (a3, .inl (cJ, (25, .inr (.inl (fun _ => 0))))), (a4, .inl (cJ, (5, .inr (.inl (fun _ => 0))))), (q1, .inl (cJ, (225, .inr (.inl (fun _ => 0))))), (q2, .inl (cI, (9, .inl (fun _ => 0))))]) := hD
  have hu : ∃ h : Nat → Nat, h 0 = o ∧ [h 0, h 1, h 2, h 3, h 4, h 5, h 6, h 7] = [o, q2, mx, q1, a1, a2, a3, a4] := ⟨fun i => [o, q2, mx, q1, a1, a2, a3, a4].getD i 0, rfl, rfl⟩
  obtain ⟨h, hh0, hh⟩ := hu
  simp only [List.cons.injEq, and_true] at hh
  obtain ⟨g0, g1, g2, g3, g4, g5, g6, g7⟩ := hh
  have hP := hP.sub (ws' := kc_C h cJ cI (fun _ => 0) (fun _ => 0) (fun _ => 0) (fun _ => 0)) [0, 7, 1, 6, 2, 3, 4, 5] (by simp only [kc_C, g0, g1, g2, g3, g4, g5, g6, g7]; rfl)
  have hD := hD.sub (ws' := kc_C h cJ cI (fun _ => 0) (fun _ => 0) (fun _ => 0) (fun _ => 0)) [0, 7, 1, 6, 2, 3, 4, 5] (by decide) (by simp only [kc_C, g0, g1, g2, g3, g4, g5, g6, g7]; rfl)
  exact kc_vret hx hb hr hlk h hh0 hP hD hS d_K_init_32
end
section
/-! multianewarray: an array of N rows of n longs; N and n are small -/
section KM
variable {E : CtlPost} {e : Env} {d : Bool} {acts : List Action} {s : State}
theorem km_arr {c comp : ClassId} {k : Class} {ty : FieldType} {n : Nat} {v : Value} (hk : s.vm.classes[c]? = some k) (hkind : k.kind = .array comp ty) (hl : ¬ n > e.platform.arrayLengthLimit) (hh : ¬ n * componentBytes ty > e.platform.maxHeapBytes) (hf : fits ty v = true) (hd : v.isDefault = true) (h1 : s.heap.size < e.platform.maxCells) (h2 : s.slotsUsed + n ≤ e.platform.maxSlots) {Q : Addr → Pre} (hq : Q s.heap.size d acts (s.pushCell (arrV c n (fun _ => v)))) : wp (Jvm.newArray c n v) Q E e d acts s := by
  have ha : allocActs (Array.replicate n v) s.heap.size acts = acts := by
    unfold allocActs
    rw [if_pos (by rw [Array.all_replicate]; split <;> simp [hd])]
  have hg : ∀ i w, (Array.replicate n v)[i]? = some w → s.fitsSlot c .none i w = true := by
    intro i w hw
    have hwv : w = v := by
      rw [Array.getElem?_replicate] at hw
      split at hw
      · exact (Option.some.inj hw).symm
      · cases hw
    rw [hwv]
    simp [State.fitsSlot, State.slotType?, hk, hkind, hf]
  rw [← arrV_new] at hq
  have h3 : ¬ n > e.platform.maxSlots := by omega
  simp [Jvm.newArray, Jvm.arrayFits, hl, hk, hkind, hh, h3, h1, h2, ha]
  exact ⟨hg, hq⟩
/-- the outer array when i rows stand in it; a row -/
def km_o (cX : ClassId) (N b i : Nat) : Cell := arrV cX N (fun j => if j < i then .ref (b + 1 + j) else .null)
def km_r (cJ : ClassId) (n : Nat) : Cell := arrV cJ n (fun _ => .long 0)
theorem km_o_step (cX : ClassId) (N b i : Nat) : (km_o cX N b i).setSlot i (.ref (b + 1 + i)) = km_o cX N b (i + 1) := by
  have hs : (km_o cX N b i).slots.setIfInBounds i (.ref (b + 1 + i)) = (km_o cX N b (i + 1)).slots := by
    apply Array.ext_getElem?
    intro j
    rw [Array.getElem?_setIfInBounds]
    have z : (km_o cX N b i).slots.size = N := arrV_size _ _ _
    have z1 : (km_o cX N b (i + 1)).slots.size = N := arrV_size _ _ _
    by_cases hj : j < N
    · rw [show (km_o cX N b (i + 1)).slots[j]? = _ from arrV_read _ _ hj]
      by_cases hij : i = j
      · subst hij
        rw [if_pos rfl, if_pos (by omega), if_pos (by omega)]
      · rw [if_neg hij, show (km_o cX N b i).slots[j]? = _ from arrV_read _ _ hj]
        by_cases h : j < i
        · rw [if_pos h, if_pos (by omega)]
        · rw [if_neg h, if_neg (by omega)]
    · rw [Array.getElem?_eq_none (xs := (km_o cX N b (i + 1)).slots) (by omega)]
      by_cases hij : i = j
      · rw [if_pos hij, if_neg (by omega)]
      · rw [if_neg hij, Array.getElem?_eq_none (by omega)]
  have h2 : (km_o cX N b i).setSlot i (.ref (b + 1 + i)) = { km_o cX N b i with slots := (km_o cX N b i).slots.setIfInBounds i (.ref (b + 1 + i)) } := rfl
  rw [h2, hs]
  rfl
/-- the machine when i rows stand -/
def km_s (T : State) (cX cJ : ClassId) (N n : Nat) : Nat → State
  | 0 => T.pushCell (km_o cX N T.heap.size 0)
  | i + 1 => ((km_s T cX cJ N n i).pushCell (km_r cJ n)).setCell T.heap.size (km_o cX N T.heap.size (i + 1))
theorem km_facts (T : State) (cX cJ : ClassId) (N n : Nat) : ∀ i, (km_s T cX cJ N n i).vm = T.vm ∧ (km_s T cX cJ N n i).heap.size = T.heap.size + 1 + i ∧ (km_s T cX cJ N n i).slotsUsed = T.slotsUsed + N + i * n ∧ (km_s T cX cJ N n i).heap[T.heap.size]? = some (km_o cX N T.heap.size i) ∧ (∀ q : Nat, q < T.heap.size → (km_s T cX cJ N n i).heap[q]? = T.heap[q]?) ∧ ∀ j, j < i → (km_s T cX cJ N n i).heap[T.heap.size + 1 + j]? = some (km_r cJ n)
  | 0 => ⟨rfl, by simp [km_s], by simp [km_s, km_o, arrV], by simp [km_s], fun q hq => State.heap_pushCell_of_lt _ _ hq, fun j hj => absurd hj (Nat.not_lt_zero j)⟩
  | i + 1 => by
    obtain ⟨f1, f2, f3, f4, f5, f6⟩ := km_facts T cX cJ N n i
    have hb : T.heap.size < (km_s T cX cJ N n i).heap.size := by omega
    have hp : ∀ q : Nat, q < (km_s T cX cJ N n i).heap.size → ((km_s T cX cJ N n i).pushCell (km_r cJ n)).heap[q]? = (km_s T cX cJ N n i).heap[q]? := fun q hq => State.heap_pushCell_of_lt _ _ hq
    have ho : ∀ q : Nat, q ≠ T.heap.size → (km_s T cX cJ N n (i + 1)).heap[q]? = ((km_s T cX cJ N n i).pushCell (km_r cJ n)).heap[q]? := fun q hq => State.heap_setCell_other (Ne.symm hq)
    refine ⟨f1, ?_, ?_, State.heap_setCell_self ((hp _ hb).trans f4), fun q hq => ?_, fun j hj => ?_⟩
    · simp [km_s, State.setCell, f2]; omega
    · simp [km_s, f3, km_r, arrV, Nat.succ_mul]; omega
    · rw [ho q (by omega), hp q (by omega)]; exact f5 q hq
    · rw [ho _ (by omega)]
      by_cases hji : j < i
      · rw [hp _ (by omega)]; exact f6 j hji
      · have hj2 : T.heap.size + 1 + j = (km_s T cX cJ N n i).heap.size := by omega
        rw [hj2]
        exact State.heap_pushCell_size _ _
theorem km_setTop (T : State) (f : JFrame) (cX cJ : ClassId) (N n : Nat) : ∀ i, km_s (T.setTop f) cX cJ N n i = (km_s T cX cJ N n i).setTop f
  | 0 => by simp only [km_s, State.heap_setTop, State.pushCell_setTop]
  | i + 1 => by simp only [km_s, km_setTop T f cX cJ N n i, State.heap_setTop, State.pushCell_setTop, State.setCell_setTop]
theorem km_make {cX cJ cc : ClassId} {kX kJ : Class} {N n : Nat} (hN : N < 1000) (hn : n < 1000) (hkX : s.vm.classes[cX]? = some kX) (hX : kX.kind = .array cJ (.array .long)) (hkJ : s.vm.classes[cJ]? = some kJ) (hJ : kJ.kind = .array cc .long) (hlim : e.platform.arrayLengthLimit ≥ 1000) (hmem : e.platform.maxHeapBytes ≥ 10000) (hc : s.heap.size + 1 + N ≤ e.platform.maxCells) (hs : s.slotsUsed + N + N * n ≤ e.platform.maxSlots) {Q : Addr → Pre} (hq : ∀ d' acts', Q s.heap.size d' acts' (km_s s cX cJ N n N)) : wp (multianewarray.make cX [nI N, nI n]) Q E e d acts s := by
  have hcN : (nI N).toNatClampNeg = N := nI_clamp (by omega)
  have hcn : (nI n).toNatClampNeg = n := nI_clamp (by omega)
  have hpN : ¬ nI N < 0 := nI_pos (by omega)
  have hpn : ¬ nI n < 0 := nI_pos (by omega)
  rw [multianewarray.make]
  simp only [wp_bind', Jvm.W.ite, hpN, if_false, wp_pure', Jvm.W.theClass, hkX, hX, Option.some.injEq, exists_eq_left', hcN]
  refine km_arr hkX hX (by omega) (by show ¬ N * 4 > _; omega) rfl rfl (by omega) (by have := Nat.zero_le (N * n); omega) ?_
  have hfind : ([nI n].find? (· < 0)) = none := by simp [hpn]
  simp only [hfind]
  rw [ite_self, wp_bind', Std.Legacy.Range.forIn_eq_forIn_range']
  rw [show ([:N] : Std.Legacy.Range).size = N by simp [Std.Legacy.Range.size]]
  show wp (forIn (List.range' 0 N 1) PUnit.unit _) _ E e d acts _
  have h0 : s.pushCell (arrV cX N (fun _ => .null)) = km_s s cX cJ N n 0 := by
    simp only [km_s, km_o]
    congr 2
  rw [h0]
  refine wp_forIn_inv (fun rest s' => ∃ i, i ≤ N ∧ rest = List.range' i (N - i) ∧ s' = km_s s cX cJ N n i) _ _ ⟨0, Nat.zero_le _, rfl, rfl⟩ ?_ ?_
  · rintro x rest s' d' acts' Q' ⟨i, hi, hl, rfl⟩ hnext
    have hlt : i < N := Nat.lt_of_le_of_ne hi (fun h => by subst h; rw [Nat.sub_self] at hl; simp at hl)
    rw [show N - i = (N - (i + 1)) + 1 by omega, List.range'_succ] at hl
    obtain ⟨rfl, hrest⟩ := List.cons.inj hl
    obtain ⟨f1, f2, f3, f4, f5, f6⟩ := km_facts s cX cJ N n x
    have hmul := Nat.mul_le_mul_right n (show x + 1 ≤ N from hlt)
    rw [Nat.succ_mul] at hmul
    have hkJ' : (km_s s cX cJ N n x).vm.classes[cJ]? = some kJ := by rw [f1]; exact hkJ
    have hb : s.heap.size < (km_s s cX cJ N n x).heap.size := by omega
    simp only [wp_bind']
    rw [multianewarray.make]
    simp only [wp_bind', Jvm.W.ite, hpn, if_false, wp_pure', Jvm.W.theClass, hkJ', hJ, Option.some.injEq, exists_eq_left', hcn]
    refine km_arr hkJ' hJ (by omega) (by show ¬ n * 8 > _; omega) rfl rfl (by omega) (by omega) ?_
    simp only [wp_bind', Jvm.W.writeLoc, wp_pure']
    refine ⟨km_o cX N s.heap.size x, ?_, ?_, ?_, ?_, ?_⟩
    · exact (State.heap_pushCell_of_lt _ _ hb).trans f4
    · intro h; cases h
    · rw [show (km_o cX N s.heap.size x).slots.size = N from arrV_size _ _ _]; exact hlt
    · show State.fitsSlot _ cX .none x _ = true
      simp [State.fitsSlot, State.slotType?, f1, hkX, hX, fits]
    · refine hnext _ _ _ ⟨x + 1, hlt, hrest, ?_⟩
      rw [show (km_s s cX cJ N n x).heap.size = s.heap.size + 1 + x from f2, km_o_step]
      rfl
  · rintro s' d' acts' ⟨i, hi, hl, rfl⟩
    have hiN : i = N := by
      by_cases h : i < N
      · rw [show N - i = (N - (i + 1)) + 1 by omega, List.range'_succ] at hl; cases hl
      · omega
    subst hiN
    exact hq _ _
end KM
section KMS
variable {p : Program} {l : Launch} {e : Env} {R : Room} {s : State} {m : MethodId} {args : Array Value} {below : List Frame} {meth : Method} {c : Code}
theorem km_stand {T : State} {locs : List Loc} {cells slots : Nat} (X : Stand p l e R s m args below meth c T locs cells slots) (cX cJ : ClassId) (N n : Nat) : ∀ i, ∃ L : List Loc, (∀ q ∈ L, q.base = T.heap.size) ∧ Stand p l e R s m args below meth c (km_s T cX cJ N n i) (locs ++ L) (cells + 1 + i) (slots + N + i * n)
  | 0 => by
    refine ⟨[], fun q h => (by cases h), ?_⟩
    have h := X.pushed (km_o cX N T.heap.size 0)
    rw [show (km_o cX N T.heap.size 0).slots.size = N from arrV_size _ _ _] at h
    rw [List.append_nil, Nat.zero_mul]
    exact h
  | i + 1 => by
    obtain ⟨L, hL, Xi⟩ := km_stand X cX cJ N n i
    obtain ⟨f1, f2, f3, f4, f5, f6⟩ := km_facts T cX cJ N n i
    have h1 := Xi.pushed (km_r cJ n)
    rw [show (km_r cJ n).slots.size = n from arrV_size _ _ _] at h1
    have hcell : ((km_s T cX cJ N n i).pushCell (km_r cJ n)).heap[T.heap.size]? = some (km_o cX N T.heap.size i) := (State.heap_pushCell_of_lt _ _ (show T.heap.size < (km_s T cX cJ N n i).heap.size by omega)).trans f4
    have h2 := h1.stored hcell i (.ref (T.heap.size + 1 + i))
    rw [km_o_step] at h2
    refine ⟨L ++ [⟨T.heap.size, i⟩], fun q hq => ?_, ?_⟩
    · rcases List.mem_append.mp hq with h | h
      · exact hL q h
      · rw [List.mem_singleton.mp h]
    · rw [← List.append_assoc, show slots + N + (i + 1) * n = slots + N + i * n + n by rw [Nat.succ_mul]; omega]
      exact h2
theorem km_over {args : Array Value} {s : State} (h : (Cond.arrayOver (.array .long)).before args s = true) : ∃ (cJ cX : ClassId) (k : Class), s.vm.findClass (FieldType.array .long).toString = some cJ ∧ s.vm.classes[cX]? = some k ∧ k.kind = .array cJ (.array .long) ∧ s.vm.findClass ("[" ++ (FieldType.array .long).toString) = some cX := by
  simp only [Cond.before, Cond.holds, Cond.value, beq_iff_eq] at h
  obtain ⟨cJ, hJ, h⟩ := Option.bind_eq_some_iff.mp h
  obtain ⟨cX, hi, h⟩ := Option.bind_eq_some_iff.mp h
  obtain ⟨k, hk, h⟩ := Option.map_eq_some_iff.mp h
  obtain ⟨hlt, hp, -⟩ := Array.findIdx?_eq_some_iff_getElem.mp hi
  rw [(Array.getElem?_eq_some_iff.mp hk).2] at hp
  cases hkind : k.kind with
  | array comp ty =>
    rw [hkind] at h hp
    simp only [Bool.and_eq_true, decide_eq_true_eq, beq_iff_eq] at h hp
    exact ⟨cJ, cX, k, hJ, hk, by rw [hkind, hp, h.1], h.2⟩
  | _ => rw [hkind] at h; simp at h
variable {H : Heap} {locs : List Loc} {cells slots : Nat} {Q : State → Prop}
/-- the instruction: the new array of rows lies at the heap's end, its rows behind it -/
theorem km_multi {cc : ByteArray} {pc : Nat} {ls : Array Slot} {rest : List Value} (hx : p.tables.exec = Jvm.exec) (hb : c.code = cc) {own : String} {index : Nat} (hown : s.vm.findClass own = some m.cls) (hclink : (Cond.classLink own index "[[J").before args s = true) {cJ cX : ClassId} {kX kJ : Class} {c0 : ClassId} (hfX : s.vm.findClass "[[J" = some cX) (hkX : s.vm.classes[cX]? = some kX) (hX : kX.kind = .array cJ (.array .long)) (hkJ : s.vm.classes[cJ]? = some kJ) (hJ : kJ.kind = .array c0 .long) {N n : Nat} (hN : N < 1000) (hn : n < 1000) (hcells : cells + (1 + N) ≤ R.cells) (hslots : slots + (N + N * n) ≤ R.slots) (hdg : decode cc pc = .ok (.multianewarray index 2, 4))
    (kk : ∀ (H1 : Heap) (L : List Loc), (∀ q ∈ L, q.base = H.size) → H1.size = H.size + 1 + N → H1[H.size]? = some (km_o cX N H.size N) → (∀ q : Nat, q < H.size → H1[q]? = H[q]?) → (∀ j, j < N → H1[H.size + 1 + j]? = some (km_r cJ n)) → W p l e R s m args below meth c H1 (locs ++ L) (cells + 1 + N) (slots + N + N * n) Q (F0 m (pc + 4) ls (.ref H.size :: rest))) : W p l e R s m args below meth c H locs cells slots Q (F0 m pc ls (.int (nI n) :: .int (nI N) :: rest)) := by
  intro T hT X
  subst hT
  subst hb
  have hpl : e.platform.magicAccessors = ({} : Platform).magicAccessors := by rw [X.admits.platform]
  obtain ⟨c2, hf2, hcl⟩ := Cond.classLink_spec hown hclink e.platform hpl
  cases hfX.symm.trans hf2
  obtain ⟨hg₁, hwarm₁, hready₁⟩ := State.classEntry (e := e) X.warmed hcl
  generalize T.vm.noted m.cls index (.cls cX) = vm₁ at hg₁ hwarm₁ hready₁
  have hal : s.vm.Alike vm₁ := hwarm₁.alike
  obtain ⟨kX₁, hkX₁, heX⟩ := hal.2.2 _ _ hkX
  obtain ⟨kJ₁, hkJ₁, heJ⟩ := hal.2.2 _ _ hkJ
  have hX₁ : kX₁.kind = .array cJ (.array .long) := by rw [heX]; exact hX
  have hJ₁ : kJ₁.kind = .array c0 .long := by rw [heJ]; exact hJ
  have X₁ := X.noted hwarm₁
  obtain ⟨hr1, hr2⟩ := X.roomAbove hcells hslots
  obtain ⟨L, hL, X₂⟩ := km_stand X₁ cX cJ N n N
  obtain ⟨f1, f2, f3, f4, f5, f6⟩ := km_facts (T.setVm vm₁) cX cJ N n N
  obtain ⟨t, a1, b1⟩ := kk _ L hL f2 f4 f5 f6 _ rfl X₂
  refine ⟨t, ?_, b1⟩
  have hlim : e.platform.arrayLengthLimit ≥ 1000 := by rw [Launch.admits_arrayLengthLimit X.admits]; decide
  have hmem : e.platform.maxHeapBytes ≥ 10000 := by rw [Launch.admits_maxHeapBytes X.admits]; decide
  jvm_step X.here [hx, hdg]
  simp only [multianewarray.sem, wp_bind', W.resolveClassAt_links (State.method?_setTop (F0 m pc ls (.int (nI n) :: .int (nI N) :: rest)) X.here.top) hg₁]
  rw [W.popN, if_neg (by decide)]
  refine ⟨F0 m pc ls (.int (nI n) :: .int (nI N) :: rest), State.topJava?_setTop' (s := T.setVm vm₁) _ X.here.top, [.int (nI N), .int (nI n)], rest, rfl, rfl, ?_⟩
  simp only [List.mapM_cons, List.mapM_nil, wp_bind', wp_pure']
  refine km_make hN hn hkX₁ hX₁ hkJ₁ hJ₁ hlim hmem (by show T.heap.size + 1 + N ≤ _; omega) (by show T.slotsUsed + N + N * n ≤ _; omega) (fun d' acts' => ?_)
  have eS : ((T.setTop (F0 m pc ls (.int (nI n) :: .int (nI N) :: rest))).setVm vm₁).setTop (F0 m pc ls rest) = (T.setVm vm₁).setTop (F0 m pc ls rest) := by
    show ((T.setVm vm₁).setTop _).setTop _ = _
    rw [State.setTop_setTop]
  rw [show ({ method := m, pc := pc, locals := ls, stack := rest, locked := none } : JFrame) = F0 m pc ls rest from rfl] at *
  rw [eS, km_setTop]
  simp only [wp_bind', Jvm.W.mark, Jvm.W.pushRef, State.topJava?_setTop' _ X₂.here.top, Option.some.injEq, exists_eq_left', State.setTop_setTop, State.heap_setTop]
  intro acts
  simp [jvm, X₂.here.top]
  exact a1
end KMS
end
section
/-! throwing: contracts that end in 'threw', calls of such methods, the way out of a method, the way into a handler -/
/-- nothing old has changed, at most k cells of n slots are new, the tables are warmer -/
def kt_FE (st t : State) (k n : Nat) : Prop := st.WarmedH t.vm ∧ st.sameButNew ({ t with vm := st.vm } : State) [] k n
/-- what was thrown: a new object of IllegalArgumentException -/
def kt_Q (st : State) (a : Addr) (t : State) : Prop := st.heap.size ≤ a ∧ ∃ cell : Cell, t.heap[a]? = some cell ∧ cell.vm.isStatics = false ∧ st.vm.findClass R_E = some cell.cls
def kt_Met (l : Launch) (y : MethodName) (w : List Cond) (rm : Room) (Pc : Array Value → State → Prop) (mc ms : Nat) : Prop :=
  MetFree l y (headSpec w rm) Pc (fun _ _ _ _ _ => True) (fun _ st o t => ∃ a, o = .threw a ∧ kt_Q st a t ∧ kt_FE st t mc ms)
theorem kt_old {st t : State} {k n : Nat} (h : kt_FE st t k n) : st.heap.size ≤ t.heap.size ∧ ∀ q : Nat, q < st.heap.size → t.heap[q]? = st.heap[q]? := by
  obtain ⟨-, -, h2, -, -, -, h6⟩ := h
  refine ⟨h2, fun q hq => ?_⟩
  have hc : st.heap[q]? = some st.heap[q] := Array.getElem?_eq_getElem hq
  obtain ⟨c', e1, e2, e3, e4⟩ := h6 q _ hc
  have hs : c'.slots = st.heap[q].slots := by
    apply Array.ext_getElem?
    intro i
    exact e4 i List.not_mem_nil
  rw [hc]
  refine e1.trans (congrArg some ?_)
  rw [e2, hs]
section KT
variable {p : Program} {l : Launch} {e : Env} {R : Room} {s : State} {m : MethodId} {args : Array Value} {below : List Frame} {meth : Method} {c : Code}
/-- the call itself: from the frame g whose arguments are popped, to the note over that frame -/
theorem kt_call {y : MethodName} {bytes : ByteArray} {maxL : Nat} {ret : Option FieldType} {rm : Room} {w : List Cond} {Pc : Array Value → State → Prop} {mc ms : Nat} (hM : kt_Met l y w rm Pc mc ms) (hrc : rm.cells = mc) (hrs : rm.slots = ms) {T : State} {locs : List Loc} {cells slots : Nat} (X : Stand p l e R s m args below meth c T locs cells slots)
    {g : JFrame} (hg : g.method = m) (hsize : g.locals.size = c.maxLocals) {ig : Instr} {len : Nat} (hdg : decode c.code g.pc = .ok (ig, len)) (hW : 2 * g.monitorRoom + (g.stack.map fun v => v.category).sum ≤ 8) (hfr : rm.frames + 1 ≤ R.frames) (hlo : 8 + (maxL + 11) + rm.locals ≤ R.locals)
    {mk : MethodId} (hn : T.methodNamed? y = some mk) {av : Array Value} (hws : ∀ w' ∈ w, w'.before av T = true) (hcode : (Cond.code y bytes maxL ret).before av T = true) (hini : (Cond.initialized y.cls).before av T = true) (hcells : cells + mc ≤ R.cells) (hslots : slots + ms ≤ R.slots) (hP : Pc av (T.calling g mk av)) :
    ∃ (a : Addr) (T' : State), Stand p l e R s m args below meth c T' locs (cells + mc) (slots + ms) ∧ T.heap.size ≤ T'.heap.size ∧ (∀ q : Nat, q < T.heap.size → T'.heap[q]? = T.heap[q]?) ∧ T.heap.size ≤ a ∧ (∃ cell : Cell, T'.heap[a]? = some cell ∧ cell.vm.isStatics = false ∧ T.vm.findClass R_E = some cell.cls) ∧
      Steps p.tables e below (doInvoke e (T.setTop g) [] mk av).1 ((T'.setTop g).pushFrame (.throwing a)) := by
  have h : At T g.method c below := by rw [hg]; exact X.here
  obtain ⟨methY, cY, hmY, hcY, -, hlY, -, -, -, -⟩ := Cond.code_spec hn hcode
  obtain ⟨kY, hkY, -⟩ := className_of_methodNamed hn
  have hinitY : kY.init = .initialized := Cond.initialized_spec (findClass_of_methodNamed hn) hkY hini
  have happ : (headSpec w rm).appliesLoose y e.platform (T.calling g mk av) = true :=
    Spec.appliesLoose_calling (g := g) h hdg hn hkY hinitY
      (X.room_calling (g := g) (R' := rm) hsize hmY hcY hfr (by rw [hlY]; omega) (by rw [hrc]; exact hcells) (by rw [hrs]; exact hslots)) (atoms_intro hws)
  obtain ⟨mid, hmid⟩ := h.above
  have hfrm : (T.setTop g).frames = (.java g :: mid) ++ below := by rw [State.frames_setTop' g h.top, hmid]; rfl
  obtain ⟨o, s₂, hsteps, -, hend, a, ho, hq, hfe⟩ := Steps.callFree hM p X.admits X.cas X.clock (acts := []) hfrm happ hP trivial
  subst ho
  rw [State.frames_setTop' g h.top] at hend
  have hend : s₂.frames = .throwing a :: .java g :: T.frames.tail := hend
  have hfe : kt_FE (T.calling g mk av) s₂ mc ms := hfe
  have hold := kt_old hfe
  obtain ⟨hW₂, hsb⟩ := hfe
  have hW' : T.WarmedH s₂.vm := hW₂
  obtain ⟨g₀, hg0⟩ := Option.isSome_iff_exists.mp h.top
  obtain ⟨r, hr⟩ := State.topJava?_eq_some.mp hg0
  have e3 : s₂ = ({ (T.calling g mk av).setFrames s₂.frames with heap := s₂.heap, slotsUsed := s₂.slotsUsed } : State).setVm s₂.vm := by
    have e4 : s₂ = ({ s₂ with vm := (T.calling g mk av).vm } : State).setVm s₂.vm := rfl
    rw [hsb.1] at e4
    exact e4
  have hr' : (({ T with heap := s₂.heap, slotsUsed := s₂.slotsUsed } : State).setVm s₂.vm).frames = .java g₀ :: r := hr
  have hs₂ : s₂ = ((({ T with heap := s₂.heap, slotsUsed := s₂.slotsUsed } : State).setVm s₂.vm).setTop g).pushFrame (.throwing a) := by
    refine e3.trans ?_
    rw [hend, State.calling_eq h.top, State.setFrames_setFrames, State.pushFrame, State.frames_setTop _ hr', State.setTop_of_frames _ hr', State.setFrames_setFrames, hr]
    rfl
  have hsame : T.sameButNew ({ T with heap := s₂.heap, slotsUsed := s₂.slotsUsed } : State) [] mc ms := by
    refine ⟨?_, hsb.2⟩
    obtain ⟨t, ht, -⟩ := State.frames_cons hr
    show ({ T with heap := s₂.heap, slotsUsed := s₂.slotsUsed } : State) = { T.setFrames T.frames with heap := s₂.heap, slotsUsed := s₂.slotsUsed }
    rw [State.setFrames_self ht]
  have hst := X.same.trans (hsame.setVm s.vm)
  rw [List.append_nil] at hst
  subst hg
  refine ⟨a, ({ T with heap := s₂.heap, slotsUsed := s₂.slotsUsed } : State).setVm s₂.vm, ⟨X.admits, X.cas, X.clock, X.frames, X.room, X.hears, X.method, X.code, (X.here.setHeapUsed s₂.heap s₂.slotsUsed).setVm hW'.alike, X.tail, State.WarmedH.trans X.warmed hW', X.limits, X.bytes, hst⟩, hold.1, hold.2, hq.1, hq.2, ?_⟩
  rw [← hs₂]
  exact hsteps
/-- the note '.throwing a' lies over the frame g -/
def kt_W (p : Program) (l : Launch) (e : Env) (R : Room) (s : State) (m : MethodId) (args : Array Value) (below : List Frame) (meth : Method) (c : Code) (H : Heap) (locs : List Loc) (cells slots : Nat) (Q : State → Prop) (g : JFrame) (a : Addr) : Prop :=
  ∀ T : State, T.heap = H → Stand p l e R s m args below meth c T locs cells slots → ∃ t, Steps p.tables e below ((T.setTop g).pushFrame (.throwing a)) t ∧ Q t
def kt_MQ (below : List Frame) (s : State) (mc ms : Nat) : State → Prop := fun t => ∃ o, t.status = .running ∧ Ended t below o ∧ ∃ a, o = .threw a ∧ kt_Q s a t ∧ kt_FE s t mc ms
theorem kt_ofW {y : MethodName} {rm : Room} {av : List Value} {Ex : State → Prop} {mc ms : Nat} {cc : ByteArray} {maxL : Nat} {ret : Option FieldType} {w : List Cond} (hy : plainName y.cls = true) (hw : w = Cond.code y cc maxL ret :: kc_tbl) (hlen : (lg_sl av).length ≤ maxL)
    (body : ∀ (p : Program) (e : Env) (s : State) (m : MethodId) (below : List Frame) (meth : Method) (c : Code) (ls : Array Slot), CallFix p m c cc maxL s av.toArray kc_tbl y.cls → meth.locks = false → c.exceptionTable.isEmpty = true → Ex s → lv_has ls maxL (lv_args 0 av) →
      W p l e rm s m av.toArray below meth c s.heap [] 0 0 (kt_MQ below s mc ms) (F0 m 0 ls [])) : kt_Met l y w rm (va_Pc av Ex) mc ms := by
  refine MetFree.of_bodyS (code := cc) (maxLocals := maxL) (ret := ret) hy ?_ ?_
  · intro args s m h hn
    obtain ⟨meth, c, h1, h2, h3, h4, h5, h6, -, -⟩ := Cond.code_spec hn (atoms_spec (ws := w) h _ (by rw [hw]; exact List.mem_cons_self))
    exact ⟨meth, c, h1, h2, h3, h4, h5, h6⟩
  · intro p e s m args below meth c s₁ B hml hP _
    subst hw
    obtain ⟨rfl, hEx⟩ := hP
    have hh0 : s₁.heap = s.heap := by rw [B.state]; rfl
    have hcd := atoms_spec (ws := Cond.code y cc maxL ret :: kc_tbl) B.pre _ List.mem_cons_self
    obtain ⟨t, a1, o, b1, b2, b3⟩ := body p e s m below meth c _ ⟨B.exec, B.bytes, hml, findClass_of_methodNamed B.named, kc_tail B.pre⟩ B.notSynchronized (B.noHandlers hcd) hEx (lv_entry av hlen) s₁ hh0 (Stand.of_body B)
    rw [lg_entry_eq] at *
    exact ⟨t, o, a1, b1, b2, b3⟩
variable {H : Heap} {locs : List Loc} {cells slots : Nat} {Q : State → Prop} {cc : ByteArray} {pc nL : Nat} {ls : Array Slot} {rest st0 : List Value} {y : MethodName} {bytes : ByteArray} {maxL mc ms n index : Nat} {ret : Option FieldType} {w : List Cond} {rm : Room} {own C : String} {b : Addr} {As : List Value} {Pc : Array Value → State → Prop}
/-- out of the method: nothing of its table covers the place -/
theorem kt_leave (hE : c.exceptionTable.isEmpty = true) (hlk : meth.locks = false) {a : Addr} {H0 : Heap} (hs : s.heap = H0) (ha : H0.size ≤ a) (hc : ∃ cell : Cell, H[a]? = some cell ∧ cell.vm.isStatics = false ∧ s.vm.findClass R_E = some cell.cls) : kt_W p l e R s m args below meth c H [] cells slots (kt_MQ below s cells slots) (F0 m pc ls rest) a := by
  intro T hT X
  have ht : c.exceptionTable.toList = [] := by
    rw [Array.isEmpty_iff] at hE
    rw [hE]
  obtain ⟨h1, h2, h3, h4, h5⟩ := X.leaveThrown a (g := F0 m pc ls rest) rfl rfl rfl (fun x hx => by rw [ht] at hx; cases hx) hlk
  subst hs
  subst hT
  exact ⟨_, h1, .threw a, h2, h3, a, rfl, ⟨ha, hc⟩, h4, h5⟩
/-- a static method throws -/
theorem kt_runS (S : CallFix p m c cc nL s args kc_tbl own) (hM : kt_Met l y w rm Pc mc ms) (cw : CallB R s args own index y bytes maxL ret w rm mc ms n ∧ (Cond.static y).before args s = true) (hp : PreS s H Pc As) (hn : As.length = n) (hsz : ls.size = nL) (hst : st0 = As.reverse ++ rest) (hW : 2 * (F0 m pc ls rest).monitorRoom + (rest.map fun v => v.category).sum ≤ 8) (hdg : decode cc pc = .ok (.invokestatic index, 3)) (hf : cells + mc ≤ R.cells ∧ slots + ms ≤ R.slots)
    (kk : ∀ (a : Addr) (H1 : Heap), H.size ≤ H1.size → (∀ q : Nat, q < H.size → H1[q]? = H[q]?) → H.size ≤ a → (∃ cell : Cell, H1[a]? = some cell ∧ cell.vm.isStatics = false ∧ s.vm.findClass R_E = some cell.cls) → kt_W p l e R s m args below meth c H1 locs (cells + mc) (slots + ms) Q (F0 m pc ls rest) a) : W p l e R s m args below meth c H locs cells slots Q (F0 m pc ls st0) := by
  obtain ⟨⟨hrc, hrs, hfr, hlo, hws, hcw, hcode, hini, hy, hlen, hl⟩, hstat⟩ := cw
  obtain ⟨hx, hb, hml, ho, -⟩ := S
  intro T hT X
  subst hb
  obtain ⟨mk, hnamed⟩ := Cond.code_named hcode
  obtain ⟨methM, cM, hmethM, -, -, -, -, -, -, hsigM⟩ := Cond.code_spec hnamed hcode
  have hstatic : methM.isStatic = true := Cond.static_spec hnamed hmethM hstat
  obtain ⟨kP, hkP, -⟩ := className_of_methodNamed hnamed
  have hinitP : kP.init = .initialized := Cond.initialized_spec (findClass_of_methodNamed hnamed) hkP hini
  obtain ⟨vm₁, X₁, hstep₁⟩ := X.invokestatic hx ho hl hnamed hmethM hstatic hkP hinitP hy (g := F0 m pc ls st0) rfl (argsL := As) (rest := rest) (hn.trans (hlen _ hsigM)) hst hdg
  obtain ⟨a, T', X', z1, z2, z3, z4, st⟩ := kt_call (bytes := bytes) (maxL := maxL) (ret := ret) hM hrc hrs X₁ (g := F0 m pc ls rest) rfl (hsz.trans hml.symm) hdg hW hfr hlo (X₁.named hnamed) (av := As.toArray) (fun w' hw' => hws w' hw' _ _ X₁.warmed) (hws _ hcw _ _ X₁.warmed) (word_at X₁.warmed (Or.inl (by first | rfl | simp [Cond.onTables, Cond.keeps, Cond.steady])) hini) hf.1 hf.2 (hp.1 _ _ _ _ (hp.2 (T.setVm vm₁) hT X₁.warmed))
  have hTv : (T.setVm vm₁).heap = H := hT
  rw [hTv] at z1 z2 z3
  obtain ⟨cell, c1, c2, c3⟩ := z4
  obtain ⟨t, a1, b1⟩ := kk a T'.heap z1 z2 z3 ⟨cell, c1, c2, by rw [← X₁.warmed.alike.findClass]; exact c3⟩ T' rfl X'
  exact ⟨t, hstep₁ _ fun acts => by rw [doInvoke_state]; exact st.trans a1, b1⟩
/-- a method of an object of ours throws -/
theorem kt_runV (S : CallFix p m c cc nL s args kc_tbl own) (hM : kt_Met l y w rm Pc mc ms) (cw : CallW R s args own C index y bytes maxL ret w rm mc ms n) (hp : PreV s H C b Pc As) (hn : As.length = n) (hsz : ls.size = nL) (hst : st0 = As.reverse ++ .ref b :: rest) (hW : 2 * (F0 m pc ls rest).monitorRoom + (rest.map fun v => v.category).sum ≤ 8) (hdg : decode cc pc = .ok (.invokevirtual index, 3)) (hf : cells + mc ≤ R.cells ∧ slots + ms ≤ R.slots)
    (kk : ∀ (a : Addr) (H1 : Heap), H.size ≤ H1.size → (∀ q : Nat, q < H.size → H1[q]? = H[q]?) → H.size ≤ a → (∃ cell : Cell, H1[a]? = some cell ∧ cell.vm.isStatics = false ∧ s.vm.findClass R_E = some cell.cls) → kt_W p l e R s m args below meth c H1 locs (cells + mc) (slots + ms) Q (F0 m pc ls rest) a) : W p l e R s m args below meth c H locs cells slots Q (F0 m pc ls st0) := by
  obtain ⟨⟨hrc, hrs, hfr, hlo, hws, hcw, hcode, hini, hy, hlen, hl⟩, hinst, hsel⟩ := cw
  obtain ⟨hx, hb, hml, ho, -⟩ := S
  obtain ⟨hbl, ⟨cellB, hcB, hoB, hclB⟩, hPc⟩ := hp
  intro T hT X
  subst hb
  obtain ⟨mk, methM, hnamed, hmethM, hstM, habM⟩ := Cond.instanceMethod_spec hinst
  obtain ⟨methM', cM, hmethM', -, -, -, -, -, -, hsigM⟩ := Cond.code_spec hnamed hcode
  cases hmethM.symm.trans hmethM'
  obtain ⟨c2, r2, m2, q1, q2, q3, q4, kP, hkP, hkPi⟩ := Cond.selects_spec hsel
  cases hclB.symm.trans q1
  cases (State.methodFound?_of_named hnamed hy).symm.trans q2
  cases hnamed.symm.trans q3
  have hselP : selectMethod e.platform s.vm cellB.cls mk = .method mk := by rw [Launch.admits_selectMethod X.admits]; exact q4
  obtain ⟨vm₁, X₁, hstep₁⟩ := X.invokevirtual hx ho hl hnamed hmethM hstM hkP hkPi hy (a := b) (cell := cellB) (by rw [hT]; exact hcB) (fun z h => by rw [h] at hoB; cases hoB) hselP hmethM habM hkP hkPi (g := F0 m pc ls st0) rfl (argsL := As) (rest := rest) (hn.trans (hlen _ hsigM)) hst hdg
  obtain ⟨a, T', X', z1, z2, z3, z4, st⟩ := kt_call (bytes := bytes) (maxL := maxL) (ret := ret) hM hrc hrs X₁ (g := F0 m pc ls rest) rfl (hsz.trans hml.symm) hdg hW hfr hlo (X₁.named hnamed) (av := (Value.ref b :: As).toArray) (fun w' hw' => hws w' hw' _ _ X₁.warmed) (hws _ hcw _ _ X₁.warmed) (word_at X₁.warmed (Or.inl (by first | rfl | simp [Cond.onTables, Cond.keeps, Cond.steady])) hini) hf.1 hf.2 (hbl _ _ _ _ (hPc (T.setVm vm₁) hT X₁.warmed))
  have hTv : (T.setVm vm₁).heap = H := hT
  rw [hTv] at z1 z2 z3
  obtain ⟨cell, c1, c2, c3⟩ := z4
  obtain ⟨t, a1, b1⟩ := kk a T'.heap z1 z2 z3 ⟨cell, c1, c2, by rw [← X₁.warmed.alike.findClass]; exact c3⟩ T' rfl X'
  exact ⟨t, hstep₁ _ fun acts => by rw [doInvoke_state]; exact st.trans a1, b1⟩
end KT
end
section
/-! the way into a handler whose catch type may still be unresolved; what a throw needs of the start -/
theorem kt_find {e : Env} {u : State} {f : JFrame} {a : Addr} {mt : Method} {cd : Code} {x : ExceptionTableEntry} {cE : ClassId} {cell : Cell} {vm' : Vm} (hm : u.vm.method? f.method = some mt) (hc : mt.code = some cd) (hx : cd.exceptionTable.toList = [x]) (hcov : covers x f.pc = true) (h0 : x.catchType ≠ 0) (hg : (resolveClass f.method.cls x.catchType).Gives e.toSetting u.vm (.ok cE) vm') (hsz : vm'.classes.size ≤ u.vm.classes.size) (hcell : u.heap[a]? = some cell) (hobj : ∀ k, cell.vm ≠ .statics k) (hk1 : ∃ k, vm'.classes[cell.cls]? = some k) (hk2 : ∃ k, vm'.classes[cE]? = some k) (hfit : vm'.assignable cell.cls cE = true) (Q : Handler → Pre) (E : CtlPost) (d : Bool) (acts : List Action) : wp (findHandler f a) Q E e d acts u ↔ Q (.found x.handlerPc) d acts (u.setVm vm') := by
  rw [Jvm.W.findHandler_eq hm hc, hx]
  simp only [covers] at hcov
  obtain ⟨h1, h2⟩ := hg.op (op := VmOp.resolveClass f.method.cls x.catchType) rfl
  obtain ⟨k1, hk1⟩ := hk1
  obtain ⟨k2, hk2⟩ := hk2
  simp [findHandler.go, hcov, h0, h1, VmOp.lands_eq h2 hsz, hcell, hobj, hk1, hk2, hfit, VmOp.dirties, VmOp.acts]
theorem kt_step {e : Env} {u : State} {a : Addr} {f : JFrame} {r : List Frame} {hp : Nat} {vm' : Vm} (hfind : ∀ (Q : Handler → Pre) (E : CtlPost) (d : Bool) (acts : List Action), wp (findHandler f a) Q E e d acts u ↔ Q (.found hp) d acts (u.setVm vm')) : (stepThrowing e u a (.java f :: r)).Is ((u.setVm vm').setFrames (.java { f with pc := hp, stack := [.ref a] } :: r)) [] := by
  simp only [stepThrowing, searchFrame, vmDo]
  generalize hr : Sem.go _ e false [] u = res
  obtain ⟨as, rfl, ha⟩ := Sem.eq_ok_of hr (a := Handler.found hp) (s' := u.setVm vm') (acts' := []) (by simp [hfind _ _ _ _])
  exact ⟨rfl, ha⟩
section KTC
variable {p : Program} {l : Launch} {e : Env} {R : Room} {s : State} {m : MethodId} {args : Array Value} {below : List Frame} {meth : Method} {c : Code} {H : Heap} {locs : List Loc} {cells slots : Nat} {Q : State → Prop} {pc : Nat} {ls : Array Slot} {rest : List Value}
theorem kt_catch {b0 e0 hp ct : Nat} {own : String} {a : Addr} (hh : c.exceptionTable.toList.map (fun h => (h.startPc, h.endPc, h.handlerPc, h.catchType)) = [(b0, e0, hp, ct)]) (hcov : b0 ≤ pc ∧ pc < e0) (hct : ct ≠ 0) (hown : s.vm.findClass own = some m.cls) (hlink : (Cond.classLink own ct R_E).before args s = true) (hcast : (Cond.castable R_E R_E).before args s = true) (hc : ∃ cell : Cell, H[a]? = some cell ∧ cell.vm.isStatics = false ∧ s.vm.findClass R_E = some cell.cls)
    (k : W p l e R s m args below meth c H locs cells slots Q (F0 m hp ls [.ref a])) : kt_W p l e R s m args below meth c H locs cells slots Q (F0 m pc ls rest) a := by
  intro T hT X
  obtain ⟨cell, hcell, hobj, hcls⟩ := hc
  obtain ⟨x, hx⟩ : ∃ x, c.exceptionTable.toList = [x] := by
    cases h : c.exceptionTable.toList with
    | nil => rw [h] at hh; cases hh
    | cons x r =>
      cases r with
      | nil => exact ⟨x, rfl⟩
      | cons y z => rw [h] at hh; simp at hh
  rw [hx] at hh
  simp only [List.map_cons, List.map_nil, List.cons.injEq, and_true, Prod.mk.injEq] at hh
  obtain ⟨x1, x2, x3, x4⟩ := hh
  have hpl : e.platform.magicAccessors = ({} : Platform).magicAccessors := by rw [X.admits.platform]
  obtain ⟨cE, hfE, hcl⟩ := Cond.classLink_spec hown hlink e.platform hpl
  cases hcls.symm.trans hfE
  obtain ⟨hg₁, hwarm₁, -⟩ := State.classEntry (e := e) X.warmed hcl
  generalize T.vm.noted m.cls ct (.cls cell.cls) = vm₁ at hg₁ hwarm₁
  have hal : s.vm.Alike vm₁ := hwarm₁.alike
  obtain ⟨c3, c4, w1, w2, w3⟩ := Cond.castable_spec hcast
  cases hcls.symm.trans w1
  cases hcls.symm.trans w2
  obtain ⟨kE, hkE, -⟩ := Vm.findClass_spec hcls
  obtain ⟨kE', hkE', -⟩ := hal.2.2 _ _ hkE
  have X₁ := X.noted hwarm₁
  obtain ⟨t, a1, b1⟩ := k (T.setVm vm₁) hT X₁
  refine ⟨t, ?_, b1⟩
  have hfind := kt_find (e := e) (u := (T.setTop (F0 m pc ls rest)).pushFrame (.throwing a)) (f := F0 m pc ls rest) (a := a) (mt := meth) (cd := c) (x := x) (cE := cell.cls) (cell := cell) (vm' := vm₁) X.method' X.code hx (by simp only [covers, x1, x2, Bool.and_eq_true, decide_eq_true_eq]; exact hcov) (by rw [x4]; exact hct) (by rw [x4]; exact hg₁) (Vm.Alike.size_le (X.warmed.alike.symm.trans hal)) (by rw [← hT] at hcell; exact hcell) (VmData.ne_statics_of hobj) ⟨_, hkE'⟩ ⟨_, hkE'⟩ (by rw [hal.assignable]; exact w3)
  rw [x3] at hfind
  obtain ⟨hgo, hwi⟩ := At.throwing (g := F0 m pc ls rest) X.here a
  refine Steps.head hgo hwi ?_
  rw [stepThread_throwing (frames_entered X.here.top _), (kt_step hfind).1]
  obtain ⟨g₀, hg⟩ := Option.isSome_iff_exists.mp X.here.top
  obtain ⟨r, hr⟩ := State.topJava?_eq_some.mp hg
  have hr' : (T.setVm vm₁).frames = .java g₀ :: r := hr
  rw [State.setTop_of_frames _ hr'] at a1
  have hfin : (((T.setTop (F0 m pc ls rest)).pushFrame (.throwing a)).setVm vm₁).setFrames (.java { F0 m pc ls rest with pc := hp, stack := [.ref a] } :: T.frames.tail) = (T.setVm vm₁).setFrames (.java (F0 m hp ls [.ref a]) :: r) := by
    rw [hr, List.tail_cons, State.pushFrame, State.setTop_of_frames _ hr, State.setFrames_setFrames]
    show ((T.setVm vm₁).setFrames _).setFrames _ = _
    rw [State.setFrames_setFrames]
  rw [hfin]
  exact a1
end KTC
/-- a static of Throwable's that holds a reference or null, its cell at aS -/
def kt_st (n d : String) (aS : Nat) (U : State) (H : Heap) : Prop := ∃ (c : ClassId) (k : Class) (i : Nat) (f : Field) (cell : Cell) (v : Value), U.vm.findClass "java/lang/Throwable" = some c ∧ U.fieldFound? "java/lang/Throwable" n d = some (c, k, i, f) ∧ f.isStatic = true ∧ k.statics = some aS ∧ H[aS]? = some cell ∧ cell.vm.isStatics = true ∧ cell.cls = c ∧ f.slot < cell.slots.size ∧ k.staticTypes[f.slot]? = some f.type ∧ cell.slots[f.slot]? = some v ∧ (v = .null ∨ ∃ t, v = .ref t)
theorem kt_st_moved {n d : String} {aS : Nat} {u U : State} {H H1 : Heap} (hvm : u.vm.Alike U.vm) (hH : H1[aS]? = H[aS]?) (h : kt_st n d aS u H) : kt_st n d aS U H1 := by
  obtain ⟨c, k, i, f, cell, v, h1, h2, h3, h4, h5, h6, h7, h8, h9, h10⟩ := h
  obtain ⟨k', hi', he⟩ := State.fieldFound?_setVm hvm h2
  exact ⟨c, k', i, f, cell, v, by rw [hvm.findClass]; exact h1, hi', h3, by rw [he]; exact h4, by rw [hH]; exact h5, h6, h7, h8, by rw [he]; exact h9, h10⟩
theorem kt_st_of {n d : String} {args : Array Value} {s : State} (hl : (Cond.laysStatic "java/lang/Throwable" n d).before args s = true) (hr : (Cond.isRef (.static "java/lang/Throwable" n d)).before args s = true) : ∃ aS, aS < s.heap.size ∧ kt_st n d aS s s.heap := by
  obtain ⟨c, k, i, f, a, cell, hc, hi, hst, ha, hcell, hs, hcls, hlt, hty⟩ := Cond.laysStatic_spec hl
  cases hv : (Term.static "java/lang/Throwable" n d).eval args s none [] s with
  | none => simp [Cond.before, Cond.holds, Cond.value, hv] at hr
  | some w =>
    obtain ⟨-, a', cell', ha', hcell', -, hslot⟩ := Term.static_spec hi hv
    cases ha.symm.trans ha'
    cases hcell.symm.trans hcell'
    refine ⟨a, (Array.getElem?_eq_some_iff.mp hcell).1, c, k, i, f, cell, w, hc, hi, hst, ha, hcell, hs, hcls, hlt, hty, hslot, ?_⟩
    simp only [Cond.before, Cond.holds, Cond.value, hv] at hr
    cases w with
    | null => exact Or.inl rfl
    | ref t => exact Or.inr ⟨t, rfl⟩
    | _ => simp at hr
theorem kt_st_lays {n d : String} {aS : Nat} {args : Array Value} {s : State} (h : kt_st n d aS s s.heap) : (Cond.laysStatic "java/lang/Throwable" n d).before args s = true := by
  obtain ⟨c, k, i, f, cell, v, h1, h2, h3, h4, h5, h6, h7, h8, h9, h10⟩ := h
  simp [Cond.before, Cond.holds, Cond.value, h1, h2, h3, h4, h5, h6, h7, h8, h9]
theorem kt_st_ref {n d : String} {aS : Nat} {args : Array Value} {s : State} (h : kt_st n d aS s s.heap) : (Cond.isRef (.static "java/lang/Throwable" n d)).before args s = true := by
  obtain ⟨c, k, i, f, cell, v, h1, h2, h3, h4, h5, h6, h7, h8, h9, h10, h11⟩ := h
  have hv : (Term.static "java/lang/Throwable" n d).eval args s none [] s = some v := by
    simp [Term.eval, State.fieldNamed?, h2, h3, h4, h5, h6, h10]
  rcases h11 with rfl | ⟨t, rfl⟩ <;> simp [Cond.before, Cond.holds, Cond.value, hv]
def kt_ws : List Cond := [.castable "java/lang/IllegalArgumentException" "java/lang/IllegalArgumentException", .declares ⟨"java/lang/RuntimeException", "<init>", "()V"⟩, .declares ⟨"java/lang/Exception", "<init>", "()V"⟩, .declares ⟨"java/lang/Throwable", "<init>", "()V"⟩]
/-- what making and throwing an IllegalArgumentException needs beyond the words that keep -/
def kt_ok (aS bS : Nat) (U : State) : Prop := kt_st "UNASSIGNED_STACK" "[Ljava/lang/StackTraceElement;" aS U U.heap ∧ kt_st "SUPPRESSED_SENTINEL" "Ljava/util/List;" bS U U.heap ∧ ∀ w ∈ kt_ws, w.before #[] U = true
theorem kt_face {w : Cond} (hf : w.faceAtom = true) (ht : w.onTables = true) {A A' : Array Value} {u U : State} (hvm : u.vm.Alike U.vm) (h : w.before A u = true) : w.before A' U = true := by
  have h1 := Cond.faceAtom_setVm (args := A) hvm w hf h
  rw [Cond.onTables_vm (A := A) (A' := A') (U := u) (U' := U) U.vm w ht] at h1
  exact h1
theorem kt_ws_face : ∀ w ∈ kt_ws, w.faceAtom = true ∧ w.onTables = true := by
  intro w hw
  simp only [kt_ws, List.mem_cons, List.not_mem_nil, or_false] at hw
  rcases hw with rfl | rfl | rfl | rfl <;> exact ⟨rfl, rfl⟩
theorem kt_ok_moved {aS bS : Nat} {u U : State} (hvm : u.vm.Alike U.vm) (ha : U.heap[aS]? = u.heap[aS]?) (hb : U.heap[bS]? = u.heap[bS]?) (h : kt_ok aS bS u) : kt_ok aS bS U :=
  ⟨kt_st_moved hvm ha h.1, kt_st_moved hvm hb h.2.1, fun w hw => kt_face (kt_ws_face w hw).1 (kt_ws_face w hw).2 hvm (h.2.2 w hw)⟩
theorem kt_ok_blind {av : List Value} {aS bS : Nat} : FrameBlind (va_Pc av (kt_ok aS bS)) := fun a U g mk q => ⟨q.1, kt_ok_moved (u := U) (U := U.calling g mk a) (Vm.Alike.refl U.vm) rfl rfl q.2⟩
end
section
/-! in(bad) throws an IllegalArgumentException; so do the component's methods on bad arguments, nothing being written (rows printed by gen19.py) -/
abbrev r_K_in : Room := { frames := 6, cells := 1, slots := 6, locals := 81 }
abbrev r_Kx : Room := { frames := 7, cells := 1, slots := 6, locals := 102 }
set_option maxRecDepth 20000 in
theorem kt_atoms {args : Array Value} {s : State} {aS bS : Nat} (hts : ∀ w ∈ kc_tbl, w.before args s = true) (hok : kt_ok aS bS s) : ∀ w ∈ Bundle.ownAtoms0 "KeccakLanes" 26 "java/lang/IllegalArgumentException" ["java/lang/RuntimeException", "java/lang/Exception"], w.before args s = true := by
  intro w hw
  simp only [Bundle.ownAtoms0, Bundle.throwableAtoms, Bundle.chain0Atoms, Bundle.passAtoms, List.append_assoc, List.cons_append, List.nil_append, List.mem_cons, List.not_mem_nil, or_false] at hw
  rcases hw with rfl | rfl | rfl | rfl | rfl | rfl | rfl | rfl | rfl | rfl | rfl | rfl | rfl | rfl | rfl | rfl | rfl | rfl | rfl | rfl | rfl | rfl | rfl | rfl | rfl | rfl | rfl | rfl | rfl | rfl | rfl | rfl | rfl | rfl | rfl | rfl | rfl | rfl | rfl | rfl | rfl | rfl | rfl | rfl | rfl | rfl | rfl | rfl | rfl | rfl | rfl | rfl | rfl
  · exact hts _ kw_4
  · exact hts _ kw_81
  · exact hts _ kw_90
  · exact hts _ kw_92
  · exact hts _ kw_95
  · exact hts _ kw_97
  · exact hts _ kw_82
  · exact hts _ kw_83
  · exact hts _ kw_15
  · exact hts _ kw_16
  · exact hts _ kw_84
  · exact hts _ kw_89
  · exact hts _ kw_93
  · exact hts _ kw_109
  · exact hts _ kw_71
  · exact hts _ kw_110
  · exact hts _ kw_73
  · exact hts _ kw_111
  · exact hts _ kw_75
  · exact hts _ kw_85
  · exact kt_st_lays hok.1
  · exact hts _ kw_87
  · exact kt_st_lays hok.2.1
  · exact hts _ kw_77
  · exact hts _ kw_99
  · exact hts _ kw_100
  · exact hts _ kw_101
  · exact hts _ kw_102
  · exact hok.2.2 _ (List.mem_of_getElem? (i := 1) rfl)
  · exact hts _ kw_102
  · exact hts _ kw_103
  · exact hts _ kw_104
  · exact hts _ kw_105
  · exact hok.2.2 _ (List.mem_of_getElem? (i := 2) rfl)
  · exact hts _ kw_105
  · exact hts _ kw_106
  · exact hts _ kw_107
  · exact hts _ kw_82
  · exact hok.2.2 _ (List.mem_of_getElem? (i := 3) rfl)
  · exact hts _ kw_98
  · exact hts _ kw_60
  · exact hok.2.2 _ (List.mem_of_getElem? (i := 0) rfl)
  · exact hts _ kw_68
  · exact hts _ kw_69
  · exact hts _ kw_70
  · exact hts _ kw_72
  · exact hts _ kw_74
  · exact hts _ kw_76
  · exact kt_st_ref hok.1
  · exact kt_st_ref hok.2.1
  · exact hts _ kw_80
  · exact hts _ kw_79
  · exact hts _ kw_78
section KIN
variable {p : Program} {l : Launch} {e : Env} {s : State} {m : MethodId} {args : Array Value} {below : List Frame} {meth : Method} {c : Code}
set_option maxHeartbeats 4000000 in
theorem K_in_T (hfl : l.flags = flags0) {aS bS : Nat} {ls : Array Slot} (S : CallFix p m c b_K_in 2 s args kc_tbl R_K) (hlk : meth.locks = false) (hE : c.exceptionTable.isEmpty = true) (hok : kt_ok aS bS s) (hsz : ls.size = 2) : W p l e r_K_in s m args below meth c s.heap [] 0 0 (kt_MQ below s 1 6) (F0 m 9 ls []) := by
  obtain ⟨hx, hb, hml, hown, hts⟩ := S
  refine W.newc hx hb hown (hts _ kw_59) (hts _ kw_60) (hts _ kw_7) rfl d_K_in_9 (by decide) (by decide) (fun cC kC f1 f2 f3 f4 => ?_)
  refine W.eq (g2 := F0 m 12 ls [.ref s.heap.size]) rfl ?_
  refine lv_dup hx hb d_K_in_12 rfl ?_
  intro T hT X
  have htr : e.platform.stackTraces = false := Launch.traces_off hfl X.admits
  have ht : c.exceptionTable.toList = [] := by
    rw [Array.isEmpty_iff] at hE
    rw [hE]
  obtain ⟨U, h1, h2, h3, h4, h5, ce, h6, h7⟩ := X.ctorThrow0 hx htr (own := R_K) (cls := "java/lang/IllegalArgumentException") (names := ["java/lang/RuntimeException", "java/lang/Exception"]) (ic := 26) hown (by decide) (by decide) (kt_atoms hts hok) (fun x hx => by cases hx) (a := s.heap.size) (cX := cC) (kX := kC) f1 f2 (by rw [hT]; exact Array.getElem?_push_size) (Nat.le_refl _) (g := F0 m 13 ls [.ref s.heap.size, .ref s.heap.size]) rfl (hsz.trans hml.symm) rfl rfl (rest := []) rfl (by rw [hb]; exact d_K_in_13) (by rw [hb]; exact d_K_in_16) (fun x hx => by rw [ht] at hx; cases hx) (by decide) (Nat.le_of_ble_eq_true rfl) hlk
  exact ⟨U, h1, .threw s.heap.size, h2, h3, s.heap.size, rfl, ⟨Nat.le_refl _, ce, h6, by rw [h7.vm]; rfl, h7.cls⟩, h4, h5⟩
end KIN
set_option maxHeartbeats 4000000 in
theorem x_K_in (l : Launch) (hfl : l.flags = flags0) (aS bS : Nat) (x : Int32) (hi : Nat) (hhi : hi < 3000) (hbad : x < 0 ∨ nI (hi + 1) ≤ x) : kt_Met l y_K_in w_K_in r_K_in (va_Pc [.int x, .int (nI hi)] (kt_ok aS bS)) 1 6 := by
  refine kt_ofW (cc := b_K_in) (maxL := 2) (ret := none) (by decide) rfl (Nat.le_of_ble_eq_true rfl) ?_
  intro p e s m below meth c ls S hlk hE hok hl
  obtain ⟨hx, hb, hml, hown, hts⟩ := S
  have hl : lv_has ls 2 [(0, .int (x)), (1, .int (nI (hi)))] := hl
  rcases hbad with hbad | hbad
  · refine lv_iload_n hx hb d_K_in_0 rfl (lv_at hl 0 rfl) ?_
    refine lv_if_lt (tgt := 9) hx hb d_K_in_1 (by decide) (fun _ => ?_) (fun hc => absurd hc (not_not_intro hbad))
    exact K_in_T hfl ⟨hx, hb, hml, hown, hts⟩ hlk hE hok hl.1
  · refine lv_iload_n hx hb d_K_in_0 rfl (lv_at hl 0 rfl) ?_
    refine lv_if_lt (tgt := 9) hx hb d_K_in_1 (by decide) (fun hc => absurd hc (kc_ge0 (by omega) hbad)) (fun _ => ?_)
    refine lv_iload_n hx hb d_K_in_4 rfl (lv_at hl 0 rfl) ?_
    refine lv_iload_n hx hb d_K_in_5 rfl (lv_at hl 1 rfl) ?_
    refine lv_icmp_le (tgt := 17) hx hb d_K_in_6 (by decide) (fun hc => absurd hc (kc_gt (by omega) hbad)) (fun _ => ?_)
    exact K_in_T hfl ⟨hx, hb, hml, hown, hts⟩ hlk hE hok hl.1
set_option maxHeartbeats 4000000 in
theorem x_K_clear (l : Launch) (hfl : l.flags = flags0) (aS bS : Nat) (b : Nat) (x : Int32) (hbad : x < 0 ∨ nI 8 ≤ x) : kt_Met l y_K_clear w_K_clear r_Kx (va_Pc [.ref b, .int x] (kt_ok aS bS)) 1 6 := by
  refine kt_ofW (cc := b_K_clear) (maxL := 3) (ret := none) (by decide) rfl (Nat.le_of_ble_eq_true rfl) ?_
  intro p e s m below meth c ls S hlk hE hok hl
  obtain ⟨hx, hb, hml, hown, hts⟩ := S
  have hl : lv_has ls 3 [(0, .ref (b)), (1, .int (x))] := hl
  refine lv_iload_n hx hb d_K_clear_0 rfl (lv_at hl 1 rfl) ?_
  refine lv_bipush (v := nI 7) hx hb d_K_clear_1 (by decide +kernel) ?_
  refine kt_runS (As := [.int (x), .int (nI (7))]) (rest := []) ⟨hx, hb, hml, hown, hts⟩ (x_K_in l hfl aS bS (x) 7 (by omega) hbad) (va_cwS 2 hts (kc_inS kw_56 kw_57 kw_1 kw_58) rfl rfl rfl (by decide +kernel) ⟨by decide, by decide⟩) ⟨kt_ok_blind, fun U hU hW => ⟨rfl, kt_ok_moved hW.alike (by rw [hU]) (by rw [hU]) hok⟩⟩ rfl hl.1 rfl (lv_room (Nat.le_of_ble_eq_true rfl)) d_K_clear_3 ⟨by decide, by decide⟩ (fun a H1 z1 z2 z3 z4 => ?_)
  exact kt_leave hE hlk rfl z3 z4
set_option maxHeartbeats 4000000 in
theorem x_K_mix (l : Launch) (hfl : l.flags = flags0) (aS bS : Nat) (b : Nat) (x : Int32) (hbad : x < 0 ∨ nI 8 ≤ x) : kt_Met l y_K_mix w_K_mix r_Kx (va_Pc [.ref b, .int x] (kt_ok aS bS)) 1 6 := by
  refine kt_ofW (cc := b_K_mix) (maxL := 2) (ret := none) (by decide) rfl (Nat.le_of_ble_eq_true rfl) ?_
  intro p e s m below meth c ls S hlk hE hok hl
  obtain ⟨hx, hb, hml, hown, hts⟩ := S
  have hl : lv_has ls 2 [(0, .ref (b)), (1, .int (x))] := hl
  refine lv_iload_n hx hb d_K_mix_0 rfl (lv_at hl 1 rfl) ?_
  refine lv_bipush (v := nI 7) hx hb d_K_mix_1 (by decide +kernel) ?_
  refine kt_runS (As := [.int (x), .int (nI (7))]) (rest := []) ⟨hx, hb, hml, hown, hts⟩ (x_K_in l hfl aS bS (x) 7 (by omega) hbad) (va_cwS 2 hts (kc_inS kw_56 kw_57 kw_1 kw_58) rfl rfl rfl (by decide +kernel) ⟨by decide, by decide⟩) ⟨kt_ok_blind, fun U hU hW => ⟨rfl, kt_ok_moved hW.alike (by rw [hU]) (by rw [hU]) hok⟩⟩ rfl hl.1 rfl (lv_room (Nat.le_of_ble_eq_true rfl)) d_K_mix_3 ⟨by decide, by decide⟩ (fun a H1 z1 z2 z3 z4 => ?_)
  exact kt_leave hE hlk rfl z3 z4
set_option maxHeartbeats 4000000 in
theorem x_K_take (l : Launch) (hfl : l.flags = flags0) (aS bS : Nat) (b : Nat) (x y : Int32) (v : Int64) (hbad : (x < 0 ∨ nI 8 ≤ x) ∨ (∃ j, j < 8 ∧ x = nI j) ∧ (y < 0 ∨ nI 9 ≤ y)) : kt_Met l y_K_take w_K_take r_Kx (va_Pc [.ref b, .int x, .long v, .int y] (kt_ok aS bS)) 1 6 := by
  refine kt_ofW (cc := b_K_take) (maxL := 6) (ret := some .int) (by decide) rfl (Nat.le_of_ble_eq_true rfl) ?_
  intro p e s m below meth c ls S hlk hE hok hl
  obtain ⟨hx, hb, hml, hown, hts⟩ := S
  have hl : lv_has ls 6 [(0, .ref (b)), (1, .int (x)), (2, .long (v)), (4, .int (y))] := hl
  rcases hbad with hbad | ⟨⟨j, hj, rfl⟩, hbad⟩
  · refine lv_iload_n hx hb d_K_take_0 rfl (lv_at hl 1 rfl) ?_
    refine lv_bipush (v := nI 7) hx hb d_K_take_1 (by decide +kernel) ?_
    refine kt_runS (As := [.int (x), .int (nI (7))]) (rest := []) ⟨hx, hb, hml, hown, hts⟩ (x_K_in l hfl aS bS (x) 7 (by omega) hbad) (va_cwS 2 hts (kc_inS kw_56 kw_57 kw_1 kw_58) rfl rfl rfl (by decide +kernel) ⟨by decide, by decide⟩) ⟨kt_ok_blind, fun U hU hW => ⟨rfl, kt_ok_moved hW.alike (by rw [hU]) (by rw [hU]) hok⟩⟩ rfl hl.1 rfl (lv_room (Nat.le_of_ble_eq_true rfl)) d_K_take_3 ⟨by decide, by decide⟩ (fun a H1 z1 z2 z3 z4 => ?_)
    exact kt_leave hE hlk rfl z3 z4
  · refine lv_iload_n hx hb d_K_take_0 rfl (lv_at hl 1 rfl) ?_
    refine lv_bipush (v := nI 7) hx hb d_K_take_1 (by decide +kernel) ?_
    refine va_csv (va_Run.run (va_runS (As := [.int (nI (j)), .int (nI (7))]) (rest := []) ⟨hx, hb, hml, hown, hts⟩ (c_K_in_v l j 7 (by omega) (by omega)) (va_cwS 2 hts (kc_inS kw_56 kw_57 kw_1 kw_58) rfl rfl rfl (by decide +kernel) ⟨by decide, by decide⟩) kc_preP rfl rfl hl.1 rfl (lv_room (Nat.le_of_ble_eq_true rfl)) d_K_take_3 ⟨by decide, by decide⟩)) (fun _ => ?_)
    refine lv_iload hx hb d_K_take_6 (lv_at hl 3 rfl) ?_
    refine lv_bipush (v := nI 8) hx hb d_K_take_8 (by decide +kernel) ?_
    refine kt_runS (As := [.int (y), .int (nI (8))]) (rest := []) ⟨hx, hb, hml, hown, hts⟩ (x_K_in l hfl aS bS (y) 8 (by omega) hbad) (va_cwS 2 hts (kc_inS kw_56 kw_57 kw_1 kw_58) rfl rfl rfl (by decide +kernel) ⟨by decide, by decide⟩) ⟨kt_ok_blind, fun U hU hW => ⟨rfl, kt_ok_moved hW.alike (by rw [hU]) (by rw [hU]) hok⟩⟩ rfl hl.1 rfl (lv_room (Nat.le_of_ble_eq_true rfl)) d_K_take_10 ⟨by decide, by decide⟩ (fun a H1 z1 z2 z3 z4 => ?_)
    exact kt_leave hE hlk rfl z3 z4
set_option maxHeartbeats 4000000 in
theorem x_K_fill (l : Launch) (hfl : l.flags = flags0) (aS bS : Nat) (b : Nat) (x y v st : Int32) (hbad : (x < 0 ∨ nI 8 ≤ x) ∨ (∃ j, j < 8 ∧ x = nI j) ∧ (y < 0 ∨ nI 2001 ≤ y)) : kt_Met l y_K_fill w_K_fill r_Kx (va_Pc [.ref b, .int x, .int v, .int st, .int y] (kt_ok aS bS)) 1 6 := by
  refine kt_ofW (cc := b_K_fill) (maxL := 6) (ret := some .int) (by decide) rfl (Nat.le_of_ble_eq_true rfl) ?_
  intro p e s m below meth c ls S hlk hE hok hl
  obtain ⟨hx, hb, hml, hown, hts⟩ := S
  have hl : lv_has ls 6 [(0, .ref (b)), (1, .int (x)), (2, .int (v)), (3, .int (st)), (4, .int (y))] := hl
  rcases hbad with hbad | ⟨⟨j, hj, rfl⟩, hbad⟩
  · refine lv_iload_n hx hb d_K_fill_0 rfl (lv_at hl 1 rfl) ?_
    refine lv_bipush (v := nI 7) hx hb d_K_fill_1 (by decide +kernel) ?_
    refine kt_runS (As := [.int (x), .int (nI (7))]) (rest := []) ⟨hx, hb, hml, hown, hts⟩ (x_K_in l hfl aS bS (x) 7 (by omega) hbad) (va_cwS 2 hts (kc_inS kw_56 kw_57 kw_1 kw_58) rfl rfl rfl (by decide +kernel) ⟨by decide, by decide⟩) ⟨kt_ok_blind, fun U hU hW => ⟨rfl, kt_ok_moved hW.alike (by rw [hU]) (by rw [hU]) hok⟩⟩ rfl hl.1 rfl (lv_room (Nat.le_of_ble_eq_true rfl)) d_K_fill_3 ⟨by decide, by decide⟩ (fun a H1 z1 z2 z3 z4 => ?_)
    exact kt_leave hE hlk rfl z3 z4
  · refine lv_iload_n hx hb d_K_fill_0 rfl (lv_at hl 1 rfl) ?_
    refine lv_bipush (v := nI 7) hx hb d_K_fill_1 (by decide +kernel) ?_
    refine va_csv (va_Run.run (va_runS (As := [.int (nI (j)), .int (nI (7))]) (rest := []) ⟨hx, hb, hml, hown, hts⟩ (c_K_in_v l j 7 (by omega) (by omega)) (va_cwS 2 hts (kc_inS kw_56 kw_57 kw_1 kw_58) rfl rfl rfl (by decide +kernel) ⟨by decide, by decide⟩) kc_preP rfl rfl hl.1 rfl (lv_room (Nat.le_of_ble_eq_true rfl)) d_K_fill_3 ⟨by decide, by decide⟩)) (fun _ => ?_)
    refine lv_iload hx hb d_K_fill_6 (lv_at hl 4 rfl) ?_
    refine lv_sipush (v := nI 2000) hx hb d_K_fill_8 (by decide +kernel) ?_
    refine kt_runS (As := [.int (y), .int (nI (2000))]) (rest := []) ⟨hx, hb, hml, hown, hts⟩ (x_K_in l hfl aS bS (y) 2000 (by omega) hbad) (va_cwS 2 hts (kc_inS kw_56 kw_57 kw_1 kw_58) rfl rfl rfl (by decide +kernel) ⟨by decide, by decide⟩) ⟨kt_ok_blind, fun U hU hW => ⟨rfl, kt_ok_moved hW.alike (by rw [hU]) (by rw [hU]) hok⟩⟩ rfl hl.1 rfl (lv_room (Nat.le_of_ble_eq_true rfl)) d_K_fill_11 ⟨by decide, by decide⟩ (fun a H1 z1 z2 z3 z4 => ?_)
    exact kt_leave hE hlk rfl z3 z4
set_option maxHeartbeats 4000000 in
theorem x_K_copy (l : Launch) (hfl : l.flags = flags0) (aS bS : Nat) (b : Nat) (x y : Int32) (hbad : (x < 0 ∨ nI 8 ≤ x) ∨ (∃ j, j < 8 ∧ x = nI j) ∧ (y < 0 ∨ nI 8 ≤ y)) : kt_Met l y_K_copy w_K_copy r_Kx (va_Pc [.ref b, .int x, .int y] (kt_ok aS bS)) 1 6 := by
  refine kt_ofW (cc := b_K_copy) (maxL := 3) (ret := none) (by decide) rfl (Nat.le_of_ble_eq_true rfl) ?_
  intro p e s m below meth c ls S hlk hE hok hl
  obtain ⟨hx, hb, hml, hown, hts⟩ := S
  have hl : lv_has ls 3 [(0, .ref (b)), (1, .int (x)), (2, .int (y))] := hl
  rcases hbad with hbad | ⟨⟨j, hj, rfl⟩, hbad⟩
  · refine lv_iload_n hx hb d_K_copy_0 rfl (lv_at hl 1 rfl) ?_
    refine lv_bipush (v := nI 7) hx hb d_K_copy_1 (by decide +kernel) ?_
    refine kt_runS (As := [.int (x), .int (nI (7))]) (rest := []) ⟨hx, hb, hml, hown, hts⟩ (x_K_in l hfl aS bS (x) 7 (by omega) hbad) (va_cwS 2 hts (kc_inS kw_56 kw_57 kw_1 kw_58) rfl rfl rfl (by decide +kernel) ⟨by decide, by decide⟩) ⟨kt_ok_blind, fun U hU hW => ⟨rfl, kt_ok_moved hW.alike (by rw [hU]) (by rw [hU]) hok⟩⟩ rfl hl.1 rfl (lv_room (Nat.le_of_ble_eq_true rfl)) d_K_copy_3 ⟨by decide, by decide⟩ (fun a H1 z1 z2 z3 z4 => ?_)
    exact kt_leave hE hlk rfl z3 z4
  · refine lv_iload_n hx hb d_K_copy_0 rfl (lv_at hl 1 rfl) ?_
    refine lv_bipush (v := nI 7) hx hb d_K_copy_1 (by decide +kernel) ?_
    refine va_csv (va_Run.run (va_runS (As := [.int (nI (j)), .int (nI (7))]) (rest := []) ⟨hx, hb, hml, hown, hts⟩ (c_K_in_v l j 7 (by omega) (by omega)) (va_cwS 2 hts (kc_inS kw_56 kw_57 kw_1 kw_58) rfl rfl rfl (by decide +kernel) ⟨by decide, by decide⟩) kc_preP rfl rfl hl.1 rfl (lv_room (Nat.le_of_ble_eq_true rfl)) d_K_copy_3 ⟨by decide, by decide⟩)) (fun _ => ?_)
    refine lv_iload_n hx hb d_K_copy_6 rfl (lv_at hl 2 rfl) ?_
    refine lv_bipush (v := nI 7) hx hb d_K_copy_7 (by decide +kernel) ?_
    refine kt_runS (As := [.int (y), .int (nI (7))]) (rest := []) ⟨hx, hb, hml, hown, hts⟩ (x_K_in l hfl aS bS (y) 7 (by omega) hbad) (va_cwS 2 hts (kc_inS kw_56 kw_57 kw_1 kw_58) rfl rfl rfl (by decide +kernel) ⟨by decide, by decide⟩) ⟨kt_ok_blind, fun U hU hW => ⟨rfl, kt_ok_moved hW.alike (by rw [hU]) (by rw [hU]) hok⟩⟩ rfl hl.1 rfl (lv_room (Nat.le_of_ble_eq_true rfl)) d_K_copy_9 ⟨by decide, by decide⟩ (fun a H1 z1 z2 z3 z4 => ?_)
    exact kt_leave hE hlk rfl z3 z4
set_option maxHeartbeats 4000000 in
theorem x_K_lane (l : Launch) (hfl : l.flags = flags0) (aS bS : Nat) (b : Nat) (x y : Int32) (hbad : (x < 0 ∨ nI 8 ≤ x) ∨ (∃ j, j < 8 ∧ x = nI j) ∧ (y < 0 ∨ nI 25 ≤ y)) : kt_Met l y_K_lane w_K_lane r_Kx (va_Pc [.ref b, .int x, .int y] (kt_ok aS bS)) 1 6 := by
  refine kt_ofW (cc := b_K_lane) (maxL := 3) (ret := some .long) (by decide) rfl (Nat.le_of_ble_eq_true rfl) ?_
  intro p e s m below meth c ls S hlk hE hok hl
  obtain ⟨hx, hb, hml, hown, hts⟩ := S
  have hl : lv_has ls 3 [(0, .ref (b)), (1, .int (x)), (2, .int (y))] := hl
  rcases hbad with hbad | ⟨⟨j, hj, rfl⟩, hbad⟩
  · refine lv_iload_n hx hb d_K_lane_0 rfl (lv_at hl 1 rfl) ?_
    refine lv_bipush (v := nI 7) hx hb d_K_lane_1 (by decide +kernel) ?_
    refine kt_runS (As := [.int (x), .int (nI (7))]) (rest := []) ⟨hx, hb, hml, hown, hts⟩ (x_K_in l hfl aS bS (x) 7 (by omega) hbad) (va_cwS 2 hts (kc_inS kw_56 kw_57 kw_1 kw_58) rfl rfl rfl (by decide +kernel) ⟨by decide, by decide⟩) ⟨kt_ok_blind, fun U hU hW => ⟨rfl, kt_ok_moved hW.alike (by rw [hU]) (by rw [hU]) hok⟩⟩ rfl hl.1 rfl (lv_room (Nat.le_of_ble_eq_true rfl)) d_K_lane_3 ⟨by decide, by decide⟩ (fun a H1 z1 z2 z3 z4 => ?_)
    exact kt_leave hE hlk rfl z3 z4
  · refine lv_iload_n hx hb d_K_lane_0 rfl (lv_at hl 1 rfl) ?_
    refine lv_bipush (v := nI 7) hx hb d_K_lane_1 (by decide +kernel) ?_
    refine va_csv (va_Run.run (va_runS (As := [.int (nI (j)), .int (nI (7))]) (rest := []) ⟨hx, hb, hml, hown, hts⟩ (c_K_in_v l j 7 (by omega) (by omega)) (va_cwS 2 hts (kc_inS kw_56 kw_57 kw_1 kw_58) rfl rfl rfl (by decide +kernel) ⟨by decide, by decide⟩) kc_preP rfl rfl hl.1 rfl (lv_room (Nat.le_of_ble_eq_true rfl)) d_K_lane_3 ⟨by decide, by decide⟩)) (fun _ => ?_)
    refine lv_iload_n hx hb d_K_lane_6 rfl (lv_at hl 2 rfl) ?_
    refine lv_bipush (v := nI 24) hx hb d_K_lane_7 (by decide +kernel) ?_
    refine kt_runS (As := [.int (y), .int (nI (24))]) (rest := []) ⟨hx, hb, hml, hown, hts⟩ (x_K_in l hfl aS bS (y) 24 (by omega) hbad) (va_cwS 2 hts (kc_inS kw_56 kw_57 kw_1 kw_58) rfl rfl rfl (by decide +kernel) ⟨by decide, by decide⟩) ⟨kt_ok_blind, fun U hU hW => ⟨rfl, kt_ok_moved hW.alike (by rw [hU]) (by rw [hU]) hok⟩⟩ rfl hl.1 rfl (lv_room (Nat.le_of_ble_eq_true rfl)) d_K_lane_9 ⟨by decide, by decide⟩ (fun a H1 z1 z2 z3 z4 => ?_)
    exact kt_leave hE hlk rfl z3 z4
set_option maxHeartbeats 4000000 in
theorem x_K_digest (l : Launch) (hfl : l.flags = flags0) (aS bS : Nat) (b : Nat) (x y : Int32) (hbad : (x < 0 ∨ nI 8 ≤ x) ∨ (∃ j, j < 8 ∧ x = nI j) ∧ (y < 0 ∨ nI 4 ≤ y)) : kt_Met l y_K_digest w_K_digest r_Kx (va_Pc [.ref b, .int x, .int y] (kt_ok aS bS)) 1 6 := by
  refine kt_ofW (cc := b_K_digest) (maxL := 7) (ret := some .long) (by decide) rfl (Nat.le_of_ble_eq_true rfl) ?_
  intro p e s m below meth c ls S hlk hE hok hl
  obtain ⟨hx, hb, hml, hown, hts⟩ := S
  have hl : lv_has ls 7 [(0, .ref (b)), (1, .int (x)), (2, .int (y))] := hl
  rcases hbad with hbad | ⟨⟨j, hj, rfl⟩, hbad⟩
  · refine lv_iload_n hx hb d_K_digest_0 rfl (lv_at hl 1 rfl) ?_
    refine lv_bipush (v := nI 7) hx hb d_K_digest_1 (by decide +kernel) ?_
    refine kt_runS (As := [.int (x), .int (nI (7))]) (rest := []) ⟨hx, hb, hml, hown, hts⟩ (x_K_in l hfl aS bS (x) 7 (by omega) hbad) (va_cwS 2 hts (kc_inS kw_56 kw_57 kw_1 kw_58) rfl rfl rfl (by decide +kernel) ⟨by decide, by decide⟩) ⟨kt_ok_blind, fun U hU hW => ⟨rfl, kt_ok_moved hW.alike (by rw [hU]) (by rw [hU]) hok⟩⟩ rfl hl.1 rfl (lv_room (Nat.le_of_ble_eq_true rfl)) d_K_digest_3 ⟨by decide, by decide⟩ (fun a H1 z1 z2 z3 z4 => ?_)
    exact kt_leave hE hlk rfl z3 z4
  · refine lv_iload_n hx hb d_K_digest_0 rfl (lv_at hl 1 rfl) ?_
    refine lv_bipush (v := nI 7) hx hb d_K_digest_1 (by decide +kernel) ?_
    refine va_csv (va_Run.run (va_runS (As := [.int (nI (j)), .int (nI (7))]) (rest := []) ⟨hx, hb, hml, hown, hts⟩ (c_K_in_v l j 7 (by omega) (by omega)) (va_cwS 2 hts (kc_inS kw_56 kw_57 kw_1 kw_58) rfl rfl rfl (by decide +kernel) ⟨by decide, by decide⟩) kc_preP rfl rfl hl.1 rfl (lv_room (Nat.le_of_ble_eq_true rfl)) d_K_digest_3 ⟨by decide, by decide⟩)) (fun _ => ?_)
    refine lv_iload_n hx hb d_K_digest_6 rfl (lv_at hl 2 rfl) ?_
    refine lv_iconst (v := nI 3) hx hb d_K_digest_7 (by decide +kernel) ?_
    refine kt_runS (As := [.int (y), .int (nI (3))]) (rest := []) ⟨hx, hb, hml, hown, hts⟩ (x_K_in l hfl aS bS (y) 3 (by omega) hbad) (va_cwS 2 hts (kc_inS kw_56 kw_57 kw_1 kw_58) rfl rfl rfl (by decide +kernel) ⟨by decide, by decide⟩) ⟨kt_ok_blind, fun U hU hW => ⟨rfl, kt_ok_moved hW.alike (by rw [hU]) (by rw [hU]) hok⟩⟩ rfl hl.1 rfl (lv_room (Nat.le_of_ble_eq_true rfl)) d_K_digest_8 ⟨by decide, by decide⟩ (fun a H1 z1 z2 z3 z4 => ?_)
    exact kt_leave hE hlk rfl z3 z4
end
section
/-! the model's constructor; contracts with a further premise; contracts of methods with a handler (rows printed by gen20.py) -/
theorem kc_ofWE {l : Launch} {y : MethodName} {rm : Room} {av : List Value} {D : va_G} {tys : List (ClassId × FieldType)} {ws : va_W} {sz : Nat} {Ex : State → Prop} {QA : (Nat → Prop) → Array Value → State → Outcome → State → Prop} {mc ms : Nat} {cc : ByteArray} {maxL : Nat} {ret : Option FieldType} {w : List Cond} (hy : plainName y.cls = true) (hw : w = Cond.code y cc maxL ret :: kc_tbl) (hlen : (lg_sl av).length ≤ maxL)
    (body : ∀ (p : Program) (e : Env) (s : State) (m : MethodId) (below : List Frame) (meth : Method) (c : Code) (A : Nat → Prop) (ls : Array Slot), CallFix p m c cc maxL s av.toArray kc_tbl y.cls → meth.sig.returnType = ret → meth.locks = false → meth.name = y.name → va_K D kc_cl tys s → va_P D kc_cl ws s.heap → va_D A ws → (∀ q, s.heap.size ≤ q → A q) → lv_has ls maxL (lv_args 0 av) → Ex s →
      W p l e rm s m av.toArray below meth c s.heap [] 0 0 (MQ below (QA A) av.toArray s mc ms A) (F0 m 0 ls [])) : Met l y w rm (va_Pc av (fun U => kc_pre D tys ws sz U ∧ Ex U)) (QA (va_A ws sz)) mc ms (va_A ws sz) := by
  refine Met.ofW (cc := cc) (maxL := maxL) (ret := ret) hy hw ?_
  intro p e s m args below meth c s₁ B hml hv
  subst hw
  obtain ⟨rfl, ⟨hsz, hP, hK, hD0⟩, hEx⟩ := hv
  subst hsz
  rw [lg_entry_eq]
  exact body p e s m below meth c (va_A ws s.heap.size) _ ⟨B.exec, B.bytes, hml, findClass_of_methodNamed B.named, kc_tail B.pre⟩ B.returns B.notSynchronized (name_of_methodNamed B.named B.method).1 hK hP hD0.self (fun q h => Or.inr h) (lv_entry av hlen) hEx
/-- the same for a method with a handler -/
theorem kc_ofWH {l : Launch} {y : MethodName} {rm : Room} {av : List Value} {D : va_G} {tys : List (ClassId × FieldType)} {ws : va_W} {sz : Nat} {Ex : State → Prop} {QA : (Nat → Prop) → Array Value → State → Outcome → State → Prop} {mc ms : Nat} {cc : ByteArray} {maxL : Nat} {ret : Option FieldType} {hh : List (Nat × Nat × Nat × Nat)} {w : List Cond} (hy : plainName y.cls = true) (hw : w = Cond.codeWith y cc maxL ret hh :: kc_tbl) (hlen : (lg_sl av).length ≤ maxL)
    (body : ∀ (p : Program) (e : Env) (s : State) (m : MethodId) (below : List Frame) (meth : Method) (c : Code) (A : Nat → Prop) (ls : Array Slot), CallFix p m c cc maxL s av.toArray kc_tbl y.cls → meth.sig.returnType = ret → meth.locks = false → c.exceptionTable.toList.map (fun h => (h.startPc, h.endPc, h.handlerPc, h.catchType)) = hh → va_K D kc_cl tys s → va_P D kc_cl ws s.heap → va_D A ws → (∀ q, s.heap.size ≤ q → A q) → lv_has ls maxL (lv_args 0 av) → Ex s →
      W p l e rm s m av.toArray below meth c s.heap [] 0 0 (MQ below (QA A) av.toArray s mc ms A) (F0 m 0 ls [])) : Met l y w rm (va_Pc av (fun U => kc_pre D tys ws sz U ∧ Ex U)) (QA (va_A ws sz)) mc ms (va_A ws sz) := by
  refine va_MetW (cc := cc) (maxL := maxL) (ret := ret) (hh := hh) hy hw ?_
  intro p e s m args below meth c s₁ B hml hv
  subst hw
  obtain ⟨rfl, ⟨hsz, hP, hK, hD0⟩, hEx⟩ := hv
  subst hsz
  rw [lg_entry_eq]
  have hcd := atoms_spec (ws := Cond.codeWith y cc maxL ret hh :: kc_tbl) B.pre _ List.mem_cons_self
  obtain ⟨m9, meth9, c9, n9, m9', c9', -, -, t9, -⟩ := Cond.codeWith_spec hcd
  cases B.named.symm.trans n9
  cases B.method.symm.trans m9'
  cases (Stand.of_body B).code.symm.trans c9'
  exact body p e s m below meth c (va_A ws s.heap.size) _ ⟨B.exec, B.bytes, hml, findClass_of_methodNamed B.named, kc_tail B.pre⟩ B.returns B.notSynchronized t9 hK hP hD0.self (fun q h => Or.inr h) (lv_entry av hlen) hEx
theorem kc_blindE {av : List Value} {D : va_G} {tys : List (ClassId × FieldType)} {ws : va_W} {sz : Nat} {Ex : State → Prop} (hEx : ∀ (U : State) (g : JFrame) (mk : MethodId) (a : Array Value), Ex U → Ex (U.calling g mk a)) : FrameBlind (va_Pc av (fun U => kc_pre D tys ws sz U ∧ Ex U)) := fun a U g mk q => ⟨q.1, (kc_blind (av := av) a U g mk ⟨q.1, q.2.1⟩).2, hEx U g mk a q.2.2⟩
theorem kc_preSE {s : State} {H : Heap} {A : Nat → Prop} {D : va_G} {tys : List (ClassId × FieldType)} {ws wr : va_W} {As : List Value} {Ex : State → Prop} (hK : va_K D kc_cl tys s) (hP : va_P D kc_cl (wr ++ ws) H) (hD : va_D A (wr ++ ws)) (hb : ∀ (U : State) (g : JFrame) (mk : MethodId) (a : Array Value), Ex U → Ex (U.calling g mk a)) (hEx : ∀ U : State, U.heap = H → s.WarmedH U.vm → Ex U) : PreS s H (va_Pc As (fun U => kc_pre D tys ws H.size U ∧ Ex U)) As :=
  ⟨kc_blindE hb, fun U hU hW => ⟨rfl, kc_toPre hK (kc_P_r hP) (kc_D_r hD) U hU hW, hEx U hU hW⟩⟩
/-- the classes of long[][] and long[] -/
def km_AO (cJ cX : ClassId) (U : State) : Prop := ∃ (kX kJ : Class) (c0 : ClassId), U.vm.classes[cX]? = some kX ∧ kX.kind = .array cJ (.array .long) ∧ U.vm.classes[cJ]? = some kJ ∧ kJ.kind = .array c0 .long ∧ U.vm.findClass "[[J" = some cX
theorem km_AO_moved {cJ cX : ClassId} {u U : State} (hvm : u.vm.Alike U.vm) (h : km_AO cJ cX u) : km_AO cJ cX U := by
  obtain ⟨kX, kJ, c0, h1, h2, h3, h4, h5⟩ := h
  obtain ⟨kX', e1, e2⟩ := hvm.2.2 _ _ h1
  obtain ⟨kJ', e3, e4⟩ := hvm.2.2 _ _ h3
  exact ⟨kX', kJ', c0, e1, by rw [e2]; exact h2, e3, by rw [e4]; exact h4, by rw [hvm.findClass]; exact h5⟩
abbrev km_w (b : Nat) (cJ cX : ClassId) : va_W := [(b, .inl (cX, (8, .inr (.inr (.inr (.inr (fun i => some (b + 1 + i)))))))), (b + 1, .inl (cJ, (25, .inr (.inl (fun _ => 0))))), (b + 2, .inl (cJ, (25, .inr (.inl (fun _ => 0))))), (b + 3, .inl (cJ, (25, .inr (.inl (fun _ => 0))))), (b + 4, .inl (cJ, (25, .inr (.inl (fun _ => 0))))), (b + 5, .inl (cJ, (25, .inr (.inl (fun _ => 0))))), (b + 6, .inl (cJ, (25, .inr (.inl (fun _ => 0))))), (b + 7, .inl (cJ, (25, .inr (.inl (fun _ => 0))))), (b + 8, .inl (cJ, (25, .inr (.inl (fun _ => 0)))))]
theorem km_w_at {b : Nat} {cJ cX : ClassId} {k : Nat} {q : Nat × va_E} (h : (km_w b cJ cX)[k]? = some q) : k < 9 ∧ q = (b + k, if k = 0 then .inl (cX, (8, .inr (.inr (.inr (.inr (fun i => some (b + 1 + i))))))) else .inl (cJ, (25, .inr (.inl (fun _ => 0))))) := by
  rcases k with _ | _ | _ | _ | _ | _ | _ | _ | _ | k
  · exact ⟨by decide, (Option.some.inj h).symm⟩
  · exact ⟨by decide, (Option.some.inj h).symm⟩
  · exact ⟨by decide, (Option.some.inj h).symm⟩
  · exact ⟨by decide, (Option.some.inj h).symm⟩
  · exact ⟨by decide, (Option.some.inj h).symm⟩
  · exact ⟨by decide, (Option.some.inj h).symm⟩
  · exact ⟨by decide, (Option.some.inj h).symm⟩
  · exact ⟨by decide, (Option.some.inj h).symm⟩
  · exact ⟨by decide, (Option.some.inj h).symm⟩
  · exact absurd h (by simp)
theorem km_at_r {D : va_G} {cl : List vw_C} {H1 : Heap} {a : Nat} {cJ : ClassId} (h : H1[a]? = some (km_r cJ 25)) : va_at D cl (a, .inl (cJ, (25, .inr (.inl (fun _ => 0))))) H1 := h
theorem km_at_o {D : va_G} {cl : List vw_C} {H1 : Heap} {b : Nat} {cX : ClassId} (h : H1[b]? = some (km_o cX 8 b 8)) : va_at D cl (b, .inl (cX, (8, .inr (.inr (.inr (.inr (fun i => some (b + 1 + i)))))))) H1 := by
  have e : km_o cX 8 b 8 = vp_cell cX (8, .inr (.inr (.inr (.inr (fun i => some (b + 1 + i)))))) := by
    simp only [km_o, vp_cell, arrV, Cell.mk.injEq, true_and, and_true]
    congr 1
    funext j
    rw [if_pos j.isLt]
    rfl
  rw [e] at h
  exact h
section KMW
variable {p : Program} {l : Launch} {e : Env} {R : Room} {s : State} {m : MethodId} {args : Array Value} {below : List Frame} {meth : Method} {c : Code} {H H0 : Heap} {locs : List Loc} {cells slots : Nat} {Q : State → Prop} {cc : ByteArray} {pc : Nat} {ls : Array Slot} {rest : List Value} {D : va_G} {cl : List vw_C} {A : Nat → Prop} {ws : va_W}
theorem ka_multi (hx : p.tables.exec = Jvm.exec) (hb : c.code = cc) {own : String} {index : Nat} (hown : s.vm.findClass own = some m.cls) (hclink : (Cond.classLink own index "[[J").before args s = true) {cJ cX : ClassId} (hAO : km_AO cJ cX s) (hP : va_P D cl ws H) (hD : va_D A ws) (hS : va_S A H0 H locs) (hA : ∀ q, H0.size ≤ q → A q) (hc : cells + 9 ≤ R.cells) (hs : slots + 208 ≤ R.slots) (hdg : decode cc pc = .ok (.multianewarray index 2, 4))
    (kk : ∀ (b : Nat) (H1 : Heap) (locs1 : List Loc), va_P D cl (ws ++ km_w b cJ cX) H1 → va_D A (ws ++ km_w b cJ cX) → va_S A H0 H1 locs1 → W p l e R s m args below meth c H1 locs1 (cells + 9) (slots + 208) Q (F0 m (pc + 4) ls (.ref b :: rest))) : W p l e R s m args below meth c H locs cells slots Q (F0 m pc ls (.int (nI 25) :: .int (nI 8) :: rest)) := by
  obtain ⟨kX, kJ, c0, h1, h2, h3, h4, h5⟩ := hAO
  refine km_multi hx hb hown hclink h5 h1 h2 h3 h4 (N := 8) (n := 25) (by decide) (by decide) (by omega) (by omega) hdg (fun H1 L hL z1 z2 z3 z4 => ?_)
  have hw : va_P D cl (km_w H.size cJ cX) H1 := by
    intro k q hk
    obtain ⟨hk9, rfl⟩ := km_w_at hk
    rcases Nat.eq_zero_or_pos k with rfl | hk0
    · rw [if_pos rfl]
      exact km_at_o (b := H.size) z2
    · rw [if_neg (by omega)]
      have := z4 (k - 1) (by omega)
      rw [show H.size + 1 + (k - 1) = H.size + k by omega] at this
      exact km_at_r this
  have hDw : va_D A (km_w H.size cJ cX) := by
    refine ⟨fun i j x y hi hj hxy => ?_, fun k q hk => ?_⟩
    · obtain ⟨-, rfl⟩ := km_w_at hi
      obtain ⟨-, rfl⟩ := km_w_at hj
      have : H.size + i = H.size + j := hxy
      omega
    · obtain ⟨-, rfl⟩ := km_w_at hk
      exact hA _ (Nat.le_trans hS.1 (Nat.le_add_right _ _))
  have hP1 : va_P D cl ws H1 := hP.kept (fun k q hk => z3 q.1 ((hP k q hk).lt))
  refine W.widen (k := cells + 9) (n := slots + 208) (by omega) (by omega) ?_
  refine kk H.size H1 (locs ++ L) (hP1.app hw) (va_D.app hD hDw (fun i j x y hi hj hxy => ?_)) ⟨by have := hS.1; omega, fun q hq hn => (z3 q (Nat.lt_of_lt_of_le hq hS.1)).trans (hS.2.1 q hq hn), fun q hq => ?_⟩
  · have hl := (hP i x hi).lt
    obtain ⟨-, rfl⟩ := km_w_at hj
    have : x.1 = H.size + j := hxy
    omega
  · rcases List.mem_append.mp hq with h | h
    · exact hS.2.2 q h
    · rw [hL q h]; exact hA _ hS.1
end KMW
theorem ka_extQ {cA : ClassId} {n : Nat} {f g : Nat → Option Nat} (h : ∀ j, j < n → f j = g j) : vp_cell cA (n, .inr (.inr (.inr (.inr f)))) = vp_cell cA (n, .inr (.inr (.inr (.inr g)))) := by
  simp only [vp_cell, arrV, Cell.mk.injEq, true_and, and_true]
  congr 1
  funext j
  rw [h j.val j.isLt]
abbrev kc_Mz (h : Nat → Nat) (cJ cI cX : ClassId) (Cn : Nat → Int64) : va_W := (h 0, .inr (2, [.int 0, .ref (h 1), .ref (h 2), .ref (h 3), .ref (h 4), .ref (h 5), .ref (h 6)])) :: (h 1, .inl (cX, (8, .inr (.inr (.inr (.inr (fun i => some (h (7 + i))))))))) :: (h 2, .inl (cI, (8, .inl (fun _ => 0)))) :: (h 3, .inl (cJ, (25, .inr (.inl (fun _ => 0))))) :: (h 4, .inl (cJ, (5, .inr (.inl (fun _ => 0))))) :: (h 5, .inl (cJ, (25, .inr (.inl (fun _ => 0))))) :: (h 6, .inl (cJ, (24, .inr (.inl Cn)))) :: kc_rows h cJ (fun _ _ => 0)
abbrev r_M_init : Room := { frames := 1, cells := 14, slots := 295, locals := 26 }
section MIN
variable {p : Program} {l : Launch} {e : Env} {s : State} {m : MethodId} {args : Array Value} {below : List Frame} {meth : Method} {c : Code} {Q : State → Prop} {D : va_G} {A : Nat → Prop} {h : Nat → Nat} {cJ cI cX : ClassId} {cells slots : Nat}
set_option maxHeartbeats 4000000 in
theorem M_init_L (S : CallFix p m c b_M_init 2 s args kc_tbl R_M) (hK : va_K D kc_cl (kc_ty cJ cI cX) s) (hc14 : cells ≤ r_M_init.cells) (hs295 : slots ≤ r_M_init.slots)  (n : Nat) : ∀ (k : Nat) (H : Heap) (locs : List Loc) (ls : Array Slot) (Cn : Nat → Int64), k + n = 24 → lv_has ls 2 [(1, .int (nI (k))), (0, .ref (h 0))] → kc_at D A s.heap H locs (kc_Mz h cJ cI cX (Cn)) → (∀ j, j < k → Cn j = kc_R j) → (∀ (H : Heap) (locs : List Loc) (ls : Array Slot) (Cn : Nat → Int64), lv_has ls 2 [(1, .int (nI (24))), (0, .ref (h 0))] → kc_at D A s.heap H locs (kc_Mz h cJ cI cX (Cn)) → (∀ j, j < 24 → Cn j = kc_R j) → W p l e r_M_init s m args below meth c H locs cells slots Q (F0 m 79 ls [])) → W p l e r_M_init s m args below meth c H locs cells slots Q (F0 m 57 ls []) := by
  obtain ⟨hx, hb, hml, hown, hts⟩ := S
  induction n with
  | zero =>
    intro k H locs ls Cn hn hl hw hinv K
    obtain ⟨hP, hD, hS⟩ := hw
    obtain rfl : k = 24 := by omega
    refine lv_iload_n hx hb d_M_init_57 rfl (lv_at hl 0 rfl) ?_
    refine lv_bipush (v := nI 24) hx hb d_M_init_58 (by decide +kernel) ?_
    refine kn_ge (tgt := 79) hx hb (by omega) (by omega) d_M_init_60 (by decide) (fun _ => ?_) (fun hc => absurd hc (by omega))
    exact K H locs ls Cn hl ⟨hP, hD, hS⟩ hinv
  | succ n ih =>
    intro k H locs ls Cn hn hl hw hinv K
    obtain ⟨hP, hD, hS⟩ := hw
    refine lv_iload_n hx hb d_M_init_57 rfl (lv_at hl 0 rfl) ?_
    refine lv_bipush (v := nI 24) hx hb d_M_init_58 (by decide +kernel) ?_
    refine kn_ge (tgt := 79) hx hb (by omega) (by omega) d_M_init_60 (by decide) (fun hc => absurd hc (by omega)) (fun _ => ?_)
    refine lv_aload_n hx hb d_M_init_63 rfl (lv_at hl 1 rfl) ?_
    refine kg_M hx hb hts hown hK hP 0 rfl 6 (by decide) kw_197 (v := .ref (h 6)) rfl d_M_init_64 ?_
    refine lv_iload_n hx hb d_M_init_67 rfl (lv_at hl 0 rfl) ?_
    refine lv_iload_n hx hb d_M_init_68 rfl (lv_at hl 0 rfl) ?_
    refine vp_callSl (va_Run.run (va_runS (As := [.int (nI (k))]) (rest := [.int (nI (k)), .ref (h 6)]) ⟨hx, hb, hml, hown, hts⟩ (c_M_constant l k (by omega)) (va_cwS 1 hts (kc_inS kw_188 kw_189 kw_3 kw_190) rfl rfl rfl (by decide +kernel) ⟨by decide, by decide⟩) kc_preP rfl rfl hl.1 rfl (lv_room (Nat.le_of_ble_eq_true rfl)) d_M_init_69 ⟨hc14, hs295⟩)) (fun r e_r => ?_)
    subst e_r
    refine lv_topl (fun v1 e_v1 => ?_)
    refine ka_last (f := Cn) hx hb hK hP hD hS 6 0 rfl rfl (i := k) (by omega) (by decide) d_M_init_72 (fun H locs hP hD hS => ?_)
    have hP : va_P D kc_cl (kc_Mz h cJ cI cX (vp_updL Cn (k) (v1))) H := hP
    have hD : va_D A (kc_Mz h cJ cI cX (vp_updL Cn (k) (v1))) := hD
    refine lv_iinc (k := 0) hx hb d_M_init_73 hl rfl (kn_i1 _) (by decide) rfl (fun ls hl => ?_)
    have hl : lv_has ls 2 [(1, .int (nI (k + 1))), (0, .ref (h 0))] := hl
    refine lv_goto (tgt := 57) hx hb d_M_init_76 (by decide) ?_
    have hl : lv_has ls 2 [(1, .int (nI (k + 1))), (0, .ref (h 0))] := lv_sub hl [0, 1] rfl
    exact ih (k + 1) H locs ls _ (by omega) hl ⟨hP, hD, hS⟩ (fun j hj => by by_cases hjk : j = k; (subst hjk; rw [pk_uLs, e_v1]); (rw [pk_uLn hjk]; exact hinv j (by omega))) K
end MIN
set_option maxHeartbeats 8000000 in
/-- KeccakLanesModel(): all cells of the model, zero but for the constants -/
theorem c_M_init (l : Launch) (D : va_G) (o : Nat) (cJ cI cX : ClassId) (sz : Nat) : Met l y_M_init w_M_init r_M_init (va_Pc [.ref o] (fun U => kc_pre D (kc_ty cJ cI cX) [(o, .inr (2, [.int 0, .null, .null, .null, .null, .null, .null]))] sz U ∧ km_AO cJ cX U)) (va_Qv (fun h : Nat → Nat => h 0 = o) (fun h t => kc_post D (va_A [(o, .inr (2, [.int 0, .null, .null, .null, .null, .null, .null]))] sz) (kc_Mw h cJ cI cX 0 (fun _ => 0) (fun _ => 0) (fun _ => 0) (fun _ => 0) (fun _ _ => 0)) t) (va_A [(o, .inr (2, [.int 0, .null, .null, .null, .null, .null, .null]))] sz)) 14 295 (va_A [(o, .inr (2, [.int 0, .null, .null, .null, .null, .null, .null]))] sz) := by
  refine kc_ofWE (QA := fun A => va_Qv (fun h : Nat → Nat => h 0 = o) (fun h t => kc_post D A (kc_Mw h cJ cI cX 0 (fun _ => 0) (fun _ => 0) (fun _ => 0) (fun _ => 0) (fun _ _ => 0)) t) A) (cc := b_M_init) (maxL := 2) (ret := none) (by decide) rfl (Nat.le_of_ble_eq_true rfl) ?_
  intro p e s m below meth c A ls S hr hlk hin hK hP hD hA hl hAO
  obtain ⟨hx, hb, hml, hown, hts⟩ := S
  have hS : va_S A s.heap s.heap [] := va_S.rf
  have hl : lv_has ls 2 [(0, .ref (o))] := hl
  refine lv_aload_n hx hb d_M_init_0 rfl (lv_at hl 0 rfl) ?_
  refine W.objInit hx hb hown (hts _ kw_185) (hts _ kw_15) (hts _ kw_16) rfl (by rw [hml]; exact hl.1) rfl d_M_init_1 (Nat.le_of_ble_eq_true rfl) (Nat.le_of_ble_eq_true rfl) ?_
  refine W.eq (g2 := F0 m 4 ls []) rfl ?_
  refine lv_aload_n hx hb d_M_init_4 rfl (lv_at hl 0 rfl) ?_
  refine lv_bipush (v := nI 8) hx hb d_M_init_5 (by decide +kernel) ?_
  refine lv_bipush (v := nI 25) hx hb d_M_init_7 (by decide +kernel) ?_
  refine ka_multi hx hb hown (hts _ kw_186) hAO hP hD hS hA (by decide) (by decide) d_M_init_9 (fun b H locs hP hD hS => ?_)
  have hP : va_P D kc_cl ([(o, .inr (2, [.int (0), .null, .null, .null, .null, .null, .null])), (b, .inl (cX, (8, .inr (.inr (.inr (.inr (fun i => some (b + 1 + i)))))))), (b + 1, .inl (cJ, (25, .inr (.inl (fun _ => 0))))), (b + 2, .inl (cJ, (25, .inr (.inl (fun _ => 0))))), (b + 3, .inl (cJ, (25, .inr (.inl (fun _ => 0))))), (b + 4, .inl (cJ, (25, .inr (.inl (fun _ => 0))))), (b + 5, .inl (cJ, (25, .inr (.inl (fun _ => 0))))), (b + 6, .inl (cJ, (25, .inr (.inl (fun _ => 0))))), (b + 7, .inl (cJ, (25, .inr (.inl (fun _ => 0))))), (b + 8, .inl (cJ, (25, .inr (.inl (fun _ => 0)))))]) H := hP
  have hD : va_D A ([(o, .inr (2, [.int (0), .null, .null, .null, .null, .null, .null])), (b, .inl (cX, (8, .inr (.inr (.inr (.inr (fun i => some (b + 1 + i)))))))), (b + 1, .inl (cJ, (25, .inr (.inl (fun _ => 0))))), (b + 2, .inl (cJ, (25, .inr (.inl (fun _ => 0))))), (b + 3, .inl (cJ, (25, .inr (.inl (fun _ => 0))))), (b + 4, .inl (cJ, (25, .inr (.inl (fun _ => 0))))), (b + 5, .inl (cJ, (25, .inr (.inl (fun _ => 0))))), (b + 6, .inl (cJ, (25, .inr (.inl (fun _ => 0))))), (b + 7, .inl (cJ, (25, .inr (.inl (fun _ => 0))))), (b + 8, .inl (cJ, (25, .inr (.inl (fun _ => 0)))))]) := hD
  refine va_putF (D := D) (ci := 2) (v := .ref (b)) (ty := (.array (.array .long))) (C := R_M) (T := F_M) (N := 7) (own := R_M) hx hb hts u_M_in t_M t_M_ok n_M hown hK hP hD hS 0 rfl rfl 1 (by decide) (hts _ kw_192) (fun _ h9 => h9) rfl hin rfl (by decide +kernel) rfl rfl (Nat.le_of_ble_eq_true rfl) d_M_init_13 (fun H locs hP hD hS => ?_)
  have hP : va_P D kc_cl ([(o, .inr (2, [.int (0), .ref (b), .null, .null, .null, .null, .null])), (b, .inl (cX, (8, .inr (.inr (.inr (.inr (fun i => some (b + 1 + i)))))))), (b + 1, .inl (cJ, (25, .inr (.inl (fun _ => 0))))), (b + 2, .inl (cJ, (25, .inr (.inl (fun _ => 0))))), (b + 3, .inl (cJ, (25, .inr (.inl (fun _ => 0))))), (b + 4, .inl (cJ, (25, .inr (.inl (fun _ => 0))))), (b + 5, .inl (cJ, (25, .inr (.inl (fun _ => 0))))), (b + 6, .inl (cJ, (25, .inr (.inl (fun _ => 0))))), (b + 7, .inl (cJ, (25, .inr (.inl (fun _ => 0))))), (b + 8, .inl (cJ, (25, .inr (.inl (fun _ => 0)))))]) H := hP
  have hD : va_D A ([(o, .inr (2, [.int (0), .ref (b), .null, .null, .null, .null, .null])), (b, .inl (cX, (8, .inr (.inr (.inr (.inr (fun i => some (b + 1 + i)))))))), (b + 1, .inl (cJ, (25, .inr (.inl (fun _ => 0))))), (b + 2, .inl (cJ, (25, .inr (.inl (fun _ => 0))))), (b + 3, .inl (cJ, (25, .inr (.inl (fun _ => 0))))), (b + 4, .inl (cJ, (25, .inr (.inl (fun _ => 0))))), (b + 5, .inl (cJ, (25, .inr (.inl (fun _ => 0))))), (b + 6, .inl (cJ, (25, .inr (.inl (fun _ => 0))))), (b + 7, .inl (cJ, (25, .inr (.inl (fun _ => 0))))), (b + 8, .inl (cJ, (25, .inr (.inl (fun _ => 0)))))]) := hD
  refine lv_aload_n hx hb d_M_init_16 rfl (lv_at hl 0 rfl) ?_
  refine lv_bipush (v := nI 8) hx hb d_M_init_17 (by decide +kernel) ?_
  refine ka_newI (n := 8) hx hb (hts _ kw_37) hK hP hD hS hA 1 rfl (by decide) (by decide) (by decide) d_M_init_19 (fun q1 H hP hD hS => ?_)
  have hP : va_P D kc_cl ([(o, .inr (2, [.int (0), .ref (b), .null, .null, .null, .null, .null])), (b, .inl (cX, (8, .inr (.inr (.inr (.inr (fun i => some (b + 1 + i)))))))), (b + 1, .inl (cJ, (25, .inr (.inl (fun _ => 0))))), (b + 2, .inl (cJ, (25, .inr (.inl (fun _ => 0))))), (b + 3, .inl (cJ, (25, .inr (.inl (fun _ => 0))))), (b + 4, .inl (cJ, (25, .inr (.inl (fun _ => 0))))), (b + 5, .inl (cJ, (25, .inr (.inl (fun _ => 0))))), (b + 6, .inl (cJ, (25, .inr (.inl (fun _ => 0))))), (b + 7, .inl (cJ, (25, .inr (.inl (fun _ => 0))))), (b + 8, .inl (cJ, (25, .inr (.inl (fun _ => 0))))), (q1, .inl (cI, (8, .inl (fun _ => 0))))]) H := hP
  have hD : va_D A ([(o, .inr (2, [.int (0), .ref (b), .null, .null, .null, .null, .null])), (b, .inl (cX, (8, .inr (.inr (.inr (.inr (fun i => some (b + 1 + i)))))))), (b + 1, .inl (cJ, (25, .inr (.inl (fun _ => 0))))), (b + 2, .inl (cJ, (25, .inr (.inl (fun _ => 0))))), (b + 3, .inl (cJ, (25, .inr (.inl (fun _ => 0))))), (b + 4, .inl (cJ, (25, .inr (.inl (fun _ => 0))))), (b + 5, .inl (cJ, (25, .inr (.inl (fun _ => 0))))), (b + 6, .inl (cJ, (25, .inr (.inl (fun _ => 0))))), (b + 7, .inl (cJ, (25, .inr (.inl (fun _ => 0))))), (b + 8, .inl (cJ, (25, .inr (.inl (fun _ => 0))))), (q1, .inl (cI, (8, .inl (fun _ => 0))))]) := hD
  refine va_putF (D := D) (ci := 2) (v := .ref (q1)) (ty := (.array .int)) (C := R_M) (T := F_M) (N := 7) (own := R_M) hx hb hts u_M_in t_M t_M_ok n_M hown hK hP hD hS 0 rfl rfl 2 (by decide) (hts _ kw_193) (fun _ h9 => h9) rfl hin rfl (by decide +kernel) rfl rfl (Nat.le_of_ble_eq_true rfl) d_M_init_21 (fun H locs hP hD hS => ?_)
  have hP : va_P D kc_cl ([(o, .inr (2, [.int (0), .ref (b), .ref (q1), .null, .null, .null, .null])), (b, .inl (cX, (8, .inr (.inr (.inr (.inr (fun i => some (b + 1 + i)))))))), (b + 1, .inl (cJ, (25, .inr (.inl (fun _ => 0))))), (b + 2, .inl (cJ, (25, .inr (.inl (fun _ => 0))))), (b + 3, .inl (cJ, (25, .inr (.inl (fun _ => 0))))), (b + 4, .inl (cJ, (25, .inr (.inl (fun _ => 0))))), (b + 5, .inl (cJ, (25, .inr (.inl (fun _ => 0))))), (b + 6, .inl (cJ, (25, .inr (.inl (fun _ => 0))))), (b + 7, .inl (cJ, (25, .inr (.inl (fun _ => 0))))), (b + 8, .inl (cJ, (25, .inr (.inl (fun _ => 0))))), (q1, .inl (cI, (8, .inl (fun _ => 0))))]) H := hP
  have hD : va_D A ([(o, .inr (2, [.int (0), .ref (b), .ref (q1), .null, .null, .null, .null])), (b, .inl (cX, (8, .inr (.inr (.inr (.inr (fun i => some (b + 1 + i)))))))), (b + 1, .inl (cJ, (25, .inr (.inl (fun _ => 0))))), (b + 2, .inl (cJ, (25, .inr (.inl (fun _ => 0))))), (b + 3, .inl (cJ, (25, .inr (.inl (fun _ => 0))))), (b + 4, .inl (cJ, (25, .inr (.inl (fun _ => 0))))), (b + 5, .inl (cJ, (25, .inr (.inl (fun _ => 0))))), (b + 6, .inl (cJ, (25, .inr (.inl (fun _ => 0))))), (b + 7, .inl (cJ, (25, .inr (.inl (fun _ => 0))))), (b + 8, .inl (cJ, (25, .inr (.inl (fun _ => 0))))), (q1, .inl (cI, (8, .inl (fun _ => 0))))]) := hD
  refine lv_aload_n hx hb d_M_init_24 rfl (lv_at hl 0 rfl) ?_
  refine lv_bipush (v := nI 25) hx hb d_M_init_25 (by decide +kernel) ?_
  refine ka_newJ (n := 25) hx hb (hts _ kw_36) hK hP hD hS hA 0 rfl (by decide) (by decide) (by decide) d_M_init_27 (fun q2 H hP hD hS => ?_)
  have hP : va_P D kc_cl ([(o, .inr (2, [.int (0), .ref (b), .ref (q1), .null, .null, .null, .null])), (b, .inl (cX, (8, .inr (.inr (.inr (.inr (fun i => some (b + 1 + i)))))))), (b + 1, .inl (cJ, (25, .inr (.inl (fun _ => 0))))), (b + 2, .inl (cJ, (25, .inr (.inl (fun _ => 0))))), (b + 3, .inl (cJ, (25, .inr (.inl (fun _ => 0))))), (b + 4, .inl (cJ, (25, .inr (.inl (fun _ => 0))))), (b + 5, .inl (cJ, (25, .inr (.inl (fun _ => 0))))), (b + 6, .inl (cJ, (25, .inr (.inl (fun _ => 0))))), (b + 7, .inl (cJ, (25, .inr (.inl (fun _ => 0))))), (b + 8, .inl (cJ, (25, .inr (.inl (fun _ => 0))))), (q1, .inl (cI, (8, .inl (fun _ => 0)))), (q2, .inl (cJ, (25, .inr (.inl (fun _ => 0)))))]) H := hP
  have hD : va_D A ([(o, .inr (2, [.int (0), .ref (b), .ref (q1), .null, .null, .null, .null])), (b, .inl (cX, (8, .inr (.inr (.inr (.inr (fun i => some (b + 1 + i)))))))), (b + 1, .inl (cJ, (25, .inr (.inl (fun _ => 0))))), (b + 2, .inl (cJ, (25, .inr (.inl (fun _ => 0))))), (b + 3, .inl (cJ, (25, .inr (.inl (fun _ => 0))))), (b + 4, .inl (cJ, (25, .inr (.inl (fun _ => 0))))), (b + 5, .inl (cJ, (25, .inr (.inl (fun _ => 0))))), (b + 6, .inl (cJ, (25, .inr (.inl (fun _ => 0))))), (b + 7, .inl (cJ, (25, .inr (.inl (fun _ => 0))))), (b + 8, .inl (cJ, (25, .inr (.inl (fun _ => 0))))), (q1, .inl (cI, (8, .inl (fun _ => 0)))), (q2, .inl (cJ, (25, .inr (.inl (fun _ => 0)))))]) := hD
  refine va_putF (D := D) (ci := 2) (v := .ref (q2)) (ty := (.array .long)) (C := R_M) (T := F_M) (N := 7) (own := R_M) hx hb hts u_M_in t_M t_M_ok n_M hown hK hP hD hS 0 rfl rfl 3 (by decide) (hts _ kw_194) (fun _ h9 => h9) rfl hin rfl (by decide +kernel) rfl rfl (Nat.le_of_ble_eq_true rfl) d_M_init_29 (fun H locs hP hD hS => ?_)
  have hP : va_P D kc_cl ([(o, .inr (2, [.int (0), .ref (b), .ref (q1), .ref (q2), .null, .null, .null])), (b, .inl (cX, (8, .inr (.inr (.inr (.inr (fun i => some (b + 1 + i)))))))), (b + 1, .inl (cJ, (25, .inr (.inl (fun _ => 0))))), (b + 2, .inl (cJ, (25, .inr (.inl (fun _ => 0))))), (b + 3, .inl (cJ, (25, .inr (.inl (fun _ => 0))))), (b + 4, .inl (cJ, (25, .inr (.inl (fun _ => 0))))), (b + 5, .inl (cJ, (25, .inr (.inl (fun _ => 0))))), (b + 6, .inl (cJ, (25, .inr (.inl (fun _ => 0))))), (b + 7, .inl (cJ, (25, .inr (.inl (fun _ => 0))))), (b + 8, .inl (cJ, (25, .inr (.inl (fun _ => 0))))), (q1, .inl (cI, (8, .inl (fun _ => 0)))), (q2, .inl (cJ, (25, .inr (.inl (fun _ => 0)))))]) H := hP
  have hD : va_D A ([(o, .inr (2, [.int (0), .ref (b), .ref (q1), .ref (q2), .null, .null, .null])), (b, .inl (cX, (8, .inr (.inr (.inr (.inr (fun i => some (b + 1 + i)))))))), (b + 1, .inl (cJ, (25, .inr (.inl (fun _ => 0))))), (b + 2, .inl (cJ, (25, .inr (.inl (fun _ => 0))))), (b + 3, .inl (cJ, (25, .inr (.inl (fun _ => 0))))), (b + 4, .inl (cJ, (25, .inr (.inl (fun _ => 0))))), (b + 5, .inl (cJ, (25, .inr (.inl (fun _ => 0))))), (b + 6, .inl (cJ, (25, .inr (.inl (fun _ => 0))))), (b + 7, .inl (cJ, (25, .inr (.inl (fun _ => 0))))), (b + 8, .inl (cJ, (25, .inr (.inl (fun _ => 0))))), (q1, .inl (cI, (8, .inl (fun _ => 0)))), (q2, .inl (cJ, (25, .inr (.inl (fun _ => 0)))))]) := hD
  refine lv_aload_n hx hb d_M_init_32 rfl (lv_at hl 0 rfl) ?_
  refine lv_iconst (v := nI 5) hx hb d_M_init_33 (by decide +kernel) ?_
  refine ka_newJ (n := 5) hx hb (hts _ kw_36) hK hP hD hS hA 0 rfl (by decide) (by decide) (by decide) d_M_init_34 (fun q3 H hP hD hS => ?_)
  have hP : va_P D kc_cl ([(o, .inr (2, [.int (0), .ref (b), .ref (q1), .ref (q2), .null, .null, .null])), (b, .inl (cX, (8, .inr (.inr (.inr (.inr (fun i => some (b + 1 + i)))))))), (b + 1, .inl (cJ, (25, .inr (.inl (fun _ => 0))))), (b + 2, .inl (cJ, (25, .inr (.inl (fun _ => 0))))), (b + 3, .inl (cJ, (25, .inr (.inl (fun _ => 0))))), (b + 4, .inl (cJ, (25, .inr (.inl (fun _ => 0))))), (b + 5, .inl (cJ, (25, .inr (.inl (fun _ => 0))))), (b + 6, .inl (cJ, (25, .inr (.inl (fun _ => 0))))), (b + 7, .inl (cJ, (25, .inr (.inl (fun _ => 0))))), (b + 8, .inl (cJ, (25, .inr (.inl (fun _ => 0))))), (q1, .inl (cI, (8, .inl (fun _ => 0)))), (q2, .inl (cJ, (25, .inr (.inl (fun _ => 0))))), (q3, .inl (cJ, (5, .inr (.inl (fun _ => 0)))))]) H := hP
  have hD : va_D A ([(o, .inr (2, [.int (0), .ref (b), .ref (q1), .ref (q2), .null, .null, .null])), (b, .inl (cX, (8, .inr (.inr (.inr (.inr (fun i => some (b + 1 + i)))))))), (b + 1, .inl (cJ, (25, .inr (.inl (fun _ => 0))))), (b + 2, .inl (cJ, (25, .inr (.inl (fun _ => 0))))), (b + 3, .inl (cJ, (25, .inr (.inl (fun _ => 0))))), (b + 4, .inl (cJ, (25, .inr (.inl (fun _ => 0))))), (b + 5, .inl (cJ, (25, .inr (.inl (fun _ => 0))))), (b + 6, .inl (cJ, (25, .inr (.inl (fun _ => 0))))), (b + 7, .inl (cJ, (25, .inr (.inl (fun _ => 0))))), (b + 8, .inl (cJ, (25, .inr (.inl (fun _ => 0))))), (q1, .inl (cI, (8, .inl (fun _ => 0)))), (q2, .inl (cJ, (25, .inr (.inl (fun _ => 0))))), (q3, .inl (cJ, (5, .inr (.inl (fun _ => 0)))))]) := hD
  refine va_putF (D := D) (ci := 2) (v := .ref (q3)) (ty := (.array .long)) (C := R_M) (T := F_M) (N := 7) (own := R_M) hx hb hts u_M_in t_M t_M_ok n_M hown hK hP hD hS 0 rfl rfl 4 (by decide) (hts _ kw_195) (fun _ h9 => h9) rfl hin rfl (by decide +kernel) rfl rfl (Nat.le_of_ble_eq_true rfl) d_M_init_36 (fun H locs hP hD hS => ?_)
  have hP : va_P D kc_cl ([(o, .inr (2, [.int (0), .ref (b), .ref (q1), .ref (q2), .ref (q3), .null, .null])), (b, .inl (cX, (8, .inr (.inr (.inr (.inr (fun i => some (b + 1 + i)))))))), (b + 1, .inl (cJ, (25, .inr (.inl (fun _ => 0))))), (b + 2, .inl (cJ, (25, .inr (.inl (fun _ => 0))))), (b + 3, .inl (cJ, (25, .inr (.inl (fun _ => 0))))), (b + 4, .inl (cJ, (25, .inr (.inl (fun _ => 0))))), (b + 5, .inl (cJ, (25, .inr (.inl (fun _ => 0))))), (b + 6, .inl (cJ, (25, .inr (.inl (fun _ => 0))))), (b + 7, .inl (cJ, (25, .inr (.inl (fun _ => 0))))), (b + 8, .inl (cJ, (25, .inr (.inl (fun _ => 0))))), (q1, .inl (cI, (8, .inl (fun _ => 0)))), (q2, .inl (cJ, (25, .inr (.inl (fun _ => 0))))), (q3, .inl (cJ, (5, .inr (.inl (fun _ => 0)))))]) H := hP
  have hD : va_D A ([(o, .inr (2, [.int (0), .ref (b), .ref (q1), .ref (q2), .ref (q3), .null, .null])), (b, .inl (cX, (8, .inr (.inr (.inr (.inr (fun i => some (b + 1 + i)))))))), (b + 1, .inl (cJ, (25, .inr (.inl (fun _ => 0))))), (b + 2, .inl (cJ, (25, .inr (.inl (fun _ => 0))))), (b + 3, .inl (cJ, (25, .inr (.inl (fun _ => 0))))), (b + 4, .inl (cJ, (25, .inr (.inl (fun _ => 0))))), (b + 5, .inl (cJ, (25, .inr (.inl (fun _ => 0))))), (b + 6, .inl (cJ, (25, .inr (.inl (fun _ => 0))))), (b + 7, .inl (cJ, (25, .inr (.inl (fun _ => 0))))), (b + 8, .inl (cJ, (25, .inr (.inl (fun _ => 0))))), (q1, .inl (cI, (8, .inl (fun _ => 0)))), (q2, .inl (cJ, (25, .inr (.inl (fun _ => 0))))), (q3, .inl (cJ, (5, .inr (.inl (fun _ => 0)))))]) := hD
  refine lv_aload_n hx hb d_M_init_39 rfl (lv_at hl 0 rfl) ?_
  refine lv_bipush (v := nI 25) hx hb d_M_init_40 (by decide +kernel) ?_
  refine ka_newJ (n := 25) hx hb (hts _ kw_36) hK hP hD hS hA 0 rfl (by decide) (by decide) (by decide) d_M_init_42 (fun q4 H hP hD hS => ?_)
  have hP : va_P D kc_cl ([(o, .inr (2, [.int (0), .ref (b), .ref (q1), .ref (q2), .ref (q3), .null, .null])), (b, .inl (cX, (8, .inr (.inr (.inr (.inr (fun i => some (b + 1 + i)))))))), (b + 1, .inl (cJ, (25, .inr (.inl (fun _ => 0))))), (b + 2, .inl (cJ, (25, .inr (.inl (fun _ => 0))))), (b + 3, .inl (cJ, (25, .inr (.inl (fun _ => 0))))), (b + 4, .inl (cJ, (25, .inr (.inl (fun _ => 0))))), (b + 5, .inl (cJ, (25, .inr (.inl (fun _ => 0))))), (b + 6, .inl (cJ, (25, .inr (.inl (fun _ => 0))))), (b + 7, .inl (cJ, (25, .inr (.inl (fun _ => 0))))), (b + 8, .inl (cJ, (25, .inr (.inl (fun _ => 0))))), (q1, .inl (cI, (8, .inl (fun _ => 0)))), (q2, .inl (cJ, (25, .inr (.inl (fun _ => 0))))), (q3, .inl (cJ, (5, .inr (.inl (fun _ => 0))))), (q4, .inl (cJ, (25, .inr (.inl (fun _ => 0)))))]) H := hP
  have hD : va_D A ([(o, .inr (2, [.int (0), .ref (b), .ref (q1), .ref (q2), .ref (q3), .null, .null])), (b, .inl (cX, (8, .inr (.inr (.inr (.inr (fun i => some (b + 1 + i)))))))), (b + 1, .inl (cJ, (25, .inr (.inl (fun _ => 0))))), (b + 2, .inl (cJ, (25, .inr (.inl (fun _ => 0))))), (b + 3, .inl (cJ, (25, .inr (.inl (fun _ => 0))))), (b + 4, .inl (cJ, (25, .inr (.inl (fun _ => 0))))), (b + 5, .inl (cJ, (25, .inr (.inl (fun _ => 0))))), (b + 6, .inl (cJ, (25, .inr (.inl (fun _ => 0))))), (b + 7, .inl (cJ, (25, .inr (.inl (fun _ => 0))))), (b + 8, .inl (cJ, (25, .inr (.inl (fun _ => 0))))), (q1, .inl (cI, (8, .inl (fun _ => 0)))), (q2, .inl (cJ, (25, .inr (.inl (fun _ => 0))))), (q3, .inl (cJ, (5, .inr (.inl (fun _ => 0))))), (q4, .inl (cJ, (25, .inr (.inl (fun _ => 0)))))]) := hD
  refine va_putF (D := D) (ci := 2) (v := .ref (q4)) (ty := (.array .long)) (C := R_M) (T := F_M) (N := 7) (own := R_M) hx hb hts u_M_in t_M t_M_ok n_M hown hK hP hD hS 0 rfl rfl 5 (by decide) (hts _ kw_196) (fun _ h9 => h9) rfl hin rfl (by decide +kernel) rfl rfl (Nat.le_of_ble_eq_true rfl) d_M_init_44 (fun H locs hP hD hS => ?_)
  have hP : va_P D kc_cl ([(o, .inr (2, [.int (0), .ref (b), .ref (q1), .ref (q2), .ref (q3), .ref (q4), .null])), (b, .inl (cX, (8, .inr (.inr (.inr (.inr (fun i => some (b + 1 + i)))))))), (b + 1, .inl (cJ, (25, .inr (.inl (fun _ => 0))))), (b + 2, .inl (cJ, (25, .inr (.inl (fun _ => 0))))), (b + 3, .inl (cJ, (25, .inr (.inl (fun _ => 0))))), (b + 4, .inl (cJ, (25, .inr (.inl (fun _ => 0))))), (b + 5, .inl (cJ, (25, .inr (.inl (fun _ => 0))))), (b + 6, .inl (cJ, (25, .inr (.inl (fun _ => 0))))), (b + 7, .inl (cJ, (25, .inr (.inl (fun _ => 0))))), (b + 8, .inl (cJ, (25, .inr (.inl (fun _ => 0))))), (q1, .inl (cI, (8, .inl (fun _ => 0)))), (q2, .inl (cJ, (25, .inr (.inl (fun _ => 0))))), (q3, .inl (cJ, (5, .inr (.inl (fun _ => 0))))), (q4, .inl (cJ, (25, .inr (.inl (fun _ => 0)))))]) H := hP
  have hD : va_D A ([(o, .inr (2, [.int (0), .ref (b), .ref (q1), .ref (q2), .ref (q3), .ref (q4), .null])), (b, .inl (cX, (8, .inr (.inr (.inr (.inr (fun i => some (b + 1 + i)))))))), (b + 1, .inl (cJ, (25, .inr (.inl (fun _ => 0))))), (b + 2, .inl (cJ, (25, .inr (.inl (fun _ => 0))))), (b + 3, .inl (cJ, (25, .inr (.inl (fun _ => 0))))), (b + 4, .inl (cJ, (25, .inr (.inl (fun _ => 0))))), (b + 5, .inl (cJ, (25, .inr (.inl (fun _ => 0))))), (b + 6, .inl (cJ, (25, .inr (.inl (fun _ => 0))))), (b + 7, .inl (cJ, (25, .inr (.inl (fun _ => 0))))), (b + 8, .inl (cJ, (25, .inr (.inl (fun _ => 0))))), (q1, .inl (cI, (8, .inl (fun _ => 0)))), (q2, .inl (cJ, (25, .inr (.inl (fun _ => 0))))), (q3, .inl (cJ, (5, .inr (.inl (fun _ => 0))))), (q4, .inl (cJ, (25, .inr (.inl (fun _ => 0)))))]) := hD
  refine lv_aload_n hx hb d_M_init_47 rfl (lv_at hl 0 rfl) ?_
  refine lv_bipush (v := nI 24) hx hb d_M_init_48 (by decide +kernel) ?_
  refine ka_newJ (n := 24) hx hb (hts _ kw_36) hK hP hD hS hA 0 rfl (by decide) (by decide) (by decide) d_M_init_50 (fun q5 H hP hD hS => ?_)
  have hP : va_P D kc_cl ([(o, .inr (2, [.int (0), .ref (b), .ref (q1), .ref (q2), .ref (q3), .ref (q4), .null])), (b, .inl (cX, (8, .inr (.inr (.inr (.inr (fun i => some (b + 1 + i)))))))), (b + 1, .inl (cJ, (25, .inr (.inl (fun _ => 0))))), (b + 2, .inl (cJ, (25, .inr (.inl (fun _ => 0))))), (b + 3, .inl (cJ, (25, .inr (.inl (fun _ => 0))))), (b + 4, .inl (cJ, (25, .inr (.inl (fun _ => 0))))), (b + 5, .inl (cJ, (25, .inr (.inl (fun _ => 0))))), (b + 6, .inl (cJ, (25, .inr (.inl (fun _ => 0))))), (b + 7, .inl (cJ, (25, .inr (.inl (fun _ => 0))))), (b + 8, .inl (cJ, (25, .inr (.inl (fun _ => 0))))), (q1, .inl (cI, (8, .inl (fun _ => 0)))), (q2, .inl (cJ, (25, .inr (.inl (fun _ => 0))))), (q3, .inl (cJ, (5, .inr (.inl (fun _ => 0))))), (q4, .inl (cJ, (25, .inr (.inl (fun _ => 0))))), (q5, .inl (cJ, (24, .inr (.inl (fun _ => 0)))))]) H := hP
  have hD : va_D A ([(o, .inr (2, [.int (0), .ref (b), .ref (q1), .ref (q2), .ref (q3), .ref (q4), .null])), (b, .inl (cX, (8, .inr (.inr (.inr (.inr (fun i => some (b + 1 + i)))))))), (b + 1, .inl (cJ, (25, .inr (.inl (fun _ => 0))))), (b + 2, .inl (cJ, (25, .inr (.inl (fun _ => 0))))), (b + 3, .inl (cJ, (25, .inr (.inl (fun _ => 0))))), (b + 4, .inl (cJ, (25, .inr (.inl (fun _ => 0))))), (b + 5, .inl (cJ, (25, .inr (.inl (fun _ => 0))))), (b + 6, .inl (cJ, (25, .inr (.inl (fun _ => 0))))), (b + 7, .inl (cJ, (25, .inr (.inl (fun _ => 0))))), (b + 8, .inl (cJ, (25, .inr (.inl (fun _ => 0))))), (q1, .inl (cI, (8, .inl (fun _ => 0)))), (q2, .inl (cJ, (25, .inr (.inl (fun _ => 0))))), (q3, .inl (cJ, (5, .inr (.inl (fun _ => 0))))), (q4, .inl (cJ, (25, .inr (.inl (fun _ => 0))))), (q5, .inl (cJ, (24, .inr (.inl (fun _ => 0)))))]) := hD
  refine va_putF (D := D) (ci := 2) (v := .ref (q5)) (ty := (.array .long)) (C := R_M) (T := F_M) (N := 7) (own := R_M) hx hb hts u_M_in t_M t_M_ok n_M hown hK hP hD hS 0 rfl rfl 6 (by decide) (hts _ kw_197) (fun _ h9 => h9) rfl hin rfl (by decide +kernel) rfl rfl (Nat.le_of_ble_eq_true rfl) d_M_init_52 (fun H locs hP hD hS => ?_)
  have hP : va_P D kc_cl ([(o, .inr (2, [.int (0), .ref (b), .ref (q1), .ref (q2), .ref (q3), .ref (q4), .ref (q5)])), (b, .inl (cX, (8, .inr (.inr (.inr (.inr (fun i => some (b + 1 + i)))))))), (b + 1, .inl (cJ, (25, .inr (.inl (fun _ => 0))))), (b + 2, .inl (cJ, (25, .inr (.inl (fun _ => 0))))), (b + 3, .inl (cJ, (25, .inr (.inl (fun _ => 0))))), (b + 4, .inl (cJ, (25, .inr (.inl (fun _ => 0))))), (b + 5, .inl (cJ, (25, .inr (.inl (fun _ => 0))))), (b + 6, .inl (cJ, (25, .inr (.inl (fun _ => 0))))), (b + 7, .inl (cJ, (25, .inr (.inl (fun _ => 0))))), (b + 8, .inl (cJ, (25, .inr (.inl (fun _ => 0))))), (q1, .inl (cI, (8, .inl (fun _ => 0)))), (q2, .inl (cJ, (25, .inr (.inl (fun _ => 0))))), (q3, .inl (cJ, (5, .inr (.inl (fun _ => 0))))), (q4, .inl (cJ, (25, .inr (.inl (fun _ => 0))))), (q5, .inl (cJ, (24, .inr (.inl (fun _ => 0)))))]) H := hP
  have hD : va_D A ([(o, .inr (2, [.int (0), .ref (b), .ref (q1), .ref (q2), .ref (q3), .ref (q4), .ref (q5)])), (b, .inl (cX, (8, .inr (.inr (.inr (.inr (fun i => some (b + 1 + i)))))))), (b + 1, .inl (cJ, (25, .inr (.inl (fun _ => 0))))), (b + 2, .inl (cJ, (25, .inr (.inl (fun _ => 0))))), (b + 3, .inl (cJ, (25, .inr (.inl (fun _ => 0))))), (b + 4, .inl (cJ, (25, .inr (.inl (fun _ => 0))))), (b + 5, .inl (cJ, (25, .inr (.inl (fun _ => 0))))), (b + 6, .inl (cJ, (25, .inr (.inl (fun _ => 0))))), (b + 7, .inl (cJ, (25, .inr (.inl (fun _ => 0))))), (b + 8, .inl (cJ, (25, .inr (.inl (fun _ => 0))))), (q1, .inl (cI, (8, .inl (fun _ => 0)))), (q2, .inl (cJ, (25, .inr (.inl (fun _ => 0))))), (q3, .inl (cJ, (5, .inr (.inl (fun _ => 0))))), (q4, .inl (cJ, (25, .inr (.inl (fun _ => 0))))), (q5, .inl (cJ, (24, .inr (.inl (fun _ => 0)))))]) := hD
  have hu : ∃ h : Nat → Nat, h 0 = o ∧ [h 0, h 1, h 2, h 3, h 4, h 5, h 6, h 7, h 8, h 9, h 10, h 11, h 12, h 13, h 14] = [o, b, q1, q2, q3, q4, q5, b + 1, b + 2, b + 3, b + 4, b + 5, b + 6, b + 7, b + 8] := ⟨fun i => [o, b, q1, q2, q3, q4, q5, b + 1, b + 2, b + 3, b + 4, b + 5, b + 6, b + 7, b + 8].getD i 0, rfl, rfl⟩
  obtain ⟨h, hh0, hh⟩ := hu
  simp only [List.cons.injEq, and_true] at hh
  obtain ⟨g0, g1, g2, g3, g4, g5, g6, g7, g8, g9, g10, g11, g12, g13, g14⟩ := hh
  have hP := ka_swap hP 1 rfl (ka_extQ (g := fun i => some (h (7 + i))) (fun j hj => by rcases j with _ | _ | _ | _ | _ | _ | _ | _ | j <;> first | omega | (show some _ = some _; simp only [Nat.reduceAdd, g7, g8, g9, g10, g11, g12, g13, g14]; done) | (simp only [Nat.zero_add, Nat.reduceAdd, Nat.add_zero, g7, g8, g9, g10, g11, g12, g13, g14]; rfl)))
  have hD := hD.set (p := 1) (e := .inl (cX, (8, .inr (.inr (.inr (.inr (fun i => some (h (7 + i)))))))) ) rfl
  have hP := hP.sub (ws' := kc_Mz h cJ cI cX (fun _ => 0)) [0, 1, 10, 11, 12, 13, 14, 2, 3, 4, 5, 6, 7, 8, 9] (by simp only [kc_Mz, kc_rows, g0, g1, g2, g3, g4, g5, g6, g7, g8, g9, g10, g11, g12, g13, g14]; rfl)
  have hD := hD.sub (ws' := kc_Mz h cJ cI cX (fun _ => 0)) [0, 1, 10, 11, 12, 13, 14, 2, 3, 4, 5, 6, 7, 8, 9] (by decide) (by simp only [kc_Mz, kc_rows, g0, g1, g2, g3, g4, g5, g6, g7, g8, g9, g10, g11, g12, g13, g14]; rfl)
  rw [← g0] at hl
  have hl : lv_has ls 2 [(0, .ref (h 0))] := hl
  refine lv_iconst (v := nI 0) hx hb d_M_init_55 (by decide +kernel) ?_
  refine lv_istore_n hx hb d_M_init_56 rfl hl (by decide) rfl (fun ls hl => ?_)
  have hl : lv_has ls 2 [(1, .int (nI (0))), (0, .ref (h 0))] := hl
  have hl : lv_has ls 2 [(1, .int (nI (0))), (0, .ref (h 0))] := lv_sub hl [0, 1] rfl
  refine M_init_L ⟨hx, hb, hml, hown, hts⟩ hK (by decide) (by decide) 24 0 H locs ls (fun _ => 0) (by omega) hl ⟨hP, hD, hS⟩ (fun j hj => absurd hj (by omega)) (fun H locs ls Cn hl hw hinv => ?_)
  obtain ⟨hP, hD, hS⟩ := hw
  have hP := ka_swap hP 6 rfl (ka_ext (g := kc_R) hinv)
  have hD := hD.set (p := 6) (e := .inl (cJ, (24, .inr (.inl kc_R)))) rfl
  exact kc_vret (ws1 := fun h => kc_Mw h cJ cI cX 0 (fun _ => 0) (fun _ => 0) (fun _ => 0) (fun _ => 0) (fun _ _ => 0)) hx hb hr hlk h hh0 hP hD hS d_M_init_79
end
section
/-! the law's helpers: a call of the component in a try; _v: it returns, _x: it throws and is caught (rows printed by gen21.py) -/
abbrev kc_CO (ob : Nat) (Ou : Nat → Int64) (h : Nat → Nat) (cJ cI : ClassId) (P : Nat → Int32) (L N S : Nat → Int64) : va_W := (ob, .inl (cJ, (1, .inr (.inl Ou)))) :: kc_C h cJ cI P L N S
abbrev r_Lv : Room := { frames := 4, cells := 0, slots := 0, locals := 98 }
abbrev r_Lx : Room := { frames := 8, cells := 1, slots := 6, locals := 128 }
theorem kc_S_kept {A : Nat → Prop} {H0 H H1 : Heap} {locs : List Loc} (hS : va_S A H0 H locs) (z1 : H.size ≤ H1.size) (z2 : ∀ q : Nat, q < H.size → H1[q]? = H[q]?) : va_S A H0 H1 locs := ⟨Nat.le_trans hS.1 z1, fun q hq hn => (z2 q (Nat.lt_of_lt_of_le hq hS.1)).trans (hS.2.1 q hq hn), hS.2.2⟩
theorem kt_cast {aS bS : Nat} {args : Array Value} {s : State} (hok : kt_ok aS bS s) : (Cond.castable R_E R_E).before args s = true := kt_face (A := #[]) rfl rfl (Vm.Alike.refl s.vm) (hok.2.2 _ (List.mem_of_getElem? (i := 0) rfl))
section KSW
variable {p : Program} {l : Launch} {e : Env} {R : Room} {s : State} {m : MethodId} {args : Array Value} {below : List Frame} {meth : Method} {c : Code} {H : Heap} {locs : List Loc} {cells slots : Nat}
/-- a call of a static method with a handler -/
theorem kt_runSW {y : MethodName} {bytes cc : ByteArray} {maxL nL mc ms n index : Nat} {ret : Option FieldType} {hh : List (Nat × Nat × Nat × Nat)} {rm : Room} {Pc : Array Value → State → Prop} {Qc : Array Value → State → Outcome → State → Prop} {free : Addr → Prop} {own : String} {As rest : List Value} {g : JFrame} (S : CallFix p m c cc nL s args kc_tbl own) (hM : Met l y (Cond.codeWith y bytes maxL ret hh :: kc_tbl) rm Pc Qc mc ms free) (hrc : rm.cells = mc) (hrs : rm.slots = ms) (hR : rm.frames + 1 ≤ R.frames ∧ 8 + (maxL + 11) + rm.locals ≤ R.locals)
    (h1 : Cond.methodLink own index y ∈ kc_tbl) (h2 : Cond.static y ∈ kc_tbl) (h3 : Cond.initialized y.cls ∈ kc_tbl) (h4 : Cond.codeWith y bytes maxL ret hh ∈ kc_tbl) (hd : y.cls ≠ "java/lang/invoke/MethodHandle" ∧ y.cls ≠ "java/lang/invoke/VarHandle" ∧ (parseMethodDescriptor y.desc).map (fun d => d.parameters.length) = some n) (hp : PreS s H Pc As)
    (hg : g.method = m) (hn : As.length = n) (hsize : g.locals.size = nL) (hstack : g.stack = As.reverse ++ rest) (hW : 2 * g.monitorRoom + (rest.map fun v => v.category).sum ≤ 8) (hdg : decode cc g.pc = .ok (.invokestatic index, 3)) (hf : cells + mc ≤ R.cells ∧ slots + ms ≤ R.slots) :
    va_Run p l e R s m args below meth c H locs cells slots mc ms g rest (Qc As.toArray) (free) := by
  obtain ⟨hx, hb, hml, ho, hts⟩ := S
  have hall : ∀ w ∈ kc_tbl, ∀ (a' : Array Value) (U : State), s.WarmedH U.vm → w.before a' U = true := fun w hw a' U hU => word_at hU (kc_good hw) (hts w hw)
  have hK : Back l R p e below s args y 3 8 (PreOf R mc ms Pc) (PostOf Qc mc ms free) := va_backW (hh := hh) (bytes := bytes) (maxL := maxL) (ret := ret) hM hp.1 hrc hrs hR.1 hR.2 (fun w hw => hall w (kc_inC h4 w hw)) List.mem_cons_self (hall _ h3)
  obtain ⟨mk, methM, cM, hnamed, hmethM, -, -, -, -, -, -, hsigM⟩ := Cond.codeWith_spec (hts _ h4)
  have hstatic : methM.isStatic = true := Cond.static_spec hnamed hmethM (hts _ h2)
  obtain ⟨kP, hkP, -⟩ := className_of_methodNamed hnamed
  have hinitP : kP.init = .initialized := Cond.initialized_spec (findClass_of_methodNamed hnamed) hkP (hts _ h3)
  have hlen : As.length = methM.sig.parameters.length := by
    have h9 := hd.2.2
    rw [hsigM] at h9
    exact hn.trans (Option.some.inj h9).symm
  intro T hT X
  obtain ⟨vm₁, X₁, hstep₁⟩ := X.invokestatic hx ho (hts _ h1) hnamed hmethM hstatic hkP hinitP ⟨hd.1, hd.2.1⟩ (g := g) hg (argsL := As) (rest := rest) hlen hstack (by rw [hb]; exact hdg)
  obtain ⟨v, ⟨U', l2, c2, s2⟩, X', ⟨g', mk', t, L, e1, e2, hq, q1, hL, q2, q3⟩, hsteps⟩ := hK m meth c ⟨T.setVm vm₁, locs, cells, slots⟩ { g with stack := rest } (.invokestatic index) mk As.toArray X₁ hg (hsize.trans hml.symm) (by rw [hb]; exact hdg) hW (X₁.named hnamed) ⟨hf.1, hf.2, hp.2 (T.setVm vm₁) hT X₁.warmed⟩
  dsimp only [Pt.U, Pt.locs, Pt.cells, Pt.slots] at X' e1 e2 q1 q2 q3 hsteps
  subst q1; subst q2; subst q3
  exact ⟨v, (T.setVm vm₁).calling g' mk' As.toArray, t, U', L, hT, X', hL, e1, e2, hq, fun target h => hstep₁ _ fun acts => by rw [doInvoke_state]; exact hsteps.trans h⟩
end KSW
set_option maxHeartbeats 4000000 in
theorem c_L_clear_v (l : Launch) (D : va_G) (h : Nat → Nat) (cJ cI cX : ClassId) (P : Nat → Int32) (L N Sd : Nat → Int64) (ob : Nat) (Ou : Nat → Int64) (sz : Nat) (q : Nat) (hq : q < 8) : Met l y_L_clear w_L_clear r_Lv (va_Pc [.ref (h 0), .int (nI q)] (fun U => kc_pre D (kc_ty cJ cI cX) (kc_CO ob Ou h cJ cI P L N Sd) sz U ∧ (fun _ : State => True) U)) (va_Qi (fun r (u : Nat → Int64) => r = nI 0 ∧ (∀ c, c < 25 → u (25 * q + c) = 0) ∧ kc_fr q u L) (fun u t => kc_post D (va_A (kc_CO ob Ou h cJ cI P L N Sd) sz) (kc_CO ob Ou h cJ cI (upd P q (nI 0)) u N Sd) t) (va_A (kc_CO ob Ou h cJ cI P L N Sd) sz)) 0 0 (va_A (kc_CO ob Ou h cJ cI P L N Sd) sz) := by
  refine kc_ofWH (QA := fun A => va_Qi (fun r (u : Nat → Int64) => r = nI 0 ∧ (∀ c, c < 25 → u (25 * q + c) = 0) ∧ kc_fr q u L) (fun u t => kc_post D A (kc_CO ob Ou h cJ cI (upd P q (nI 0)) u N Sd) t) A) (cc := b_L_clear) (maxL := 3) (ret := some .int) (hh := [(0, 5, 8, 13)]) (by decide) rfl (Nat.le_of_ble_eq_true rfl) ?_
  intro p e s m below meth c A ls S hr hlk hT hK hP hD hA hl hok
  obtain ⟨hx, hb, hml, hown, hts⟩ := S
  have hS : va_S A s.heap s.heap [] := va_S.rf
  have hl : lv_has ls 3 [(0, .ref (h 0)), (1, .int (nI (q)))] := hl
  obtain ⟨H, hH⟩ : ∃ H, H = s.heap := ⟨_, rfl⟩
  obtain ⟨locs, hlo⟩ : ∃ q : List Loc, q = [] := ⟨_, rfl⟩
  rw [← hlo] at hS ⊢
  have hP : va_P D kc_cl _ H := hH ▸ hP
  have hS : va_S A s.heap H locs := by rw [hH]; exact hS
  refine (show W _ _ _ _ _ _ _ _ _ _ H _ _ _ _ _ → W _ _ _ _ _ _ _ _ _ _ s.heap _ _ _ _ _ from by rw [hH]; exact id) ?_
  have hHs := congrArg Array.size hH
  refine lv_aload_n hx hb d_L_clear_0 rfl (lv_at hl 0 rfl) ?_
  refine lv_iload_n hx hb d_L_clear_1 rfl (lv_at hl 1 rfl) ?_
  refine kc_goV (wr := [(ob, .inl (cJ, (1, .inr (.inl Ou))))]) (ws := kc_C h cJ cI (P) (L) (N) (Sd)) (va_runV (As := [.int (nI (q))]) (rest := []) ⟨hx, hb, hml, hown, hts⟩ (c_K_clear_v l D h cJ cI cX P L N Sd H.size q hq) (cwV 1 hts (kc_inV kw_52 kw_53 kw_54 kw_1 kw_55) rfl rfl rfl (by decide +kernel) ⟨by decide, by decide⟩) (kc_preV (wr := [(ob, .inl (cJ, (1, .inr (.inl Ou))))]) (q0 := 0) (ci := 0) hK hP hD rfl rfl) rfl rfl hl.1 rfl (lv_room (Nat.le_of_ble_eq_true rfl)) d_L_clear_2 ⟨by decide, by decide⟩) hP hD hS hA (fun u H locs hp hP hD hS => ?_)
  obtain ⟨L1, e_L1⟩ : ∃ z, z = u := ⟨_, rfl⟩
  rw [← e_L1] at hp hP hD
  have hP : va_P D kc_cl (kc_CO ob (Ou) h cJ cI (upd P q (nI 0)) (L1) (N) (Sd)) H := hP
  have hD : va_D A (kc_CO ob (Ou) h cJ cI (upd P q (nI 0)) (L1) (N) (Sd)) := hD
  refine lv_goto (tgt := 11) hx hb d_L_clear_5 (by decide) ?_
  refine lv_iconst (v := nI 0) hx hb d_L_clear_11 (by decide +kernel) ?_
  exact kc_iret hx hb hr hlk L1 ⟨rfl, hp⟩ hP hD hS d_L_clear_12
set_option maxHeartbeats 4000000 in
theorem c_L_clear_x (l : Launch) (D : va_G) (h : Nat → Nat) (cJ cI cX : ClassId) (P : Nat → Int32) (L N Sd : Nat → Int64) (ob : Nat) (Ou : Nat → Int64) (sz : Nat) (hfl : l.flags = flags0) (aS bS : Nat) (x : Int32) (hbad : x < 0 ∨ nI 8 ≤ x) : Met l y_L_clear w_L_clear r_Lx (va_Pc [.ref (h 0), .int x] (fun U => kc_pre D (kc_ty cJ cI cX) (kc_CO ob Ou h cJ cI P L N Sd) sz U ∧ kt_ok aS bS U)) (va_Qi (fun r (u : Unit) => r = nI 1) (fun u t => kc_post D (va_A (kc_CO ob Ou h cJ cI P L N Sd) sz) (kc_CO ob Ou h cJ cI P L N Sd) t) (va_A (kc_CO ob Ou h cJ cI P L N Sd) sz)) 1 6 (va_A (kc_CO ob Ou h cJ cI P L N Sd) sz) := by
  refine kc_ofWH (QA := fun A => va_Qi (fun r (u : Unit) => r = nI 1) (fun u t => kc_post D A (kc_CO ob Ou h cJ cI P L N Sd) t) A) (cc := b_L_clear) (maxL := 3) (ret := some .int) (hh := [(0, 5, 8, 13)]) (by decide) rfl (Nat.le_of_ble_eq_true rfl) ?_
  intro p e s m below meth c A ls S hr hlk hT hK hP hD hA hl hok
  obtain ⟨hx, hb, hml, hown, hts⟩ := S
  have hS : va_S A s.heap s.heap [] := va_S.rf
  have hl : lv_has ls 3 [(0, .ref (h 0)), (1, .int (x))] := hl
  obtain ⟨H, hH⟩ : ∃ H, H = s.heap := ⟨_, rfl⟩
  obtain ⟨locs, hlo⟩ : ∃ q : List Loc, q = [] := ⟨_, rfl⟩
  rw [← hlo] at hS ⊢
  have hP : va_P D kc_cl _ H := hH ▸ hP
  have hS : va_S A s.heap H locs := by rw [hH]; exact hS
  refine (show W _ _ _ _ _ _ _ _ _ _ H _ _ _ _ _ → W _ _ _ _ _ _ _ _ _ _ s.heap _ _ _ _ _ from by rw [hH]; exact id) ?_
  have hHs := congrArg Array.size hH
  refine lv_aload_n hx hb d_L_clear_0 rfl (lv_at hl 0 rfl) ?_
  refine lv_iload_n hx hb d_L_clear_1 rfl (lv_at hl 1 rfl) ?_
  refine kt_runV (As := [.int (x)]) (rest := []) ⟨hx, hb, hml, hown, hts⟩ (x_K_clear l hfl aS bS (h 0) x hbad) (cwV 1 hts (kc_inV kw_52 kw_53 kw_54 kw_1 kw_55) rfl rfl rfl (by decide +kernel) ⟨by decide, by decide⟩) ⟨kt_ok_blind, va_recv hK hP (q0 := 1) (ci := 0) rfl rfl, fun U hU hW => ⟨rfl, kt_ok_moved hW.alike (by rw [hU, hH]) (by rw [hU, hH]) hok⟩⟩ rfl hl.1 rfl (lv_room (Nat.le_of_ble_eq_true rfl)) d_L_clear_2 ⟨by decide, by decide⟩ (fun a H1 z1 z2 z3 z4 => ?_)
  refine kt_catch hT ⟨by decide, by decide⟩ (by decide) hown (hts _ kw_51) (kt_cast hok) z4 ?_
  have hP := hP.kept (fun k q hk => z2 q.1 ((hP k q hk).lt))
  have hS := kc_S_kept hS z1 z2
  refine lv_astore_n hx hb d_L_clear_8 rfl hl (by decide) rfl (fun ls hl => ?_)
  have hl : lv_has ls 3 [(2, .ref (a)), (0, .ref (h 0)), (1, .int (x))] := hl
  refine lv_iconst (v := nI 1) hx hb d_L_clear_9 (by decide +kernel) ?_
  exact kc_iret hx hb hr hlk () rfl hP hD hS d_L_clear_10
set_option maxHeartbeats 4000000 in
theorem c_L_mix_v (l : Launch) (D : va_G) (h : Nat → Nat) (cJ cI cX : ClassId) (P : Nat → Int32) (L N Sd : Nat → Int64) (ob : Nat) (Ou : Nat → Int64) (sz : Nat) (q : Nat) (hq : q < 8) : Met l y_L_mix w_L_mix r_Lv (va_Pc [.ref (h 0), .int (nI q)] (fun U => kc_pre D (kc_ty cJ cI cX) (kc_CO ob Ou h cJ cI P L N Sd) sz U ∧ (fun _ : State => True) U)) (va_Qi (fun r (u : (Nat → Int64) × (Nat → Int64) × (Nat → Int64)) => r = nI 0 ∧ kc_eq (kc_row u.1 q) (kc_perm 24 (kc_row L q)) ∧ kc_fr q u.1 L) (fun u t => kc_post D (va_A (kc_CO ob Ou h cJ cI P L N Sd) sz) (kc_CO ob Ou h cJ cI P u.1 u.2.1 u.2.2) t) (va_A (kc_CO ob Ou h cJ cI P L N Sd) sz)) 0 0 (va_A (kc_CO ob Ou h cJ cI P L N Sd) sz) := by
  refine kc_ofWH (QA := fun A => va_Qi (fun r (u : (Nat → Int64) × (Nat → Int64) × (Nat → Int64)) => r = nI 0 ∧ kc_eq (kc_row u.1 q) (kc_perm 24 (kc_row L q)) ∧ kc_fr q u.1 L) (fun u t => kc_post D A (kc_CO ob Ou h cJ cI P u.1 u.2.1 u.2.2) t) A) (cc := b_L_mix) (maxL := 3) (ret := some .int) (hh := [(0, 5, 8, 13)]) (by decide) rfl (Nat.le_of_ble_eq_true rfl) ?_
  intro p e s m below meth c A ls S hr hlk hT hK hP hD hA hl hok
  obtain ⟨hx, hb, hml, hown, hts⟩ := S
  have hS : va_S A s.heap s.heap [] := va_S.rf
  have hl : lv_has ls 3 [(0, .ref (h 0)), (1, .int (nI (q)))] := hl
  obtain ⟨H, hH⟩ : ∃ H, H = s.heap := ⟨_, rfl⟩
  obtain ⟨locs, hlo⟩ : ∃ q : List Loc, q = [] := ⟨_, rfl⟩
  rw [← hlo] at hS ⊢
  have hP : va_P D kc_cl _ H := hH ▸ hP
  have hS : va_S A s.heap H locs := by rw [hH]; exact hS
  refine (show W _ _ _ _ _ _ _ _ _ _ H _ _ _ _ _ → W _ _ _ _ _ _ _ _ _ _ s.heap _ _ _ _ _ from by rw [hH]; exact id) ?_
  have hHs := congrArg Array.size hH
  refine lv_aload_n hx hb d_L_mix_0 rfl (lv_at hl 0 rfl) ?_
  refine lv_iload_n hx hb d_L_mix_1 rfl (lv_at hl 1 rfl) ?_
  refine kc_goV (wr := [(ob, .inl (cJ, (1, .inr (.inl Ou))))]) (ws := kc_C h cJ cI (P) (L) (N) (Sd)) (va_runV (As := [.int (nI (q))]) (rest := []) ⟨hx, hb, hml, hown, hts⟩ (c_K_mix_v l D h cJ cI cX P L N Sd H.size q hq) (cwV 1 hts (kc_inV kw_161 kw_162 kw_163 kw_1 kw_164) rfl rfl rfl (by decide +kernel) ⟨by decide, by decide⟩) (kc_preV (wr := [(ob, .inl (cJ, (1, .inr (.inl Ou))))]) (q0 := 0) (ci := 0) hK hP hD rfl rfl) rfl rfl hl.1 rfl (lv_room (Nat.le_of_ble_eq_true rfl)) d_L_mix_2 ⟨by decide, by decide⟩) hP hD hS hA (fun u H locs hp hP hD hS => ?_)
  obtain ⟨L1, N1, S1⟩ := u
  have hP : va_P D kc_cl (kc_CO ob (Ou) h cJ cI (P) (L1) (N1) (S1)) H := hP
  have hD : va_D A (kc_CO ob (Ou) h cJ cI (P) (L1) (N1) (S1)) := hD
  refine lv_goto (tgt := 11) hx hb d_L_mix_5 (by decide) ?_
  refine lv_iconst (v := nI 0) hx hb d_L_mix_11 (by decide +kernel) ?_
  exact kc_iret hx hb hr hlk (L1, N1, S1) ⟨rfl, hp⟩ hP hD hS d_L_mix_12
set_option maxHeartbeats 4000000 in
theorem c_L_mix_x (l : Launch) (D : va_G) (h : Nat → Nat) (cJ cI cX : ClassId) (P : Nat → Int32) (L N Sd : Nat → Int64) (ob : Nat) (Ou : Nat → Int64) (sz : Nat) (hfl : l.flags = flags0) (aS bS : Nat) (x : Int32) (hbad : x < 0 ∨ nI 8 ≤ x) : Met l y_L_mix w_L_mix r_Lx (va_Pc [.ref (h 0), .int x] (fun U => kc_pre D (kc_ty cJ cI cX) (kc_CO ob Ou h cJ cI P L N Sd) sz U ∧ kt_ok aS bS U)) (va_Qi (fun r (u : Unit) => r = nI 1) (fun u t => kc_post D (va_A (kc_CO ob Ou h cJ cI P L N Sd) sz) (kc_CO ob Ou h cJ cI P L N Sd) t) (va_A (kc_CO ob Ou h cJ cI P L N Sd) sz)) 1 6 (va_A (kc_CO ob Ou h cJ cI P L N Sd) sz) := by
  refine kc_ofWH (QA := fun A => va_Qi (fun r (u : Unit) => r = nI 1) (fun u t => kc_post D A (kc_CO ob Ou h cJ cI P L N Sd) t) A) (cc := b_L_mix) (maxL := 3) (ret := some .int) (hh := [(0, 5, 8, 13)]) (by decide) rfl (Nat.le_of_ble_eq_true rfl) ?_
  intro p e s m below meth c A ls S hr hlk hT hK hP hD hA hl hok
  obtain ⟨hx, hb, hml, hown, hts⟩ := S
  have hS : va_S A s.heap s.heap [] := va_S.rf
  have hl : lv_has ls 3 [(0, .ref (h 0)), (1, .int (x))] := hl
  obtain ⟨H, hH⟩ : ∃ H, H = s.heap := ⟨_, rfl⟩
  obtain ⟨locs, hlo⟩ : ∃ q : List Loc, q = [] := ⟨_, rfl⟩
  rw [← hlo] at hS ⊢
  have hP : va_P D kc_cl _ H := hH ▸ hP
  have hS : va_S A s.heap H locs := by rw [hH]; exact hS
  refine (show W _ _ _ _ _ _ _ _ _ _ H _ _ _ _ _ → W _ _ _ _ _ _ _ _ _ _ s.heap _ _ _ _ _ from by rw [hH]; exact id) ?_
  have hHs := congrArg Array.size hH
  refine lv_aload_n hx hb d_L_mix_0 rfl (lv_at hl 0 rfl) ?_
  refine lv_iload_n hx hb d_L_mix_1 rfl (lv_at hl 1 rfl) ?_
  refine kt_runV (As := [.int (x)]) (rest := []) ⟨hx, hb, hml, hown, hts⟩ (x_K_mix l hfl aS bS (h 0) x hbad) (cwV 1 hts (kc_inV kw_161 kw_162 kw_163 kw_1 kw_164) rfl rfl rfl (by decide +kernel) ⟨by decide, by decide⟩) ⟨kt_ok_blind, va_recv hK hP (q0 := 1) (ci := 0) rfl rfl, fun U hU hW => ⟨rfl, kt_ok_moved hW.alike (by rw [hU, hH]) (by rw [hU, hH]) hok⟩⟩ rfl hl.1 rfl (lv_room (Nat.le_of_ble_eq_true rfl)) d_L_mix_2 ⟨by decide, by decide⟩ (fun a H1 z1 z2 z3 z4 => ?_)
  refine kt_catch hT ⟨by decide, by decide⟩ (by decide) hown (hts _ kw_51) (kt_cast hok) z4 ?_
  have hP := hP.kept (fun k q hk => z2 q.1 ((hP k q hk).lt))
  have hS := kc_S_kept hS z1 z2
  refine lv_astore_n hx hb d_L_mix_8 rfl hl (by decide) rfl (fun ls hl => ?_)
  have hl : lv_has ls 3 [(2, .ref (a)), (0, .ref (h 0)), (1, .int (x))] := hl
  refine lv_iconst (v := nI 1) hx hb d_L_mix_9 (by decide +kernel) ?_
  exact kc_iret hx hb hr hlk () rfl hP hD hS d_L_mix_10
set_option maxHeartbeats 4000000 in
theorem c_L_copy_v (l : Launch) (D : va_G) (h : Nat → Nat) (cJ cI cX : ClassId) (P : Nat → Int32) (L N Sd : Nat → Int64) (ob : Nat) (Ou : Nat → Int64) (sz : Nat) (a b : Nat) (ha : a < 8) (hb8 : b < 8) : Met l y_L_copy w_L_copy r_Lv (va_Pc [.ref (h 0), .int (nI a), .int (nI b)] (fun U => kc_pre D (kc_ty cJ cI cX) (kc_CO ob Ou h cJ cI P L N Sd) sz U ∧ (fun _ : State => True) U)) (va_Qi (fun r (u : Nat → Int64) => r = nI 0 ∧ kc_eq (kc_row u b) (kc_row L a) ∧ kc_fr b u L) (fun u t => kc_post D (va_A (kc_CO ob Ou h cJ cI P L N Sd) sz) (kc_CO ob Ou h cJ cI (upd P b (P a)) u N Sd) t) (va_A (kc_CO ob Ou h cJ cI P L N Sd) sz)) 0 0 (va_A (kc_CO ob Ou h cJ cI P L N Sd) sz) := by
  refine kc_ofWH (QA := fun A => va_Qi (fun r (u : Nat → Int64) => r = nI 0 ∧ kc_eq (kc_row u b) (kc_row L a) ∧ kc_fr b u L) (fun u t => kc_post D A (kc_CO ob Ou h cJ cI (upd P b (P a)) u N Sd) t) A) (cc := b_L_copy) (maxL := 4) (ret := some .int) (hh := [(0, 6, 9, 13)]) (by decide) rfl (Nat.le_of_ble_eq_true rfl) ?_
  intro p e s m below meth c A ls S hr hlk hT hK hP hD hA hl hok
  obtain ⟨hx, hb, hml, hown, hts⟩ := S
  have hS : va_S A s.heap s.heap [] := va_S.rf
  have hl : lv_has ls 4 [(0, .ref (h 0)), (1, .int (nI (a))), (2, .int (nI (b)))] := hl
  obtain ⟨H, hH⟩ : ∃ H, H = s.heap := ⟨_, rfl⟩
  obtain ⟨locs, hlo⟩ : ∃ q : List Loc, q = [] := ⟨_, rfl⟩
  rw [← hlo] at hS ⊢
  have hP : va_P D kc_cl _ H := hH ▸ hP
  have hS : va_S A s.heap H locs := by rw [hH]; exact hS
  refine (show W _ _ _ _ _ _ _ _ _ _ H _ _ _ _ _ → W _ _ _ _ _ _ _ _ _ _ s.heap _ _ _ _ _ from by rw [hH]; exact id) ?_
  have hHs := congrArg Array.size hH
  refine lv_aload_n hx hb d_L_copy_0 rfl (lv_at hl 0 rfl) ?_
  refine lv_iload_n hx hb d_L_copy_1 rfl (lv_at hl 1 rfl) ?_
  refine lv_iload_n hx hb d_L_copy_2 rfl (lv_at hl 2 rfl) ?_
  refine kc_goV (wr := [(ob, .inl (cJ, (1, .inr (.inl Ou))))]) (ws := kc_C h cJ cI (P) (L) (N) (Sd)) (va_runV (As := [.int (nI (a)), .int (nI (b))]) (rest := []) ⟨hx, hb, hml, hown, hts⟩ (c_K_copy_v l D h cJ cI cX P L N Sd H.size a b ha hb8) (cwV 2 hts (kc_inV kw_150 kw_151 kw_152 kw_1 kw_153) rfl rfl rfl (by decide +kernel) ⟨by decide, by decide⟩) (kc_preV (wr := [(ob, .inl (cJ, (1, .inr (.inl Ou))))]) (q0 := 0) (ci := 0) hK hP hD rfl rfl) rfl rfl hl.1 rfl (lv_room (Nat.le_of_ble_eq_true rfl)) d_L_copy_3 ⟨by decide, by decide⟩) hP hD hS hA (fun u H locs hp hP hD hS => ?_)
  obtain ⟨L1, e_L1⟩ : ∃ z, z = u := ⟨_, rfl⟩
  rw [← e_L1] at hp hP hD
  have hP : va_P D kc_cl (kc_CO ob (Ou) h cJ cI (upd P b (P a)) (L1) (N) (Sd)) H := hP
  have hD : va_D A (kc_CO ob (Ou) h cJ cI (upd P b (P a)) (L1) (N) (Sd)) := hD
  refine lv_goto (tgt := 12) hx hb d_L_copy_6 (by decide) ?_
  refine lv_iconst (v := nI 0) hx hb d_L_copy_12 (by decide +kernel) ?_
  exact kc_iret hx hb hr hlk L1 ⟨rfl, hp⟩ hP hD hS d_L_copy_13
set_option maxHeartbeats 4000000 in
theorem c_L_copy_x (l : Launch) (D : va_G) (h : Nat → Nat) (cJ cI cX : ClassId) (P : Nat → Int32) (L N Sd : Nat → Int64) (ob : Nat) (Ou : Nat → Int64) (sz : Nat) (hfl : l.flags = flags0) (aS bS : Nat) (x y : Int32) (hbad : (x < 0 ∨ nI 8 ≤ x) ∨ (∃ j, j < 8 ∧ x = nI j) ∧ (y < 0 ∨ nI 8 ≤ y)) : Met l y_L_copy w_L_copy r_Lx (va_Pc [.ref (h 0), .int x, .int y] (fun U => kc_pre D (kc_ty cJ cI cX) (kc_CO ob Ou h cJ cI P L N Sd) sz U ∧ kt_ok aS bS U)) (va_Qi (fun r (u : Unit) => r = nI 1) (fun u t => kc_post D (va_A (kc_CO ob Ou h cJ cI P L N Sd) sz) (kc_CO ob Ou h cJ cI P L N Sd) t) (va_A (kc_CO ob Ou h cJ cI P L N Sd) sz)) 1 6 (va_A (kc_CO ob Ou h cJ cI P L N Sd) sz) := by
  refine kc_ofWH (QA := fun A => va_Qi (fun r (u : Unit) => r = nI 1) (fun u t => kc_post D A (kc_CO ob Ou h cJ cI P L N Sd) t) A) (cc := b_L_copy) (maxL := 4) (ret := some .int) (hh := [(0, 6, 9, 13)]) (by decide) rfl (Nat.le_of_ble_eq_true rfl) ?_
  intro p e s m below meth c A ls S hr hlk hT hK hP hD hA hl hok
  obtain ⟨hx, hb, hml, hown, hts⟩ := S
  have hS : va_S A s.heap s.heap [] := va_S.rf
  have hl : lv_has ls 4 [(0, .ref (h 0)), (1, .int (x)), (2, .int (y))] := hl
  obtain ⟨H, hH⟩ : ∃ H, H = s.heap := ⟨_, rfl⟩
  obtain ⟨locs, hlo⟩ : ∃ q : List Loc, q = [] := ⟨_, rfl⟩
  rw [← hlo] at hS ⊢
  have hP : va_P D kc_cl _ H := hH ▸ hP
  have hS : va_S A s.heap H locs := by rw [hH]; exact hS
  refine (show W _ _ _ _ _ _ _ _ _ _ H _ _ _ _ _ → W _ _ _ _ _ _ _ _ _ _ s.heap _ _ _ _ _ from by rw [hH]; exact id) ?_
  have hHs := congrArg Array.size hH
  refine lv_aload_n hx hb d_L_copy_0 rfl (lv_at hl 0 rfl) ?_
  refine lv_iload_n hx hb d_L_copy_1 rfl (lv_at hl 1 rfl) ?_
  refine lv_iload_n hx hb d_L_copy_2 rfl (lv_at hl 2 rfl) ?_
  refine kt_runV (As := [.int (x), .int (y)]) (rest := []) ⟨hx, hb, hml, hown, hts⟩ (x_K_copy l hfl aS bS (h 0) x y hbad) (cwV 2 hts (kc_inV kw_150 kw_151 kw_152 kw_1 kw_153) rfl rfl rfl (by decide +kernel) ⟨by decide, by decide⟩) ⟨kt_ok_blind, va_recv hK hP (q0 := 1) (ci := 0) rfl rfl, fun U hU hW => ⟨rfl, kt_ok_moved hW.alike (by rw [hU, hH]) (by rw [hU, hH]) hok⟩⟩ rfl hl.1 rfl (lv_room (Nat.le_of_ble_eq_true rfl)) d_L_copy_3 ⟨by decide, by decide⟩ (fun a H1 z1 z2 z3 z4 => ?_)
  refine kt_catch hT ⟨by decide, by decide⟩ (by decide) hown (hts _ kw_51) (kt_cast hok) z4 ?_
  have hP := hP.kept (fun k q hk => z2 q.1 ((hP k q hk).lt))
  have hS := kc_S_kept hS z1 z2
  refine lv_astore_n hx hb d_L_copy_9 rfl hl (by decide) rfl (fun ls hl => ?_)
  have hl : lv_has ls 4 [(3, .ref (a)), (0, .ref (h 0)), (1, .int (x)), (2, .int (y))] := hl
  refine lv_iconst (v := nI 1) hx hb d_L_copy_10 (by decide +kernel) ?_
  exact kc_iret hx hb hr hlk () rfl hP hD hS d_L_copy_11
set_option maxHeartbeats 4000000 in
theorem c_L_take_v (l : Launch) (D : va_G) (h : Nat → Nat) (cJ cI cX : ClassId) (P : Nat → Int32) (L N Sd : Nat → Int64) (ob : Nat) (Ou : Nat → Int64) (sz : Nat) (q n pp : Nat) (v : Int64) (hq : q < 8) (hn : n ≤ 8) (hpp : P q = nI pp) (hlt : pp < 136) : Met l y_L_take w_L_take r_Lv (va_Pc [.ref (h 0), .int (nI q), .long v, .int (nI n), .ref ob] (fun U => kc_pre D (kc_ty cJ cI cX) (kc_CO ob Ou h cJ cI P L N Sd) sz U ∧ (fun _ : State => True) U)) (va_Qi (fun r (u : (Nat → Int32) × (Nat → Int64) × (Nat → Int64) × (Nat → Int64) × (Nat → Int64)) => r = nI 0 ∧ kc_eq (kc_row u.2.1 q) (kc_steps (kc_vs v) n (kc_row L q, pp)).1 ∧ u.1 q = nI (kc_steps (kc_vs v) n (kc_row L q, pp)).2 ∧ (∀ i, i ≠ q → u.1 i = P i) ∧ kc_fr q u.2.1 L ∧ u.2.2.2.2 0 = (nI (kc_steps (kc_vs v) n (kc_row L q, pp)).2).toInt64) (fun u t => kc_post D (va_A (kc_CO ob Ou h cJ cI P L N Sd) sz) (kc_CO ob u.2.2.2.2 h cJ cI u.1 u.2.1 u.2.2.1 u.2.2.2.1) t) (va_A (kc_CO ob Ou h cJ cI P L N Sd) sz)) 0 0 (va_A (kc_CO ob Ou h cJ cI P L N Sd) sz) := by
  refine kc_ofWH (QA := fun A => va_Qi (fun r (u : (Nat → Int32) × (Nat → Int64) × (Nat → Int64) × (Nat → Int64) × (Nat → Int64)) => r = nI 0 ∧ kc_eq (kc_row u.2.1 q) (kc_steps (kc_vs v) n (kc_row L q, pp)).1 ∧ u.1 q = nI (kc_steps (kc_vs v) n (kc_row L q, pp)).2 ∧ (∀ i, i ≠ q → u.1 i = P i) ∧ kc_fr q u.2.1 L ∧ u.2.2.2.2 0 = (nI (kc_steps (kc_vs v) n (kc_row L q, pp)).2).toInt64) (fun u t => kc_post D A (kc_CO ob u.2.2.2.2 h cJ cI u.1 u.2.1 u.2.2.1 u.2.2.2.1) t) A) (cc := b_L_take) (maxL := 7) (ret := some .int) (hh := [(0, 13, 16, 13)]) (by decide) rfl (Nat.le_of_ble_eq_true rfl) ?_
  intro p e s m below meth c A ls S hr hlk hT hK hP hD hA hl hok
  obtain ⟨hx, hb, hml, hown, hts⟩ := S
  have hS : va_S A s.heap s.heap [] := va_S.rf
  have hl : lv_has ls 7 [(0, .ref (h 0)), (1, .int (nI (q))), (2, .long (v)), (4, .int (nI (n))), (5, .ref (ob))] := hl
  obtain ⟨H, hH⟩ : ∃ H, H = s.heap := ⟨_, rfl⟩
  obtain ⟨locs, hlo⟩ : ∃ q : List Loc, q = [] := ⟨_, rfl⟩
  rw [← hlo] at hS ⊢
  have hP : va_P D kc_cl _ H := hH ▸ hP
  have hS : va_S A s.heap H locs := by rw [hH]; exact hS
  refine (show W _ _ _ _ _ _ _ _ _ _ H _ _ _ _ _ → W _ _ _ _ _ _ _ _ _ _ s.heap _ _ _ _ _ from by rw [hH]; exact id) ?_
  have hHs := congrArg Array.size hH
  refine lv_aload hx hb d_L_take_0 (lv_at hl 4 rfl) ?_
  refine lv_iconst (v := nI 0) hx hb d_L_take_2 (by decide +kernel) ?_
  refine lv_aload_n hx hb d_L_take_3 rfl (lv_at hl 0 rfl) ?_
  refine lv_iload_n hx hb d_L_take_4 rfl (lv_at hl 1 rfl) ?_
  refine lv_lload_n hx hb d_L_take_5 rfl (lv_at hl 2 rfl) ?_
  refine lv_iload hx hb d_L_take_6 (lv_at hl 3 rfl) ?_
  refine kc_goI (wr := [(ob, .inl (cJ, (1, .inr (.inl Ou))))]) (ws := kc_C h cJ cI (P) (L) (N) (Sd)) (va_runV (As := [.int (nI (q)), .long (v), .int (nI (n))]) (rest := [.int (nI (0)), .ref (ob)]) ⟨hx, hb, hml, hown, hts⟩ (c_K_take_v l D h cJ cI cX P L N Sd H.size q n pp v hq hn hpp hlt) (cwV 3 hts (kc_inV kw_123 kw_124 kw_125 kw_1 kw_126) rfl rfl rfl (by decide +kernel) ⟨by decide, by decide⟩) (kc_preV (wr := [(ob, .inl (cJ, (1, .inr (.inl Ou))))]) (q0 := 0) (ci := 0) hK hP hD rfl rfl) rfl rfl hl.1 rfl (lv_room (Nat.le_of_ble_eq_true rfl)) d_L_take_8 ⟨by decide, by decide⟩) hP hD hS hA (fun r u H locs hp hP hD hS => ?_)
  obtain ⟨P1, L1, N1, S1⟩ := u
  have hP : va_P D kc_cl (kc_CO ob (Ou) h cJ cI (P1) (L1) (N1) (S1)) H := hP
  have hD : va_D A (kc_CO ob (Ou) h cJ cI (P1) (L1) (N1) (S1)) := hD
  obtain ⟨hp1, hp2, hp3, hp4, hp5⟩ := hp
  subst hp5
  refine lv_i2l hx hb d_L_take_11 rfl ?_
  refine lv_topl (fun v1 e_v1 => ?_)
  refine ka_last (f := Ou) hx hb hK hP hD hS 0 0 rfl rfl (i := 0) (by omega) (by decide) d_L_take_12 (fun H locs hP hD hS => ?_)
  have hP : va_P D kc_cl (kc_CO ob (vp_updL Ou (0) (v1)) h cJ cI (P1) (L1) (N1) (S1)) H := hP
  have hD : va_D A (kc_CO ob (vp_updL Ou (0) (v1)) h cJ cI (P1) (L1) (N1) (S1)) := hD
  refine lv_goto (tgt := 20) hx hb d_L_take_13 (by decide) ?_
  refine lv_iconst (v := nI 0) hx hb d_L_take_20 (by decide +kernel) ?_
  exact kc_iret hx hb hr hlk (P1, L1, N1, S1, vp_updL Ou 0 v1) ⟨rfl, hp1, hp2, hp3, hp4, by show vp_updL Ou 0 v1 0 = _; rw [pk_uLs, e_v1]⟩ hP hD hS d_L_take_21
set_option maxHeartbeats 4000000 in
theorem c_L_fill_v (l : Launch) (D : va_G) (h : Nat → Nat) (cJ cI cX : ClassId) (P : Nat → Int32) (L N Sd : Nat → Int64) (ob : Nat) (Ou : Nat → Int64) (sz : Nat) (q n pp : Nat) (v st : Int32) (hq : q < 8) (hn : n ≤ 2000) (hpp : P q = nI pp) (hlt : pp < 136) : Met l y_L_fill w_L_fill r_Lv (va_Pc [.ref (h 0), .int (nI q), .int v, .int st, .int (nI n), .ref ob] (fun U => kc_pre D (kc_ty cJ cI cX) (kc_CO ob Ou h cJ cI P L N Sd) sz U ∧ (fun _ : State => True) U)) (va_Qi (fun r (u : (Nat → Int32) × (Nat → Int64) × (Nat → Int64) × (Nat → Int64) × (Nat → Int64)) => r = nI 0 ∧ kc_eq (kc_row u.2.1 q) (kc_steps (kc_fs v st) n (kc_row L q, pp)).1 ∧ u.1 q = nI (kc_steps (kc_fs v st) n (kc_row L q, pp)).2 ∧ (∀ i, i ≠ q → u.1 i = P i) ∧ kc_fr q u.2.1 L ∧ u.2.2.2.2 0 = (nI (kc_steps (kc_fs v st) n (kc_row L q, pp)).2).toInt64) (fun u t => kc_post D (va_A (kc_CO ob Ou h cJ cI P L N Sd) sz) (kc_CO ob u.2.2.2.2 h cJ cI u.1 u.2.1 u.2.2.1 u.2.2.2.1) t) (va_A (kc_CO ob Ou h cJ cI P L N Sd) sz)) 0 0 (va_A (kc_CO ob Ou h cJ cI P L N Sd) sz) := by
  refine kc_ofWH (QA := fun A => va_Qi (fun r (u : (Nat → Int32) × (Nat → Int64) × (Nat → Int64) × (Nat → Int64) × (Nat → Int64)) => r = nI 0 ∧ kc_eq (kc_row u.2.1 q) (kc_steps (kc_fs v st) n (kc_row L q, pp)).1 ∧ u.1 q = nI (kc_steps (kc_fs v st) n (kc_row L q, pp)).2 ∧ (∀ i, i ≠ q → u.1 i = P i) ∧ kc_fr q u.2.1 L ∧ u.2.2.2.2 0 = (nI (kc_steps (kc_fs v st) n (kc_row L q, pp)).2).toInt64) (fun u t => kc_post D A (kc_CO ob u.2.2.2.2 h cJ cI u.1 u.2.1 u.2.2.1 u.2.2.2.1) t) A) (cc := b_L_fill) (maxL := 7) (ret := some .int) (hh := [(0, 14, 17, 13)]) (by decide) rfl (Nat.le_of_ble_eq_true rfl) ?_
  intro p e s m below meth c A ls S hr hlk hT hK hP hD hA hl hok
  obtain ⟨hx, hb, hml, hown, hts⟩ := S
  have hS : va_S A s.heap s.heap [] := va_S.rf
  have hl : lv_has ls 7 [(0, .ref (h 0)), (1, .int (nI (q))), (2, .int (v)), (3, .int (st)), (4, .int (nI (n))), (5, .ref (ob))] := hl
  obtain ⟨H, hH⟩ : ∃ H, H = s.heap := ⟨_, rfl⟩
  obtain ⟨locs, hlo⟩ : ∃ q : List Loc, q = [] := ⟨_, rfl⟩
  rw [← hlo] at hS ⊢
  have hP : va_P D kc_cl _ H := hH ▸ hP
  have hS : va_S A s.heap H locs := by rw [hH]; exact hS
  refine (show W _ _ _ _ _ _ _ _ _ _ H _ _ _ _ _ → W _ _ _ _ _ _ _ _ _ _ s.heap _ _ _ _ _ from by rw [hH]; exact id) ?_
  have hHs := congrArg Array.size hH
  refine lv_aload hx hb d_L_fill_0 (lv_at hl 5 rfl) ?_
  refine lv_iconst (v := nI 0) hx hb d_L_fill_2 (by decide +kernel) ?_
  refine lv_aload_n hx hb d_L_fill_3 rfl (lv_at hl 0 rfl) ?_
  refine lv_iload_n hx hb d_L_fill_4 rfl (lv_at hl 1 rfl) ?_
  refine lv_iload_n hx hb d_L_fill_5 rfl (lv_at hl 2 rfl) ?_
  refine lv_iload_n hx hb d_L_fill_6 rfl (lv_at hl 3 rfl) ?_
  refine lv_iload hx hb d_L_fill_7 (lv_at hl 4 rfl) ?_
  refine kc_goI (wr := [(ob, .inl (cJ, (1, .inr (.inl Ou))))]) (ws := kc_C h cJ cI (P) (L) (N) (Sd)) (va_runV (As := [.int (nI (q)), .int (v), .int (st), .int (nI (n))]) (rest := [.int (nI (0)), .ref (ob)]) ⟨hx, hb, hml, hown, hts⟩ (c_K_fill_v l D h cJ cI cX P L N Sd H.size q n pp v st hq hn hpp hlt) (cwV 4 hts (kc_inV kw_143 kw_144 kw_145 kw_1 kw_146) rfl rfl rfl (by decide +kernel) ⟨by decide, by decide⟩) (kc_preV (wr := [(ob, .inl (cJ, (1, .inr (.inl Ou))))]) (q0 := 0) (ci := 0) hK hP hD rfl rfl) rfl rfl hl.1 rfl (lv_room (Nat.le_of_ble_eq_true rfl)) d_L_fill_9 ⟨by decide, by decide⟩) hP hD hS hA (fun r u H locs hp hP hD hS => ?_)
  obtain ⟨P1, L1, N1, S1⟩ := u
  have hP : va_P D kc_cl (kc_CO ob (Ou) h cJ cI (P1) (L1) (N1) (S1)) H := hP
  have hD : va_D A (kc_CO ob (Ou) h cJ cI (P1) (L1) (N1) (S1)) := hD
  obtain ⟨hp1, hp2, hp3, hp4, hp5⟩ := hp
  subst hp5
  refine lv_i2l hx hb d_L_fill_12 rfl ?_
  refine lv_topl (fun v1 e_v1 => ?_)
  refine ka_last (f := Ou) hx hb hK hP hD hS 0 0 rfl rfl (i := 0) (by omega) (by decide) d_L_fill_13 (fun H locs hP hD hS => ?_)
  have hP : va_P D kc_cl (kc_CO ob (vp_updL Ou (0) (v1)) h cJ cI (P1) (L1) (N1) (S1)) H := hP
  have hD : va_D A (kc_CO ob (vp_updL Ou (0) (v1)) h cJ cI (P1) (L1) (N1) (S1)) := hD
  refine lv_goto (tgt := 21) hx hb d_L_fill_14 (by decide) ?_
  refine lv_iconst (v := nI 0) hx hb d_L_fill_21 (by decide +kernel) ?_
  exact kc_iret hx hb hr hlk (P1, L1, N1, S1, vp_updL Ou 0 v1) ⟨rfl, hp1, hp2, hp3, hp4, by show vp_updL Ou 0 v1 0 = _; rw [pk_uLs, e_v1]⟩ hP hD hS d_L_fill_22
set_option maxHeartbeats 4000000 in
theorem c_L_take_x (l : Launch) (D : va_G) (h : Nat → Nat) (cJ cI cX : ClassId) (P : Nat → Int32) (L N Sd : Nat → Int64) (ob : Nat) (Ou : Nat → Int64) (sz : Nat) (hfl : l.flags = flags0) (aS bS : Nat) (x y : Int32) (v : Int64) (hbad : (x < 0 ∨ nI 8 ≤ x) ∨ (∃ j, j < 8 ∧ x = nI j) ∧ (y < 0 ∨ nI 9 ≤ y)) : Met l y_L_take w_L_take r_Lx (va_Pc [.ref (h 0), .int x, .long v, .int y, .ref ob] (fun U => kc_pre D (kc_ty cJ cI cX) (kc_CO ob Ou h cJ cI P L N Sd) sz U ∧ kt_ok aS bS U)) (va_Qi (fun r (u : Unit) => r = nI 1) (fun u t => kc_post D (va_A (kc_CO ob Ou h cJ cI P L N Sd) sz) (kc_CO ob Ou h cJ cI P L N Sd) t) (va_A (kc_CO ob Ou h cJ cI P L N Sd) sz)) 1 6 (va_A (kc_CO ob Ou h cJ cI P L N Sd) sz) := by
  refine kc_ofWH (QA := fun A => va_Qi (fun r (u : Unit) => r = nI 1) (fun u t => kc_post D A (kc_CO ob Ou h cJ cI P L N Sd) t) A) (cc := b_L_take) (maxL := 7) (ret := some .int) (hh := [(0, 13, 16, 13)]) (by decide) rfl (Nat.le_of_ble_eq_true rfl) ?_
  intro p e s m below meth c A ls S hr hlk hT hK hP hD hA hl hok
  obtain ⟨hx, hb, hml, hown, hts⟩ := S
  have hS : va_S A s.heap s.heap [] := va_S.rf
  have hl : lv_has ls 7 [(0, .ref (h 0)), (1, .int (x)), (2, .long (v)), (4, .int (y)), (5, .ref (ob))] := hl
  obtain ⟨H, hH⟩ : ∃ H, H = s.heap := ⟨_, rfl⟩
  obtain ⟨locs, hlo⟩ : ∃ q : List Loc, q = [] := ⟨_, rfl⟩
  rw [← hlo] at hS ⊢
  have hP : va_P D kc_cl _ H := hH ▸ hP
  have hS : va_S A s.heap H locs := by rw [hH]; exact hS
  refine (show W _ _ _ _ _ _ _ _ _ _ H _ _ _ _ _ → W _ _ _ _ _ _ _ _ _ _ s.heap _ _ _ _ _ from by rw [hH]; exact id) ?_
  have hHs := congrArg Array.size hH
  refine lv_aload hx hb d_L_take_0 (lv_at hl 4 rfl) ?_
  refine lv_iconst (v := nI 0) hx hb d_L_take_2 (by decide +kernel) ?_
  refine lv_aload_n hx hb d_L_take_3 rfl (lv_at hl 0 rfl) ?_
  refine lv_iload_n hx hb d_L_take_4 rfl (lv_at hl 1 rfl) ?_
  refine lv_lload_n hx hb d_L_take_5 rfl (lv_at hl 2 rfl) ?_
  refine lv_iload hx hb d_L_take_6 (lv_at hl 3 rfl) ?_
  refine kt_runV (As := [.int (x), .long (v), .int (y)]) (rest := [.int (nI (0)), .ref (ob)]) ⟨hx, hb, hml, hown, hts⟩ (x_K_take l hfl aS bS (h 0) x y v hbad) (cwV 3 hts (kc_inV kw_123 kw_124 kw_125 kw_1 kw_126) rfl rfl rfl (by decide +kernel) ⟨by decide, by decide⟩) ⟨kt_ok_blind, va_recv hK hP (q0 := 1) (ci := 0) rfl rfl, fun U hU hW => ⟨rfl, kt_ok_moved hW.alike (by rw [hU, hH]) (by rw [hU, hH]) hok⟩⟩ rfl hl.1 rfl (lv_room (Nat.le_of_ble_eq_true rfl)) d_L_take_8 ⟨by decide, by decide⟩ (fun a H1 z1 z2 z3 z4 => ?_)
  refine kt_catch hT ⟨by decide, by decide⟩ (by decide) hown (hts _ kw_51) (kt_cast hok) z4 ?_
  have hP := hP.kept (fun k q hk => z2 q.1 ((hP k q hk).lt))
  have hS := kc_S_kept hS z1 z2
  refine lv_astore hx hb d_L_take_16 hl (by decide) rfl (fun ls hl => ?_)
  have hl : lv_has ls 7 [(6, .ref (a)), (0, .ref (h 0)), (1, .int (x)), (2, .long (v)), (4, .int (y)), (5, .ref (ob))] := hl
  refine lv_iconst (v := nI 1) hx hb d_L_take_18 (by decide +kernel) ?_
  exact kc_iret hx hb hr hlk () rfl hP hD hS d_L_take_19
set_option maxHeartbeats 4000000 in
theorem c_L_fill_x (l : Launch) (D : va_G) (h : Nat → Nat) (cJ cI cX : ClassId) (P : Nat → Int32) (L N Sd : Nat → Int64) (ob : Nat) (Ou : Nat → Int64) (sz : Nat) (hfl : l.flags = flags0) (aS bS : Nat) (x y v st : Int32) (hbad : (x < 0 ∨ nI 8 ≤ x) ∨ (∃ j, j < 8 ∧ x = nI j) ∧ (y < 0 ∨ nI 2001 ≤ y)) : Met l y_L_fill w_L_fill r_Lx (va_Pc [.ref (h 0), .int x, .int v, .int st, .int y, .ref ob] (fun U => kc_pre D (kc_ty cJ cI cX) (kc_CO ob Ou h cJ cI P L N Sd) sz U ∧ kt_ok aS bS U)) (va_Qi (fun r (u : Unit) => r = nI 1) (fun u t => kc_post D (va_A (kc_CO ob Ou h cJ cI P L N Sd) sz) (kc_CO ob Ou h cJ cI P L N Sd) t) (va_A (kc_CO ob Ou h cJ cI P L N Sd) sz)) 1 6 (va_A (kc_CO ob Ou h cJ cI P L N Sd) sz) := by
  refine kc_ofWH (QA := fun A => va_Qi (fun r (u : Unit) => r = nI 1) (fun u t => kc_post D A (kc_CO ob Ou h cJ cI P L N Sd) t) A) (cc := b_L_fill) (maxL := 7) (ret := some .int) (hh := [(0, 14, 17, 13)]) (by decide) rfl (Nat.le_of_ble_eq_true rfl) ?_
  intro p e s m below meth c A ls S hr hlk hT hK hP hD hA hl hok
  obtain ⟨hx, hb, hml, hown, hts⟩ := S
  have hS : va_S A s.heap s.heap [] := va_S.rf
  have hl : lv_has ls 7 [(0, .ref (h 0)), (1, .int (x)), (2, .int (v)), (3, .int (st)), (4, .int (y)), (5, .ref (ob))] := hl
  obtain ⟨H, hH⟩ : ∃ H, H = s.heap := ⟨_, rfl⟩
  obtain ⟨locs, hlo⟩ : ∃ q : List Loc, q = [] := ⟨_, rfl⟩
  rw [← hlo] at hS ⊢
  have hP : va_P D kc_cl _ H := hH ▸ hP
  have hS : va_S A s.heap H locs := by rw [hH]; exact hS
  refine (show W _ _ _ _ _ _ _ _ _ _ H _ _ _ _ _ → W _ _ _ _ _ _ _ _ _ _ s.heap _ _ _ _ _ from by rw [hH]; exact id) ?_
  have hHs := congrArg Array.size hH
  refine lv_aload hx hb d_L_fill_0 (lv_at hl 5 rfl) ?_
  refine lv_iconst (v := nI 0) hx hb d_L_fill_2 (by decide +kernel) ?_
  refine lv_aload_n hx hb d_L_fill_3 rfl (lv_at hl 0 rfl) ?_
  refine lv_iload_n hx hb d_L_fill_4 rfl (lv_at hl 1 rfl) ?_
  refine lv_iload_n hx hb d_L_fill_5 rfl (lv_at hl 2 rfl) ?_
  refine lv_iload_n hx hb d_L_fill_6 rfl (lv_at hl 3 rfl) ?_
  refine lv_iload hx hb d_L_fill_7 (lv_at hl 4 rfl) ?_
  refine kt_runV (As := [.int (x), .int (v), .int (st), .int (y)]) (rest := [.int (nI (0)), .ref (ob)]) ⟨hx, hb, hml, hown, hts⟩ (x_K_fill l hfl aS bS (h 0) x y v st hbad) (cwV 4 hts (kc_inV kw_143 kw_144 kw_145 kw_1 kw_146) rfl rfl rfl (by decide +kernel) ⟨by decide, by decide⟩) ⟨kt_ok_blind, va_recv hK hP (q0 := 1) (ci := 0) rfl rfl, fun U hU hW => ⟨rfl, kt_ok_moved hW.alike (by rw [hU, hH]) (by rw [hU, hH]) hok⟩⟩ rfl hl.1 rfl (lv_room (Nat.le_of_ble_eq_true rfl)) d_L_fill_9 ⟨by decide, by decide⟩ (fun a H1 z1 z2 z3 z4 => ?_)
  refine kt_catch hT ⟨by decide, by decide⟩ (by decide) hown (hts _ kw_51) (kt_cast hok) z4 ?_
  have hP := hP.kept (fun k q hk => z2 q.1 ((hP k q hk).lt))
  have hS := kc_S_kept hS z1 z2
  refine lv_astore hx hb d_L_fill_17 hl (by decide) rfl (fun ls hl => ?_)
  have hl : lv_has ls 7 [(6, .ref (a)), (0, .ref (h 0)), (1, .int (x)), (2, .int (v)), (3, .int (st)), (4, .int (y)), (5, .ref (ob))] := hl
  refine lv_iconst (v := nI 1) hx hb d_L_fill_19 (by decide +kernel) ?_
  exact kc_iret hx hb hr hlk () rfl hP hD hS d_L_fill_20
set_option maxHeartbeats 4000000 in
theorem c_L_lane_v (l : Launch) (D : va_G) (h : Nat → Nat) (cJ cI cX : ClassId) (P : Nat → Int32) (L N Sd : Nat → Int64) (ob : Nat) (Ou : Nat → Int64) (sz : Nat) (q i : Nat) (hq : q < 8) (hi : i < 25) : Met l y_L_lane w_L_lane r_Lv (va_Pc [.ref (h 0), .int (nI q), .int (nI i), .ref ob] (fun U => kc_pre D (kc_ty cJ cI cX) (kc_CO ob Ou h cJ cI P L N Sd) sz U ∧ (fun _ : State => True) U)) (va_Qi (fun r (u : Nat → Int64) => r = nI 0 ∧ u 0 = L (25 * q + i)) (fun u t => kc_post D (va_A (kc_CO ob Ou h cJ cI P L N Sd) sz) (kc_CO ob u h cJ cI P L N Sd) t) (va_A (kc_CO ob Ou h cJ cI P L N Sd) sz)) 0 0 (va_A (kc_CO ob Ou h cJ cI P L N Sd) sz) := by
  refine kc_ofWH (QA := fun A => va_Qi (fun r (u : Nat → Int64) => r = nI 0 ∧ u 0 = L (25 * q + i)) (fun u t => kc_post D A (kc_CO ob u h cJ cI P L N Sd) t) A) (cc := b_L_lane) (maxL := 5) (ret := some .int) (hh := [(0, 9, 12, 13)]) (by decide) rfl (Nat.le_of_ble_eq_true rfl) ?_
  intro p e s m below meth c A ls S hr hlk hT hK hP hD hA hl hok
  obtain ⟨hx, hb, hml, hown, hts⟩ := S
  have hS : va_S A s.heap s.heap [] := va_S.rf
  have hl : lv_has ls 5 [(0, .ref (h 0)), (1, .int (nI (q))), (2, .int (nI (i))), (3, .ref (ob))] := hl
  obtain ⟨H, hH⟩ : ∃ H, H = s.heap := ⟨_, rfl⟩
  obtain ⟨locs, hlo⟩ : ∃ q : List Loc, q = [] := ⟨_, rfl⟩
  rw [← hlo] at hS ⊢
  have hP : va_P D kc_cl _ H := hH ▸ hP
  have hS : va_S A s.heap H locs := by rw [hH]; exact hS
  refine (show W _ _ _ _ _ _ _ _ _ _ H _ _ _ _ _ → W _ _ _ _ _ _ _ _ _ _ s.heap _ _ _ _ _ from by rw [hH]; exact id) ?_
  have hHs := congrArg Array.size hH
  refine lv_aload_n hx hb d_L_lane_0 rfl (lv_at hl 3 rfl) ?_
  refine lv_iconst (v := nI 0) hx hb d_L_lane_1 (by decide +kernel) ?_
  refine lv_aload_n hx hb d_L_lane_2 rfl (lv_at hl 0 rfl) ?_
  refine lv_iload_n hx hb d_L_lane_3 rfl (lv_at hl 1 rfl) ?_
  refine lv_iload_n hx hb d_L_lane_4 rfl (lv_at hl 2 rfl) ?_
  refine kc_goL (wr := [(ob, .inl (cJ, (1, .inr (.inl Ou))))]) (ws := kc_C h cJ cI (P) (L) (N) (Sd)) (va_runV (As := [.int (nI (q)), .int (nI (i))]) (rest := [.int (nI (0)), .ref (ob)]) ⟨hx, hb, hml, hown, hts⟩ (c_K_lane_v l D h cJ cI cX P L N Sd H.size q i hq hi) (cwV 2 hts (kc_inV kw_168 kw_169 kw_170 kw_1 kw_171) rfl rfl rfl (by decide +kernel) ⟨by decide, by decide⟩) (kc_preV (wr := [(ob, .inl (cJ, (1, .inr (.inl Ou))))]) (q0 := 0) (ci := 0) hK hP hD rfl rfl) rfl rfl hl.1 rfl (lv_room (Nat.le_of_ble_eq_true rfl)) d_L_lane_5 ⟨by decide, by decide⟩) hP hD hS hA (fun r u H locs hp hP hD hS => ?_)
  subst hp
  have hP : va_P D kc_cl (kc_CO ob (Ou) h cJ cI (P) (L) (N) (Sd)) H := hP
  have hD : va_D A (kc_CO ob (Ou) h cJ cI (P) (L) (N) (Sd)) := hD
  refine lv_topl (fun v1 e_v1 => ?_)
  refine ka_last (f := Ou) hx hb hK hP hD hS 0 0 rfl rfl (i := 0) (by omega) (by decide) d_L_lane_8 (fun H locs hP hD hS => ?_)
  have hP : va_P D kc_cl (kc_CO ob (vp_updL Ou (0) (v1)) h cJ cI (P) (L) (N) (Sd)) H := hP
  have hD : va_D A (kc_CO ob (vp_updL Ou (0) (v1)) h cJ cI (P) (L) (N) (Sd)) := hD
  refine lv_goto (tgt := 16) hx hb d_L_lane_9 (by decide) ?_
  refine lv_iconst (v := nI 0) hx hb d_L_lane_16 (by decide +kernel) ?_
  exact kc_iret hx hb hr hlk (vp_updL Ou 0 v1) ⟨rfl, by show vp_updL Ou 0 v1 0 = _; rw [pk_uLs, e_v1]⟩ hP hD hS d_L_lane_17
set_option maxHeartbeats 4000000 in
theorem c_L_digest_v (l : Launch) (D : va_G) (h : Nat → Nat) (cJ cI cX : ClassId) (P : Nat → Int32) (L N Sd : Nat → Int64) (ob : Nat) (Ou : Nat → Int64) (sz : Nat) (q i pp : Nat) (hq : q < 8) (hi : i < 4) (hpp : P q = nI pp) (hlt : pp < 136) : Met l y_L_digest w_L_digest r_Lv (va_Pc [.ref (h 0), .int (nI q), .int (nI i), .ref ob] (fun U => kc_pre D (kc_ty cJ cI cX) (kc_CO ob Ou h cJ cI P L N Sd) sz U ∧ (fun _ : State => True) U)) (va_Qi (fun r (u : (Nat → Int64) × (Nat → Int64) × (Nat → Int64) × (Nat → Int64)) => r = nI 0 ∧ kc_fr 8 u.1 L ∧ u.2.2.2 0 = kc_dig (kc_perm 24 (kc_pad (kc_row L q) pp) i) 8) (fun u t => kc_post D (va_A (kc_CO ob Ou h cJ cI P L N Sd) sz) (kc_CO ob u.2.2.2 h cJ cI (upd P 8 (P q)) u.1 u.2.1 u.2.2.1) t) (va_A (kc_CO ob Ou h cJ cI P L N Sd) sz)) 0 0 (va_A (kc_CO ob Ou h cJ cI P L N Sd) sz) := by
  refine kc_ofWH (QA := fun A => va_Qi (fun r (u : (Nat → Int64) × (Nat → Int64) × (Nat → Int64) × (Nat → Int64)) => r = nI 0 ∧ kc_fr 8 u.1 L ∧ u.2.2.2 0 = kc_dig (kc_perm 24 (kc_pad (kc_row L q) pp) i) 8) (fun u t => kc_post D A (kc_CO ob u.2.2.2 h cJ cI (upd P 8 (P q)) u.1 u.2.1 u.2.2.1) t) A) (cc := b_L_digest) (maxL := 5) (ret := some .int) (hh := [(0, 9, 12, 13)]) (by decide) rfl (Nat.le_of_ble_eq_true rfl) ?_
  intro p e s m below meth c A ls S hr hlk hT hK hP hD hA hl hok
  obtain ⟨hx, hb, hml, hown, hts⟩ := S
  have hS : va_S A s.heap s.heap [] := va_S.rf
  have hl : lv_has ls 5 [(0, .ref (h 0)), (1, .int (nI (q))), (2, .int (nI (i))), (3, .ref (ob))] := hl
  obtain ⟨H, hH⟩ : ∃ H, H = s.heap := ⟨_, rfl⟩
  obtain ⟨locs, hlo⟩ : ∃ q : List Loc, q = [] := ⟨_, rfl⟩
  rw [← hlo] at hS ⊢
  have hP : va_P D kc_cl _ H := hH ▸ hP
  have hS : va_S A s.heap H locs := by rw [hH]; exact hS
  refine (show W _ _ _ _ _ _ _ _ _ _ H _ _ _ _ _ → W _ _ _ _ _ _ _ _ _ _ s.heap _ _ _ _ _ from by rw [hH]; exact id) ?_
  have hHs := congrArg Array.size hH
  refine lv_aload_n hx hb d_L_digest_0 rfl (lv_at hl 3 rfl) ?_
  refine lv_iconst (v := nI 0) hx hb d_L_digest_1 (by decide +kernel) ?_
  refine lv_aload_n hx hb d_L_digest_2 rfl (lv_at hl 0 rfl) ?_
  refine lv_iload_n hx hb d_L_digest_3 rfl (lv_at hl 1 rfl) ?_
  refine lv_iload_n hx hb d_L_digest_4 rfl (lv_at hl 2 rfl) ?_
  refine kc_goL (wr := [(ob, .inl (cJ, (1, .inr (.inl Ou))))]) (ws := kc_C h cJ cI (P) (L) (N) (Sd)) (va_runV (As := [.int (nI (q)), .int (nI (i))]) (rest := [.int (nI (0)), .ref (ob)]) ⟨hx, hb, hml, hown, hts⟩ (c_K_digest_v l D h cJ cI cX P L N Sd H.size q i pp hq hi hpp hlt) (cwV 2 hts (kc_inV kw_175 kw_176 kw_177 kw_1 kw_178) rfl rfl rfl (by decide +kernel) ⟨by decide, by decide⟩) (kc_preV (wr := [(ob, .inl (cJ, (1, .inr (.inl Ou))))]) (q0 := 0) (ci := 0) hK hP hD rfl rfl) rfl rfl hl.1 rfl (lv_room (Nat.le_of_ble_eq_true rfl)) d_L_digest_5 ⟨by decide, by decide⟩) hP hD hS hA (fun r u H locs hp hP hD hS => ?_)
  obtain ⟨L1, N1, S1⟩ := u
  have hP : va_P D kc_cl (kc_CO ob (Ou) h cJ cI (upd P 8 (P q)) (L1) (N1) (S1)) H := hP
  have hD : va_D A (kc_CO ob (Ou) h cJ cI (upd P 8 (P q)) (L1) (N1) (S1)) := hD
  obtain ⟨hp1, hp2⟩ := hp
  subst hp1
  refine lv_topl (fun v1 e_v1 => ?_)
  refine ka_last (f := Ou) hx hb hK hP hD hS 0 0 rfl rfl (i := 0) (by omega) (by decide) d_L_digest_8 (fun H locs hP hD hS => ?_)
  have hP : va_P D kc_cl (kc_CO ob (vp_updL Ou (0) (v1)) h cJ cI (upd P 8 (P q)) (L1) (N1) (S1)) H := hP
  have hD : va_D A (kc_CO ob (vp_updL Ou (0) (v1)) h cJ cI (upd P 8 (P q)) (L1) (N1) (S1)) := hD
  refine lv_goto (tgt := 16) hx hb d_L_digest_9 (by decide) ?_
  refine lv_iconst (v := nI 0) hx hb d_L_digest_16 (by decide +kernel) ?_
  exact kc_iret hx hb hr hlk (L1, N1, S1, vp_updL Ou 0 v1) ⟨rfl, hp2, by show vp_updL Ou 0 v1 0 = _; rw [pk_uLs, e_v1]⟩ hP hD hS d_L_digest_17
set_option maxHeartbeats 4000000 in
theorem c_L_lane_x (l : Launch) (D : va_G) (h : Nat → Nat) (cJ cI cX : ClassId) (P : Nat → Int32) (L N Sd : Nat → Int64) (ob : Nat) (Ou : Nat → Int64) (sz : Nat) (hfl : l.flags = flags0) (aS bS : Nat) (x y : Int32) (hbad : (x < 0 ∨ nI 8 ≤ x) ∨ (∃ j, j < 8 ∧ x = nI j) ∧ (y < 0 ∨ nI 25 ≤ y)) : Met l y_L_lane w_L_lane r_Lx (va_Pc [.ref (h 0), .int x, .int y, .ref ob] (fun U => kc_pre D (kc_ty cJ cI cX) (kc_CO ob Ou h cJ cI P L N Sd) sz U ∧ kt_ok aS bS U)) (va_Qi (fun r (u : Unit) => r = nI 1) (fun u t => kc_post D (va_A (kc_CO ob Ou h cJ cI P L N Sd) sz) (kc_CO ob Ou h cJ cI P L N Sd) t) (va_A (kc_CO ob Ou h cJ cI P L N Sd) sz)) 1 6 (va_A (kc_CO ob Ou h cJ cI P L N Sd) sz) := by
  refine kc_ofWH (QA := fun A => va_Qi (fun r (u : Unit) => r = nI 1) (fun u t => kc_post D A (kc_CO ob Ou h cJ cI P L N Sd) t) A) (cc := b_L_lane) (maxL := 5) (ret := some .int) (hh := [(0, 9, 12, 13)]) (by decide) rfl (Nat.le_of_ble_eq_true rfl) ?_
  intro p e s m below meth c A ls S hr hlk hT hK hP hD hA hl hok
  obtain ⟨hx, hb, hml, hown, hts⟩ := S
  have hS : va_S A s.heap s.heap [] := va_S.rf
  have hl : lv_has ls 5 [(0, .ref (h 0)), (1, .int (x)), (2, .int (y)), (3, .ref (ob))] := hl
  obtain ⟨H, hH⟩ : ∃ H, H = s.heap := ⟨_, rfl⟩
  obtain ⟨locs, hlo⟩ : ∃ q : List Loc, q = [] := ⟨_, rfl⟩
  rw [← hlo] at hS ⊢
  have hP : va_P D kc_cl _ H := hH ▸ hP
  have hS : va_S A s.heap H locs := by rw [hH]; exact hS
  refine (show W _ _ _ _ _ _ _ _ _ _ H _ _ _ _ _ → W _ _ _ _ _ _ _ _ _ _ s.heap _ _ _ _ _ from by rw [hH]; exact id) ?_
  have hHs := congrArg Array.size hH
  refine lv_aload_n hx hb d_L_lane_0 rfl (lv_at hl 3 rfl) ?_
  refine lv_iconst (v := nI 0) hx hb d_L_lane_1 (by decide +kernel) ?_
  refine lv_aload_n hx hb d_L_lane_2 rfl (lv_at hl 0 rfl) ?_
  refine lv_iload_n hx hb d_L_lane_3 rfl (lv_at hl 1 rfl) ?_
  refine lv_iload_n hx hb d_L_lane_4 rfl (lv_at hl 2 rfl) ?_
  refine kt_runV (As := [.int (x), .int (y)]) (rest := [.int (nI (0)), .ref (ob)]) ⟨hx, hb, hml, hown, hts⟩ (x_K_lane l hfl aS bS (h 0) x y hbad) (cwV 2 hts (kc_inV kw_168 kw_169 kw_170 kw_1 kw_171) rfl rfl rfl (by decide +kernel) ⟨by decide, by decide⟩) ⟨kt_ok_blind, va_recv hK hP (q0 := 1) (ci := 0) rfl rfl, fun U hU hW => ⟨rfl, kt_ok_moved hW.alike (by rw [hU, hH]) (by rw [hU, hH]) hok⟩⟩ rfl hl.1 rfl (lv_room (Nat.le_of_ble_eq_true rfl)) d_L_lane_5 ⟨by decide, by decide⟩ (fun a H1 z1 z2 z3 z4 => ?_)
  refine kt_catch hT ⟨by decide, by decide⟩ (by decide) hown (hts _ kw_51) (kt_cast hok) z4 ?_
  have hP := hP.kept (fun k q hk => z2 q.1 ((hP k q hk).lt))
  have hS := kc_S_kept hS z1 z2
  refine lv_astore hx hb d_L_lane_12 hl (by decide) rfl (fun ls hl => ?_)
  have hl : lv_has ls 5 [(4, .ref (a)), (0, .ref (h 0)), (1, .int (x)), (2, .int (y)), (3, .ref (ob))] := hl
  refine lv_iconst (v := nI 1) hx hb d_L_lane_14 (by decide +kernel) ?_
  exact kc_iret hx hb hr hlk () rfl hP hD hS d_L_lane_15
set_option maxHeartbeats 4000000 in
theorem c_L_digest_x (l : Launch) (D : va_G) (h : Nat → Nat) (cJ cI cX : ClassId) (P : Nat → Int32) (L N Sd : Nat → Int64) (ob : Nat) (Ou : Nat → Int64) (sz : Nat) (hfl : l.flags = flags0) (aS bS : Nat) (x y : Int32) (hbad : (x < 0 ∨ nI 8 ≤ x) ∨ (∃ j, j < 8 ∧ x = nI j) ∧ (y < 0 ∨ nI 4 ≤ y)) : Met l y_L_digest w_L_digest r_Lx (va_Pc [.ref (h 0), .int x, .int y, .ref ob] (fun U => kc_pre D (kc_ty cJ cI cX) (kc_CO ob Ou h cJ cI P L N Sd) sz U ∧ kt_ok aS bS U)) (va_Qi (fun r (u : Unit) => r = nI 1) (fun u t => kc_post D (va_A (kc_CO ob Ou h cJ cI P L N Sd) sz) (kc_CO ob Ou h cJ cI P L N Sd) t) (va_A (kc_CO ob Ou h cJ cI P L N Sd) sz)) 1 6 (va_A (kc_CO ob Ou h cJ cI P L N Sd) sz) := by
  refine kc_ofWH (QA := fun A => va_Qi (fun r (u : Unit) => r = nI 1) (fun u t => kc_post D A (kc_CO ob Ou h cJ cI P L N Sd) t) A) (cc := b_L_digest) (maxL := 5) (ret := some .int) (hh := [(0, 9, 12, 13)]) (by decide) rfl (Nat.le_of_ble_eq_true rfl) ?_
  intro p e s m below meth c A ls S hr hlk hT hK hP hD hA hl hok
  obtain ⟨hx, hb, hml, hown, hts⟩ := S
  have hS : va_S A s.heap s.heap [] := va_S.rf
  have hl : lv_has ls 5 [(0, .ref (h 0)), (1, .int (x)), (2, .int (y)), (3, .ref (ob))] := hl
  obtain ⟨H, hH⟩ : ∃ H, H = s.heap := ⟨_, rfl⟩
  obtain ⟨locs, hlo⟩ : ∃ q : List Loc, q = [] := ⟨_, rfl⟩
  rw [← hlo] at hS ⊢
  have hP : va_P D kc_cl _ H := hH ▸ hP
  have hS : va_S A s.heap H locs := by rw [hH]; exact hS
  refine (show W _ _ _ _ _ _ _ _ _ _ H _ _ _ _ _ → W _ _ _ _ _ _ _ _ _ _ s.heap _ _ _ _ _ from by rw [hH]; exact id) ?_
  have hHs := congrArg Array.size hH
  refine lv_aload_n hx hb d_L_digest_0 rfl (lv_at hl 3 rfl) ?_
  refine lv_iconst (v := nI 0) hx hb d_L_digest_1 (by decide +kernel) ?_
  refine lv_aload_n hx hb d_L_digest_2 rfl (lv_at hl 0 rfl) ?_
  refine lv_iload_n hx hb d_L_digest_3 rfl (lv_at hl 1 rfl) ?_
  refine lv_iload_n hx hb d_L_digest_4 rfl (lv_at hl 2 rfl) ?_
  refine kt_runV (As := [.int (x), .int (y)]) (rest := [.int (nI (0)), .ref (ob)]) ⟨hx, hb, hml, hown, hts⟩ (x_K_digest l hfl aS bS (h 0) x y hbad) (cwV 2 hts (kc_inV kw_175 kw_176 kw_177 kw_1 kw_178) rfl rfl rfl (by decide +kernel) ⟨by decide, by decide⟩) ⟨kt_ok_blind, va_recv hK hP (q0 := 1) (ci := 0) rfl rfl, fun U hU hW => ⟨rfl, kt_ok_moved hW.alike (by rw [hU, hH]) (by rw [hU, hH]) hok⟩⟩ rfl hl.1 rfl (lv_room (Nat.le_of_ble_eq_true rfl)) d_L_digest_5 ⟨by decide, by decide⟩ (fun a H1 z1 z2 z3 z4 => ?_)
  refine kt_catch hT ⟨by decide, by decide⟩ (by decide) hown (hts _ kw_51) (kt_cast hok) z4 ?_
  have hP := hP.kept (fun k q hk => z2 q.1 ((hP k q hk).lt))
  have hS := kc_S_kept hS z1 z2
  refine lv_astore hx hb d_L_digest_12 hl (by decide) rfl (fun ls hl => ?_)
  have hl : lv_has ls 5 [(4, .ref (a)), (0, .ref (h 0)), (1, .int (x)), (2, .int (y)), (3, .ref (ob))] := hl
  refine lv_iconst (v := nI 1) hx hb d_L_digest_14 (by decide +kernel) ?_
  exact kc_iret hx hb hr hlk () rfl hP hD hS d_L_digest_15
end
section
/-! the law: what ties component and model; its seven cases (rows printed by gen22.py) -/
def kc_tie (P : Nat → Int32) (L : Nat → Int64) (Pm : Nat → Int32) (M : Nat → Nat → Int64) : Prop := ∃ pp : Nat → Nat, ∀ q, q < 8 → pp q < 136 ∧ P q = nI (pp q) ∧ Pm q = nI (pp q) ∧ kc_eq (kc_row L q) (M q)
theorem kc_row_fr {j q : Nat} {L L' : Nat → Int64} (h : kc_fr j L' L) (hq : q ≠ j) : kc_eq (kc_row L' q) (kc_row L q) := fun c hc => h (25 * q + c) (by omega)
theorem kc_tie_set {P P' Pm Pm' : Nat → Int32} {L L' : Nat → Int64} {M : Nat → Nat → Int64} {u a : Nat → Int64} {j p' : Nat} (h : kc_tie P L Pm M) (hp : p' < 136) (h1 : P' j = nI p') (h2 : ∀ i, i < 8 → i ≠ j → P' i = P i) (h3 : Pm' j = nI p') (h4 : ∀ i, i < 8 → i ≠ j → Pm' i = Pm i) (h5 : kc_fr j L' L) (h6 : kc_eq (kc_row L' j) a) (h7 : kc_eq u a) : kc_tie P' L' Pm' (va_up M j u) := by
  obtain ⟨pp, hpp⟩ := h
  refine ⟨va_up pp j p', fun q hq => ?_⟩
  by_cases hqj : q = j
  · subst hqj
    rw [va_up_self, va_up_self]
    exact ⟨hp, h1, h3, h6.trans h7.symm⟩
  · rw [va_up_ne _ _ hqj, va_up_ne _ _ hqj]
    obtain ⟨e1, e2, e3, e4⟩ := hpp q hq
    exact ⟨e1, (h2 q hq hqj).trans e2, (h4 q hq hqj).trans e3, (kc_row_fr h5 hqj).trans e4⟩
theorem kc_tie_eight {P P' Pm : Nat → Int32} {L L' : Nat → Int64} {M : Nat → Nat → Int64} (h : kc_tie P L Pm M) (h2 : ∀ i, i < 8 → P' i = P i) (h5 : kc_fr 8 L' L) : kc_tie P' L' Pm M := by
  obtain ⟨pp, hpp⟩ := h
  refine ⟨pp, fun q hq => ?_⟩
  obtain ⟨e1, e2, e3, e4⟩ := hpp q hq
  exact ⟨e1, (h2 q hq).trans e2, e3, (kc_row_fr h5 (by omega)).trans e4⟩
theorem kc_swapP {D : va_G} {cl : List vw_C} {a b : va_W} {H : Heap} (h : va_P D cl (a ++ b) H) : va_P D cl (b ++ a) H := (kc_P_r h).app (kc_P_l h)
theorem kc_swapD {A : Nat → Prop} {a b : va_W} (h : va_D A (a ++ b)) : va_D A (b ++ a) := va_D.app (kc_D_r h) (kc_D_l h) (fun _ _ _ _ hi hj e => kc_D_x h hj hi e.symm)
theorem kl_okU {aS bS : Nat} {s : State} {A : Nat → Prop} {H : Heap} {locs : List Loc} (hok : kt_ok aS bS s) (haS : aS < s.heap.size ∧ ¬ A aS) (hbS : bS < s.heap.size ∧ ¬ A bS) (hS : va_S A s.heap H locs) : ∀ U : State, U.heap = H → s.WarmedH U.vm → kt_ok aS bS U := fun U hU hW => kt_ok_moved hW.alike (by rw [hU]; exact hS.2.1 aS haS.1 haS.2) (by rw [hU]; exact hS.2.1 bS hbS.1 hbS.2) hok
theorem kl_okB {aS bS : Nat} : ∀ (U : State) (g : JFrame) (mk : MethodId) (a : Array Value), kt_ok aS bS U → kt_ok aS bS (U.calling g mk a) := fun U g mk a h => kt_ok_moved (u := U) (U := U.calling g mk a) (Vm.Alike.refl U.vm) rfl rfl h
section KSL
variable {p : Program} {l : Launch} {e : Env} {R : Room} {s : State} {m : MethodId} {args : Array Value} {below : List Frame} {meth : Method} {c : Code} {H H0 : Heap} {locs : List Loc} {cells slots : Nat} {Q : State → Prop} {cc : ByteArray} {pc : Nat} {ls : Array Slot} {rest : List Value} {A : Nat → Prop}
theorem ka_sld (hx : p.tables.exec = Jvm.exec) (hb : c.code = cc) {b L : Nat} {xs : Nat → Int32} (hX : va_X b L xs s H0) (hbl : b < H0.size) (hbA : ¬ A b) (hS : va_S A H0 H locs) {i : Nat} {v : Int32} (hi : i < L) (hL : L < 2 ^ 31) (hv : v = xs i) (hdg : decode cc pc = .ok (.iaload, 1)) (k : W p l e R s m args below meth c H locs cells slots Q (F0 m (pc + 1) ls (.int v :: rest))) : W p l e R s m args below meth c H locs cells slots Q (F0 m pc ls (.int (nI i) :: .ref b :: rest)) :=
  va_sld hx hb hX hbl hbA hS (vp_in_nI hi hL) hdg (by rw [nI_clamp (Nat.lt_trans hi hL), ← hv]; exact k)
theorem ka_lcmp (hx : p.tables.exec = Jvm.exec) (hb : c.code = cc) {x y : Int64} (hxy : x = y) (hdg : decode cc pc = .ok (.lcmp, 1)) (k : W p l e R s m args below meth c H locs cells slots Q (F0 m (pc + 1) ls (.int (nI 0) :: rest))) : W p l e R s m args below meth c H locs cells slots Q (F0 m pc ls (.long y :: .long x :: rest)) :=
  W.lcmp hx hb hdg (kv_i ((lg_cmp_eq x y).mpr hxy) k)
end KSL
section LAW
variable {p : Program} {l : Launch} {e : Env} {s : State} {m : MethodId} {below : List Frame} {meth : Method} {c : Code} {Q : State → Prop} {D : va_G} {A : Nat → Prop} {h g : Nat → Nat} {cJ cI cX : ClassId} {b L0 ob aS bS k : Nat} {xs : Nat → Int32} {P Pm : Nat → Int32} {L N Sd Ou La Co Mv : Nat → Int64} {M : Nat → Nat → Int64} {fl : Int32} {H : Heap} {locs : List Loc} {ls : Array Slot}
set_option maxHeartbeats 8000000 in
theorem law_clear (hfl : l.flags = flags0) (S : CallFix p m c code 8 s #[Value.ref b] kc_tbl R_L) (hK : va_K D kc_cl (kc_ty cJ cI cX) s) (hX : va_X b L0 xs s s.heap) (hbl : b < s.heap.size) (hbA : ¬ A b) (hA : ∀ q, s.heap.size ≤ q → A q) (hok : kt_ok aS bS s) (haS : aS < s.heap.size ∧ ¬ A aS) (hbS : bS < s.heap.size ∧ ¬ A bS) (hk : k ≤ 512) (hk5 : 5 * k + 5 ≤ L0) (hL0 : L0 ≤ 2560) (hl : lv_has ls 8 [(4, .int (nI (5 * k))), (0, .ref (b)), (1, .ref (h 0)), (2, .ref (g 0)), (3, .ref (ob))]) (hw : kc_at D A s.heap H locs (kc_CO ob Ou h cJ cI P L N Sd ++ kc_Mw g cJ cI cX fl Pm La Co Mv M)) (ht : kc_tie P L Pm M) (K : ∀ (H : Heap) (locs : List Loc) (ls : Array Slot) (P : Nat → Int32) (L N Sd Ou : Nat → Int64) (fl : Int32) (Pm : Nat → Int32) (La Co Mv : Nat → Int64) (M : Nat → Nat → Int64), lv_has ls 8 [(4, .int (nI (5 * k))), (0, .ref (b)), (1, .ref (h 0)), (2, .ref (g 0)), (3, .ref (ob))] → kc_at D A s.heap H locs (kc_CO ob Ou h cJ cI P L N Sd ++ kc_Mw g cJ cI cX fl Pm La Co Mv M) → kc_tie P L Pm M → W p l e room_1 s m #[Value.ref b] below meth c H locs (24 + k + 1) (623 + 6 * k + 6) Q (F0 m 538 ls [])) : W p l e room_1 s m #[Value.ref b] below meth c H locs (24 + k) (623 + 6 * k) Q (F0 m 80 ls []) := by
  obtain ⟨hx, hb, hml, hown, hts⟩ := S
  obtain ⟨hP, hD, hS⟩ := hw
  obtain ⟨x1, hx1⟩ : ∃ z, z = xs (5 * k + 1) := ⟨_, rfl⟩
  rcases (show (x1 < 0 ∨ nI 8 ≤ x1) ∨ ∃ j : Nat, j < 8 ∧ x1 = nI j from by rcases pk_ix x1 (n := 8) (by decide) with h9 | h9 | h9; exact Or.inl (Or.inl h9); exact Or.inl (Or.inr h9); exact Or.inr h9) with hbad | ⟨j, hj, rfl⟩
  · refine lv_aload_n hx hb d_law_80 rfl (lv_at hl 2 rfl) ?_
    refine lv_aload_n hx hb d_law_81 rfl (lv_at hl 1 rfl) ?_
    refine lv_iload hx hb d_law_82 (lv_at hl 0 rfl) ?_
    refine lv_iconst (v := nI 1) hx hb d_law_84 (by decide +kernel) ?_
    refine kn_add hx hb d_law_85 ?_
    refine ka_sld (v := (x1)) hx hb hX hbl hbA hS (i := 5 * k + 1) (by omega) (by omega) hx1 d_law_86 ?_
    have hP := kc_swapP hP
    have hD := kc_swapD hD
    refine kc_goI (wr := kc_Mw g cJ cI cX (fl) (Pm) (La) (Co) (Mv) (M)) (ws := kc_CO ob (Ou) h cJ cI (P) (L) (N) (Sd)) (kt_runSW (n := 2) (As := [.ref (h 0), .int (x1)]) (rest := []) ⟨hx, hb, hml, hown, hts⟩ (c_L_clear_x l D h cJ cI cX P L N Sd ob Ou H.size hfl aS bS x1 hbad) rfl rfl ⟨by decide, by decide⟩ kw_48 kw_49 kw_0 kw_50 (by decide +kernel) (kc_preSE (wr := kc_Mw g cJ cI cX (fl) (Pm) (La) (Co) (Mv) (M)) (ws := kc_CO ob (Ou) h cJ cI (P) (L) (N) (Sd)) hK hP hD kl_okB (kl_okU hok haS hbS hS)) rfl rfl hl.1 rfl (lv_room (Nat.le_of_ble_eq_true rfl)) d_law_87 ⟨by show _ ≤ 601024; omega, by show _ ≤ 7293034; omega⟩) hP hD hS hA (fun r u H locs hp hP hD hS => ?_)
    have hP := kc_swapP hP
    have hD := kc_swapD hD
    subst hp
    have hP : va_P D kc_cl (kc_CO ob (Ou) h cJ cI (P) (L) (N) (Sd) ++ kc_Mw g cJ cI cX (fl) (Pm) (La) (Co) (Mv) (M)) H := hP
    have hD : va_D A (kc_CO ob (Ou) h cJ cI (P) (L) (N) (Sd) ++ kc_Mw g cJ cI cX (fl) (Pm) (La) (Co) (Mv) (M)) := hD
    refine lv_istore hx hb d_law_90 hl (by decide) rfl (fun ls hl => ?_)
    have hl : lv_has ls 8 [(5, .int (nI (1))), (4, .int (nI (5 * k))), (0, .ref (b)), (1, .ref (h 0)), (2, .ref (g 0)), (3, .ref (ob))] := hl
    refine lv_aload_n hx hb d_law_92 rfl (lv_at hl 4 rfl) ?_
    refine lv_aload_n hx hb d_law_93 rfl (lv_at hl 2 rfl) ?_
    refine lv_iload hx hb d_law_94 (lv_at hl 1 rfl) ?_
    refine lv_iconst (v := nI 1) hx hb d_law_96 (by decide +kernel) ?_
    refine kn_add hx hb d_law_97 ?_
    refine ka_sld (v := (x1)) hx hb hX hbl hbA hS (i := 5 * k + 1) (by omega) (by omega) hx1 d_law_98 ?_
    refine kc_goV (wr := kc_CO ob (Ou) h cJ cI (P) (L) (N) (Sd)) (ws := kc_Mw g cJ cI cX (fl) (Pm) (La) (Co) (Mv) (M)) (va_runV (As := [.int (x1)]) (rest := []) ⟨hx, hb, hml, hown, hts⟩ (c_M_clear_x l D g cJ cI cX (fl) Pm La Co Mv M H.size x1 hbad) (cwV 1 hts (kc_inV kw_217 kw_218 kw_219 kw_3 kw_220) rfl rfl rfl (by decide +kernel) ⟨by decide, by decide⟩) (kc_preV (wr := kc_CO ob (Ou) h cJ cI (P) (L) (N) (Sd)) (q0 := 0) (ci := 2) hK hP hD rfl rfl) rfl rfl hl.1 rfl (lv_room (Nat.le_of_ble_eq_true rfl)) d_law_99 ⟨by show _ ≤ 601024; omega, by show _ ≤ 7293034; omega⟩) hP hD hS hA (fun u H locs hp hP hD hS => ?_)
    have hP : va_P D kc_cl (kc_CO ob (Ou) h cJ cI (P) (L) (N) (Sd) ++ kc_Mw g cJ cI cX (nI (1)) (Pm) (La) (Co) (Mv) (M)) H := hP
    have hD : va_D A (kc_CO ob (Ou) h cJ cI (P) (L) (N) (Sd) ++ kc_Mw g cJ cI cX (nI (1)) (Pm) (La) (Co) (Mv) (M)) := hD
    refine lv_aload_n hx hb d_law_102 rfl (lv_at hl 4 rfl) ?_
    refine kc_goI (wr := kc_CO ob (Ou) h cJ cI (P) (L) (N) (Sd)) (ws := kc_Mw g cJ cI cX (nI (1)) (Pm) (La) (Co) (Mv) (M)) (va_runV (As := []) (rest := []) ⟨hx, hb, hml, hown, hts⟩ (c_M_thrown l D g cJ cI cX (nI (1)) Pm La Co Mv M H.size ) (cwV 0 hts (kc_inV kw_213 kw_214 kw_215 kw_3 kw_216) rfl rfl rfl (by decide +kernel) ⟨by decide, by decide⟩) (kc_preV (wr := kc_CO ob (Ou) h cJ cI (P) (L) (N) (Sd)) (q0 := 0) (ci := 2) hK hP hD rfl rfl) rfl rfl hl.1 rfl (lv_room (Nat.le_of_ble_eq_true rfl)) d_law_103 ⟨by show _ ≤ 601024; omega, by show _ ≤ 7293034; omega⟩) hP hD hS hA (fun r u H locs hp hP hD hS => ?_)
    subst hp
    have hP : va_P D kc_cl (kc_CO ob (Ou) h cJ cI (P) (L) (N) (Sd) ++ kc_Mw g cJ cI cX (nI (1)) (Pm) (La) (Co) (Mv) (M)) H := hP
    have hD : va_D A (kc_CO ob (Ou) h cJ cI (P) (L) (N) (Sd) ++ kc_Mw g cJ cI cX (nI (1)) (Pm) (La) (Co) (Mv) (M)) := hD
    refine lv_iload hx hb d_law_106 (lv_at hl 0 rfl) ?_
    refine lv_icmp_eq (tgt := 113) hx hb d_law_108 (by decide) (fun _ => ?_) (fun hc => absurd hc (not_not_intro rfl))
    refine lv_goto (tgt := 538) hx hb d_law_113 (by decide) ?_
    have hl : lv_has ls 8 [(4, .int (nI (5 * k))), (0, .ref (b)), (1, .ref (h 0)), (2, .ref (g 0)), (3, .ref (ob))] := lv_sub hl [1, 2, 3, 4, 5] rfl
    refine W.widen (k := 24 + k + 1) (n := 623 + 6 * k + 6) (by omega) (by omega) ?_
    exact K H locs ls _ _ _ _ _ _ _ _ _ _ _ hl ⟨hP, hD, hS⟩ (ht)
  · refine lv_aload_n hx hb d_law_80 rfl (lv_at hl 2 rfl) ?_
    refine lv_aload_n hx hb d_law_81 rfl (lv_at hl 1 rfl) ?_
    refine lv_iload hx hb d_law_82 (lv_at hl 0 rfl) ?_
    refine lv_iconst (v := nI 1) hx hb d_law_84 (by decide +kernel) ?_
    refine kn_add hx hb d_law_85 ?_
    refine ka_sld (v := (nI (j))) hx hb hX hbl hbA hS (i := 5 * k + 1) (by omega) (by omega) hx1 d_law_86 ?_
    have hP := kc_swapP hP
    have hD := kc_swapD hD
    refine kc_goI (wr := kc_Mw g cJ cI cX (fl) (Pm) (La) (Co) (Mv) (M)) (ws := kc_CO ob (Ou) h cJ cI (P) (L) (N) (Sd)) (kt_runSW (n := 2) (As := [.ref (h 0), .int (nI (j))]) (rest := []) ⟨hx, hb, hml, hown, hts⟩ (c_L_clear_v l D h cJ cI cX P L N Sd ob Ou H.size j hj) rfl rfl ⟨by decide, by decide⟩ kw_48 kw_49 kw_0 kw_50 (by decide +kernel) (kc_preSE (wr := kc_Mw g cJ cI cX (fl) (Pm) (La) (Co) (Mv) (M)) (ws := kc_CO ob (Ou) h cJ cI (P) (L) (N) (Sd)) (Ex := fun _ : State => True) hK hP hD (fun _ _ _ _ h9 => h9) (fun _ _ _ => trivial)) rfl rfl hl.1 rfl (lv_room (Nat.le_of_ble_eq_true rfl)) d_law_87 ⟨by show _ ≤ 601024; omega, by show _ ≤ 7293034; omega⟩) hP hD hS hA (fun r u H locs hp hP hD hS => ?_)
    have hP := kc_swapP hP
    have hD := kc_swapD hD
    obtain ⟨L1, e_L1⟩ : ∃ z, z = u := ⟨_, rfl⟩
    rw [← e_L1] at hp hP hD
    obtain ⟨hr0, hz, hfr⟩ := hp
    subst hr0
    have hP : va_P D kc_cl (kc_CO ob (Ou) h cJ cI (upd P j (nI 0)) (L1) (N) (Sd) ++ kc_Mw g cJ cI cX (fl) (Pm) (La) (Co) (Mv) (M)) H := hP
    have hD : va_D A (kc_CO ob (Ou) h cJ cI (upd P j (nI 0)) (L1) (N) (Sd) ++ kc_Mw g cJ cI cX (fl) (Pm) (La) (Co) (Mv) (M)) := hD
    refine lv_istore hx hb d_law_90 hl (by decide) rfl (fun ls hl => ?_)
    have hl : lv_has ls 8 [(5, .int (nI (0))), (4, .int (nI (5 * k))), (0, .ref (b)), (1, .ref (h 0)), (2, .ref (g 0)), (3, .ref (ob))] := hl
    refine lv_aload_n hx hb d_law_92 rfl (lv_at hl 4 rfl) ?_
    refine lv_aload_n hx hb d_law_93 rfl (lv_at hl 2 rfl) ?_
    refine lv_iload hx hb d_law_94 (lv_at hl 1 rfl) ?_
    refine lv_iconst (v := nI 1) hx hb d_law_96 (by decide +kernel) ?_
    refine kn_add hx hb d_law_97 ?_
    refine ka_sld (v := (nI (j))) hx hb hX hbl hbA hS (i := 5 * k + 1) (by omega) (by omega) hx1 d_law_98 ?_
    refine kc_goV (wr := kc_CO ob (Ou) h cJ cI (upd P j (nI 0)) (L1) (N) (Sd)) (ws := kc_Mw g cJ cI cX (fl) (Pm) (La) (Co) (Mv) (M)) (va_runV (As := [.int (nI (j))]) (rest := []) ⟨hx, hb, hml, hown, hts⟩ (c_M_clear_v l D g cJ cI cX (fl) Pm La Co Mv M H.size j hj) (cwV 1 hts (kc_inV kw_217 kw_218 kw_219 kw_3 kw_220) rfl rfl rfl (by decide +kernel) ⟨by decide, by decide⟩) (kc_preV (wr := kc_CO ob (Ou) h cJ cI (upd P j (nI 0)) (L1) (N) (Sd)) (q0 := 0) (ci := 2) hK hP hD rfl rfl) rfl rfl hl.1 rfl (lv_room (Nat.le_of_ble_eq_true rfl)) d_law_99 ⟨by show _ ≤ 601024; omega, by show _ ≤ 7293034; omega⟩) hP hD hS hA (fun u H locs hp hP hD hS => ?_)
    obtain ⟨u1, e_u1⟩ : ∃ z, z = u := ⟨_, rfl⟩
    rw [← e_u1] at hp hP hD
    have hP : va_P D kc_cl (kc_CO ob (Ou) h cJ cI (upd P j (nI 0)) (L1) (N) (Sd) ++ kc_Mw g cJ cI cX (nI (0)) (upd Pm j (nI 0)) (La) (Co) (Mv) (va_up M j u1)) H := hP
    have hD : va_D A (kc_CO ob (Ou) h cJ cI (upd P j (nI 0)) (L1) (N) (Sd) ++ kc_Mw g cJ cI cX (nI (0)) (upd Pm j (nI 0)) (La) (Co) (Mv) (va_up M j u1)) := hD
    have hu1 : ∀ c, c < 25 → u1 c = 0 := hp
    refine lv_aload_n hx hb d_law_102 rfl (lv_at hl 4 rfl) ?_
    refine kc_goI (wr := kc_CO ob (Ou) h cJ cI (upd P j (nI 0)) (L1) (N) (Sd)) (ws := kc_Mw g cJ cI cX (nI (0)) (upd Pm j (nI 0)) (La) (Co) (Mv) (va_up M j u1)) (va_runV (As := []) (rest := []) ⟨hx, hb, hml, hown, hts⟩ (c_M_thrown l D g cJ cI cX (nI (0)) (upd Pm j (nI 0)) La Co Mv (va_up M j u1) H.size ) (cwV 0 hts (kc_inV kw_213 kw_214 kw_215 kw_3 kw_216) rfl rfl rfl (by decide +kernel) ⟨by decide, by decide⟩) (kc_preV (wr := kc_CO ob (Ou) h cJ cI (upd P j (nI 0)) (L1) (N) (Sd)) (q0 := 0) (ci := 2) hK hP hD rfl rfl) rfl rfl hl.1 rfl (lv_room (Nat.le_of_ble_eq_true rfl)) d_law_103 ⟨by show _ ≤ 601024; omega, by show _ ≤ 7293034; omega⟩) hP hD hS hA (fun r u H locs hp hP hD hS => ?_)
    subst hp
    have hP : va_P D kc_cl (kc_CO ob (Ou) h cJ cI (upd P j (nI 0)) (L1) (N) (Sd) ++ kc_Mw g cJ cI cX (nI (0)) (upd Pm j (nI 0)) (La) (Co) (Mv) (va_up M j u1)) H := hP
    have hD : va_D A (kc_CO ob (Ou) h cJ cI (upd P j (nI 0)) (L1) (N) (Sd) ++ kc_Mw g cJ cI cX (nI (0)) (upd Pm j (nI 0)) (La) (Co) (Mv) (va_up M j u1)) := hD
    refine lv_iload hx hb d_law_106 (lv_at hl 0 rfl) ?_
    refine lv_icmp_eq (tgt := 113) hx hb d_law_108 (by decide) (fun _ => ?_) (fun hc => absurd hc (not_not_intro rfl))
    refine lv_goto (tgt := 538) hx hb d_law_113 (by decide) ?_
    have hl : lv_has ls 8 [(4, .int (nI (5 * k))), (0, .ref (b)), (1, .ref (h 0)), (2, .ref (g 0)), (3, .ref (ob))] := lv_sub hl [1, 2, 3, 4, 5] rfl
    refine W.widen (k := 24 + k + 1) (n := 623 + 6 * k + 6) (by omega) (by omega) ?_
    exact K H locs ls _ _ _ _ _ _ _ _ _ _ _ hl ⟨hP, hD, hS⟩ (kc_tie_set (a := fun _ => 0) ht (p' := 0) (by decide) pk_us (fun i _ hi => pk_un hi) pk_us (fun i _ hi => pk_un hi) hfr hz hu1)
set_option maxHeartbeats 8000000 in
theorem law_mix (hfl : l.flags = flags0) (S : CallFix p m c code 8 s #[Value.ref b] kc_tbl R_L) (hK : va_K D kc_cl (kc_ty cJ cI cX) s) (hX : va_X b L0 xs s s.heap) (hbl : b < s.heap.size) (hbA : ¬ A b) (hA : ∀ q, s.heap.size ≤ q → A q) (hok : kt_ok aS bS s) (haS : aS < s.heap.size ∧ ¬ A aS) (hbS : bS < s.heap.size ∧ ¬ A bS) (hk : k ≤ 512) (hk5 : 5 * k + 5 ≤ L0) (hL0 : L0 ≤ 2560) (hl : lv_has ls 8 [(4, .int (nI (5 * k))), (0, .ref (b)), (1, .ref (h 0)), (2, .ref (g 0)), (3, .ref (ob))]) (hw : kc_at D A s.heap H locs (kc_CO ob Ou h cJ cI P L N Sd ++ kc_Mw g cJ cI cX fl Pm La Co Mv M)) (ht : kc_tie P L Pm M) (K : ∀ (H : Heap) (locs : List Loc) (ls : Array Slot) (P : Nat → Int32) (L N Sd Ou : Nat → Int64) (fl : Int32) (Pm : Nat → Int32) (La Co Mv : Nat → Int64) (M : Nat → Nat → Int64), lv_has ls 8 [(4, .int (nI (5 * k))), (0, .ref (b)), (1, .ref (h 0)), (2, .ref (g 0)), (3, .ref (ob))] → kc_at D A s.heap H locs (kc_CO ob Ou h cJ cI P L N Sd ++ kc_Mw g cJ cI cX fl Pm La Co Mv M) → kc_tie P L Pm M → W p l e room_1 s m #[Value.ref b] below meth c H locs (24 + k + 1) (623 + 6 * k + 6) Q (F0 m 538 ls [])) : W p l e room_1 s m #[Value.ref b] below meth c H locs (24 + k) (623 + 6 * k) Q (F0 m 368 ls []) := by
  obtain ⟨hx, hb, hml, hown, hts⟩ := S
  obtain ⟨hP, hD, hS⟩ := hw
  obtain ⟨x1, hx1⟩ : ∃ z, z = xs (5 * k + 1) := ⟨_, rfl⟩
  rcases (show (x1 < 0 ∨ nI 8 ≤ x1) ∨ ∃ j : Nat, j < 8 ∧ x1 = nI j from by rcases pk_ix x1 (n := 8) (by decide) with h9 | h9 | h9; exact Or.inl (Or.inl h9); exact Or.inl (Or.inr h9); exact Or.inr h9) with hbad | ⟨j, hj, rfl⟩
  · refine lv_aload_n hx hb d_law_368 rfl (lv_at hl 2 rfl) ?_
    refine lv_aload_n hx hb d_law_369 rfl (lv_at hl 1 rfl) ?_
    refine lv_iload hx hb d_law_370 (lv_at hl 0 rfl) ?_
    refine lv_iconst (v := nI 1) hx hb d_law_372 (by decide +kernel) ?_
    refine kn_add hx hb d_law_373 ?_
    refine ka_sld (v := (x1)) hx hb hX hbl hbA hS (i := 5 * k + 1) (by omega) (by omega) hx1 d_law_374 ?_
    have hP := kc_swapP hP
    have hD := kc_swapD hD
    refine kc_goI (wr := kc_Mw g cJ cI cX (fl) (Pm) (La) (Co) (Mv) (M)) (ws := kc_CO ob (Ou) h cJ cI (P) (L) (N) (Sd)) (kt_runSW (n := 2) (As := [.ref (h 0), .int (x1)]) (rest := []) ⟨hx, hb, hml, hown, hts⟩ (c_L_mix_x l D h cJ cI cX P L N Sd ob Ou H.size hfl aS bS x1 hbad) rfl rfl ⟨by decide, by decide⟩ kw_158 kw_159 kw_0 kw_160 (by decide +kernel) (kc_preSE (wr := kc_Mw g cJ cI cX (fl) (Pm) (La) (Co) (Mv) (M)) (ws := kc_CO ob (Ou) h cJ cI (P) (L) (N) (Sd)) hK hP hD kl_okB (kl_okU hok haS hbS hS)) rfl rfl hl.1 rfl (lv_room (Nat.le_of_ble_eq_true rfl)) d_law_375 ⟨by show _ ≤ 601024; omega, by show _ ≤ 7293034; omega⟩) hP hD hS hA (fun r u H locs hp hP hD hS => ?_)
    have hP := kc_swapP hP
    have hD := kc_swapD hD
    subst hp
    have hP : va_P D kc_cl (kc_CO ob (Ou) h cJ cI (P) (L) (N) (Sd) ++ kc_Mw g cJ cI cX (fl) (Pm) (La) (Co) (Mv) (M)) H := hP
    have hD : va_D A (kc_CO ob (Ou) h cJ cI (P) (L) (N) (Sd) ++ kc_Mw g cJ cI cX (fl) (Pm) (La) (Co) (Mv) (M)) := hD
    refine lv_istore hx hb d_law_378 hl (by decide) rfl (fun ls hl => ?_)
    have hl : lv_has ls 8 [(5, .int (nI (1))), (4, .int (nI (5 * k))), (0, .ref (b)), (1, .ref (h 0)), (2, .ref (g 0)), (3, .ref (ob))] := hl
    refine lv_aload_n hx hb d_law_380 rfl (lv_at hl 4 rfl) ?_
    refine lv_aload_n hx hb d_law_381 rfl (lv_at hl 2 rfl) ?_
    refine lv_iload hx hb d_law_382 (lv_at hl 1 rfl) ?_
    refine lv_iconst (v := nI 1) hx hb d_law_384 (by decide +kernel) ?_
    refine kn_add hx hb d_law_385 ?_
    refine ka_sld (v := (x1)) hx hb hX hbl hbA hS (i := 5 * k + 1) (by omega) (by omega) hx1 d_law_386 ?_
    refine kc_goV (wr := kc_CO ob (Ou) h cJ cI (P) (L) (N) (Sd)) (ws := kc_Mw g cJ cI cX (fl) (Pm) (La) (Co) (Mv) (M)) (va_runV (As := [.int (x1)]) (rest := []) ⟨hx, hb, hml, hown, hts⟩ (c_M_mix_x l D g cJ cI cX (fl) Pm La Co Mv M H.size x1 hbad) (cwV 1 hts (kc_inV kw_261 kw_262 kw_263 kw_3 kw_264) rfl rfl rfl (by decide +kernel) ⟨by decide, by decide⟩) (kc_preV (wr := kc_CO ob (Ou) h cJ cI (P) (L) (N) (Sd)) (q0 := 0) (ci := 2) hK hP hD rfl rfl) rfl rfl hl.1 rfl (lv_room (Nat.le_of_ble_eq_true rfl)) d_law_387 ⟨by show _ ≤ 601024; omega, by show _ ≤ 7293034; omega⟩) hP hD hS hA (fun u H locs hp hP hD hS => ?_)
    have hP : va_P D kc_cl (kc_CO ob (Ou) h cJ cI (P) (L) (N) (Sd) ++ kc_Mw g cJ cI cX (nI (1)) (Pm) (La) (Co) (Mv) (M)) H := hP
    have hD : va_D A (kc_CO ob (Ou) h cJ cI (P) (L) (N) (Sd) ++ kc_Mw g cJ cI cX (nI (1)) (Pm) (La) (Co) (Mv) (M)) := hD
    refine lv_aload_n hx hb d_law_390 rfl (lv_at hl 4 rfl) ?_
    refine kc_goI (wr := kc_CO ob (Ou) h cJ cI (P) (L) (N) (Sd)) (ws := kc_Mw g cJ cI cX (nI (1)) (Pm) (La) (Co) (Mv) (M)) (va_runV (As := []) (rest := []) ⟨hx, hb, hml, hown, hts⟩ (c_M_thrown l D g cJ cI cX (nI (1)) Pm La Co Mv M H.size ) (cwV 0 hts (kc_inV kw_213 kw_214 kw_215 kw_3 kw_216) rfl rfl rfl (by decide +kernel) ⟨by decide, by decide⟩) (kc_preV (wr := kc_CO ob (Ou) h cJ cI (P) (L) (N) (Sd)) (q0 := 0) (ci := 2) hK hP hD rfl rfl) rfl rfl hl.1 rfl (lv_room (Nat.le_of_ble_eq_true rfl)) d_law_391 ⟨by show _ ≤ 601024; omega, by show _ ≤ 7293034; omega⟩) hP hD hS hA (fun r u H locs hp hP hD hS => ?_)
    subst hp
    have hP : va_P D kc_cl (kc_CO ob (Ou) h cJ cI (P) (L) (N) (Sd) ++ kc_Mw g cJ cI cX (nI (1)) (Pm) (La) (Co) (Mv) (M)) H := hP
    have hD : va_D A (kc_CO ob (Ou) h cJ cI (P) (L) (N) (Sd) ++ kc_Mw g cJ cI cX (nI (1)) (Pm) (La) (Co) (Mv) (M)) := hD
    refine lv_iload hx hb d_law_394 (lv_at hl 0 rfl) ?_
    refine lv_icmp_eq (tgt := 401) hx hb d_law_396 (by decide) (fun _ => ?_) (fun hc => absurd hc (not_not_intro rfl))
    refine lv_goto (tgt := 538) hx hb d_law_401 (by decide) ?_
    have hl : lv_has ls 8 [(4, .int (nI (5 * k))), (0, .ref (b)), (1, .ref (h 0)), (2, .ref (g 0)), (3, .ref (ob))] := lv_sub hl [1, 2, 3, 4, 5] rfl
    refine W.widen (k := 24 + k + 1) (n := 623 + 6 * k + 6) (by omega) (by omega) ?_
    exact K H locs ls _ _ _ _ _ _ _ _ _ _ _ hl ⟨hP, hD, hS⟩ (ht)
  · refine lv_aload_n hx hb d_law_368 rfl (lv_at hl 2 rfl) ?_
    refine lv_aload_n hx hb d_law_369 rfl (lv_at hl 1 rfl) ?_
    refine lv_iload hx hb d_law_370 (lv_at hl 0 rfl) ?_
    refine lv_iconst (v := nI 1) hx hb d_law_372 (by decide +kernel) ?_
    refine kn_add hx hb d_law_373 ?_
    refine ka_sld (v := (nI (j))) hx hb hX hbl hbA hS (i := 5 * k + 1) (by omega) (by omega) hx1 d_law_374 ?_
    have hP := kc_swapP hP
    have hD := kc_swapD hD
    refine kc_goI (wr := kc_Mw g cJ cI cX (fl) (Pm) (La) (Co) (Mv) (M)) (ws := kc_CO ob (Ou) h cJ cI (P) (L) (N) (Sd)) (kt_runSW (n := 2) (As := [.ref (h 0), .int (nI (j))]) (rest := []) ⟨hx, hb, hml, hown, hts⟩ (c_L_mix_v l D h cJ cI cX P L N Sd ob Ou H.size j hj) rfl rfl ⟨by decide, by decide⟩ kw_158 kw_159 kw_0 kw_160 (by decide +kernel) (kc_preSE (wr := kc_Mw g cJ cI cX (fl) (Pm) (La) (Co) (Mv) (M)) (ws := kc_CO ob (Ou) h cJ cI (P) (L) (N) (Sd)) (Ex := fun _ : State => True) hK hP hD (fun _ _ _ _ h9 => h9) (fun _ _ _ => trivial)) rfl rfl hl.1 rfl (lv_room (Nat.le_of_ble_eq_true rfl)) d_law_375 ⟨by show _ ≤ 601024; omega, by show _ ≤ 7293034; omega⟩) hP hD hS hA (fun r u H locs hp hP hD hS => ?_)
    have hP := kc_swapP hP
    have hD := kc_swapD hD
    obtain ⟨L1, N1, S1⟩ := u
    obtain ⟨hr0, hpm, hfr⟩ := hp
    subst hr0
    have hP : va_P D kc_cl (kc_CO ob (Ou) h cJ cI (P) (L1) (N1) (S1) ++ kc_Mw g cJ cI cX (fl) (Pm) (La) (Co) (Mv) (M)) H := hP
    have hD : va_D A (kc_CO ob (Ou) h cJ cI (P) (L1) (N1) (S1) ++ kc_Mw g cJ cI cX (fl) (Pm) (La) (Co) (Mv) (M)) := hD
    refine lv_istore hx hb d_law_378 hl (by decide) rfl (fun ls hl => ?_)
    have hl : lv_has ls 8 [(5, .int (nI (0))), (4, .int (nI (5 * k))), (0, .ref (b)), (1, .ref (h 0)), (2, .ref (g 0)), (3, .ref (ob))] := hl
    refine lv_aload_n hx hb d_law_380 rfl (lv_at hl 4 rfl) ?_
    refine lv_aload_n hx hb d_law_381 rfl (lv_at hl 2 rfl) ?_
    refine lv_iload hx hb d_law_382 (lv_at hl 1 rfl) ?_
    refine lv_iconst (v := nI 1) hx hb d_law_384 (by decide +kernel) ?_
    refine kn_add hx hb d_law_385 ?_
    refine ka_sld (v := (nI (j))) hx hb hX hbl hbA hS (i := 5 * k + 1) (by omega) (by omega) hx1 d_law_386 ?_
    refine kc_goV (wr := kc_CO ob (Ou) h cJ cI (P) (L1) (N1) (S1)) (ws := kc_Mw g cJ cI cX (fl) (Pm) (La) (Co) (Mv) (M)) (va_runV (As := [.int (nI (j))]) (rest := []) ⟨hx, hb, hml, hown, hts⟩ (c_M_mix_v l D g cJ cI cX (fl) Pm La Co Mv M H.size j hj) (cwV 1 hts (kc_inV kw_261 kw_262 kw_263 kw_3 kw_264) rfl rfl rfl (by decide +kernel) ⟨by decide, by decide⟩) (kc_preV (wr := kc_CO ob (Ou) h cJ cI (P) (L1) (N1) (S1)) (q0 := 0) (ci := 2) hK hP hD rfl rfl) rfl rfl hl.1 rfl (lv_room (Nat.le_of_ble_eq_true rfl)) d_law_387 ⟨by show _ ≤ 601024; omega, by show _ ≤ 7293034; omega⟩) hP hD hS hA (fun u H locs hp hP hD hS => ?_)
    obtain ⟨u1, La1, Co1, Mv1⟩ := u
    have hP : va_P D kc_cl (kc_CO ob (Ou) h cJ cI (P) (L1) (N1) (S1) ++ kc_Mw g cJ cI cX (nI (0)) (Pm) (La1) (Co1) (Mv1) (va_up M j u1)) H := hP
    have hD : va_D A (kc_CO ob (Ou) h cJ cI (P) (L1) (N1) (S1) ++ kc_Mw g cJ cI cX (nI (0)) (Pm) (La1) (Co1) (Mv1) (va_up M j u1)) := hD
    have hu1 : kc_eq u1 (kc_perm 24 (M j)) := hp
    obtain ⟨pp, hpp⟩ := id ht
    obtain ⟨t1, t2, t3, t4⟩ := hpp j hj
    refine lv_aload_n hx hb d_law_390 rfl (lv_at hl 4 rfl) ?_
    refine kc_goI (wr := kc_CO ob (Ou) h cJ cI (P) (L1) (N1) (S1)) (ws := kc_Mw g cJ cI cX (nI (0)) (Pm) (La1) (Co1) (Mv1) (va_up M j u1)) (va_runV (As := []) (rest := []) ⟨hx, hb, hml, hown, hts⟩ (c_M_thrown l D g cJ cI cX (nI (0)) Pm La1 Co1 Mv1 (va_up M j u1) H.size ) (cwV 0 hts (kc_inV kw_213 kw_214 kw_215 kw_3 kw_216) rfl rfl rfl (by decide +kernel) ⟨by decide, by decide⟩) (kc_preV (wr := kc_CO ob (Ou) h cJ cI (P) (L1) (N1) (S1)) (q0 := 0) (ci := 2) hK hP hD rfl rfl) rfl rfl hl.1 rfl (lv_room (Nat.le_of_ble_eq_true rfl)) d_law_391 ⟨by show _ ≤ 601024; omega, by show _ ≤ 7293034; omega⟩) hP hD hS hA (fun r u H locs hp hP hD hS => ?_)
    subst hp
    have hP : va_P D kc_cl (kc_CO ob (Ou) h cJ cI (P) (L1) (N1) (S1) ++ kc_Mw g cJ cI cX (nI (0)) (Pm) (La1) (Co1) (Mv1) (va_up M j u1)) H := hP
    have hD : va_D A (kc_CO ob (Ou) h cJ cI (P) (L1) (N1) (S1) ++ kc_Mw g cJ cI cX (nI (0)) (Pm) (La1) (Co1) (Mv1) (va_up M j u1)) := hD
    refine lv_iload hx hb d_law_394 (lv_at hl 0 rfl) ?_
    refine lv_icmp_eq (tgt := 401) hx hb d_law_396 (by decide) (fun _ => ?_) (fun hc => absurd hc (not_not_intro rfl))
    refine lv_goto (tgt := 538) hx hb d_law_401 (by decide) ?_
    have hl : lv_has ls 8 [(4, .int (nI (5 * k))), (0, .ref (b)), (1, .ref (h 0)), (2, .ref (g 0)), (3, .ref (ob))] := lv_sub hl [1, 2, 3, 4, 5] rfl
    refine W.widen (k := 24 + k + 1) (n := 623 + 6 * k + 6) (by omega) (by omega) ?_
    exact K H locs ls _ _ _ _ _ _ _ _ _ _ _ hl ⟨hP, hD, hS⟩ (kc_tie_set (a := kc_perm 24 (M j)) ht t1 t2 (fun i _ _ => rfl) t3 (fun i _ _ => rfl) hfr (hpm.trans (kc_eq_perm t4 24)) hu1)
set_option maxHeartbeats 8000000 in
theorem law_copy (hfl : l.flags = flags0) (S : CallFix p m c code 8 s #[Value.ref b] kc_tbl R_L) (hK : va_K D kc_cl (kc_ty cJ cI cX) s) (hX : va_X b L0 xs s s.heap) (hbl : b < s.heap.size) (hbA : ¬ A b) (hA : ∀ q, s.heap.size ≤ q → A q) (hok : kt_ok aS bS s) (haS : aS < s.heap.size ∧ ¬ A aS) (hbS : bS < s.heap.size ∧ ¬ A bS) (hk : k ≤ 512) (hk5 : 5 * k + 5 ≤ L0) (hL0 : L0 ≤ 2560) (hl : lv_has ls 8 [(4, .int (nI (5 * k))), (0, .ref (b)), (1, .ref (h 0)), (2, .ref (g 0)), (3, .ref (ob))]) (hw : kc_at D A s.heap H locs (kc_CO ob Ou h cJ cI P L N Sd ++ kc_Mw g cJ cI cX fl Pm La Co Mv M)) (ht : kc_tie P L Pm M) (K : ∀ (H : Heap) (locs : List Loc) (ls : Array Slot) (P : Nat → Int32) (L N Sd Ou : Nat → Int64) (fl : Int32) (Pm : Nat → Int32) (La Co Mv : Nat → Int64) (M : Nat → Nat → Int64), lv_has ls 8 [(4, .int (nI (5 * k))), (0, .ref (b)), (1, .ref (h 0)), (2, .ref (g 0)), (3, .ref (ob))] → kc_at D A s.heap H locs (kc_CO ob Ou h cJ cI P L N Sd ++ kc_Mw g cJ cI cX fl Pm La Co Mv M) → kc_tie P L Pm M → W p l e room_1 s m #[Value.ref b] below meth c H locs (24 + k + 1) (623 + 6 * k + 6) Q (F0 m 538 ls [])) : W p l e room_1 s m #[Value.ref b] below meth c H locs (24 + k) (623 + 6 * k) Q (F0 m 320 ls []) := by
  obtain ⟨hx, hb, hml, hown, hts⟩ := S
  obtain ⟨hP, hD, hS⟩ := hw
  obtain ⟨x1, hx1⟩ : ∃ z, z = xs (5 * k + 1) := ⟨_, rfl⟩
  obtain ⟨x2, hx2⟩ : ∃ z, z = xs (5 * k + 2) := ⟨_, rfl⟩
  rcases (show ((x1 < 0 ∨ nI 8 ≤ x1) ∨ (∃ j, j < 8 ∧ x1 = nI j) ∧ (x2 < 0 ∨ nI 8 ≤ x2)) ∨ ∃ j : Nat, j < 8 ∧ x1 = nI j ∧ ∃ i : Nat, i < 8 ∧ x2 = nI i from by rcases pk_ix x1 (n := 8) (by decide) with h9 | h9 | h9; exact Or.inl (Or.inl (Or.inl h9)); exact Or.inl (Or.inl (Or.inr h9)); rcases pk_ix x2 (n := 8) (by decide) with h8 | h8 | h8; exact Or.inl (Or.inr ⟨h9, Or.inl h8⟩); exact Or.inl (Or.inr ⟨h9, Or.inr h8⟩); obtain ⟨j, hj, e1⟩ := h9; exact Or.inr ⟨j, hj, e1, h8⟩) with hbad | ⟨j, hj, rfl, i, hi, rfl⟩
  · refine lv_aload_n hx hb d_law_320 rfl (lv_at hl 2 rfl) ?_
    refine lv_aload_n hx hb d_law_321 rfl (lv_at hl 1 rfl) ?_
    refine lv_iload hx hb d_law_322 (lv_at hl 0 rfl) ?_
    refine lv_iconst (v := nI 1) hx hb d_law_324 (by decide +kernel) ?_
    refine kn_add hx hb d_law_325 ?_
    refine ka_sld (v := (x1)) hx hb hX hbl hbA hS (i := 5 * k + 1) (by omega) (by omega) hx1 d_law_326 ?_
    refine lv_aload_n hx hb d_law_327 rfl (lv_at hl 1 rfl) ?_
    refine lv_iload hx hb d_law_328 (lv_at hl 0 rfl) ?_
    refine lv_iconst (v := nI 2) hx hb d_law_330 (by decide +kernel) ?_
    refine kn_add hx hb d_law_331 ?_
    refine ka_sld (v := (x2)) hx hb hX hbl hbA hS (i := 5 * k + 2) (by omega) (by omega) hx2 d_law_332 ?_
    have hP := kc_swapP hP
    have hD := kc_swapD hD
    refine kc_goI (wr := kc_Mw g cJ cI cX (fl) (Pm) (La) (Co) (Mv) (M)) (ws := kc_CO ob (Ou) h cJ cI (P) (L) (N) (Sd)) (kt_runSW (n := 3) (As := [.ref (h 0), .int (x1), .int (x2)]) (rest := []) ⟨hx, hb, hml, hown, hts⟩ (c_L_copy_x l D h cJ cI cX P L N Sd ob Ou H.size hfl aS bS x1 x2 hbad) rfl rfl ⟨by decide, by decide⟩ kw_147 kw_148 kw_0 kw_149 (by decide +kernel) (kc_preSE (wr := kc_Mw g cJ cI cX (fl) (Pm) (La) (Co) (Mv) (M)) (ws := kc_CO ob (Ou) h cJ cI (P) (L) (N) (Sd)) hK hP hD kl_okB (kl_okU hok haS hbS hS)) rfl rfl hl.1 rfl (lv_room (Nat.le_of_ble_eq_true rfl)) d_law_333 ⟨by show _ ≤ 601024; omega, by show _ ≤ 7293034; omega⟩) hP hD hS hA (fun r u H locs hp hP hD hS => ?_)
    have hP := kc_swapP hP
    have hD := kc_swapD hD
    subst hp
    have hP : va_P D kc_cl (kc_CO ob (Ou) h cJ cI (P) (L) (N) (Sd) ++ kc_Mw g cJ cI cX (fl) (Pm) (La) (Co) (Mv) (M)) H := hP
    have hD : va_D A (kc_CO ob (Ou) h cJ cI (P) (L) (N) (Sd) ++ kc_Mw g cJ cI cX (fl) (Pm) (La) (Co) (Mv) (M)) := hD
    refine lv_istore hx hb d_law_336 hl (by decide) rfl (fun ls hl => ?_)
    have hl : lv_has ls 8 [(5, .int (nI (1))), (4, .int (nI (5 * k))), (0, .ref (b)), (1, .ref (h 0)), (2, .ref (g 0)), (3, .ref (ob))] := hl
    refine lv_aload_n hx hb d_law_338 rfl (lv_at hl 4 rfl) ?_
    refine lv_aload_n hx hb d_law_339 rfl (lv_at hl 2 rfl) ?_
    refine lv_iload hx hb d_law_340 (lv_at hl 1 rfl) ?_
    refine lv_iconst (v := nI 1) hx hb d_law_342 (by decide +kernel) ?_
    refine kn_add hx hb d_law_343 ?_
    refine ka_sld (v := (x1)) hx hb hX hbl hbA hS (i := 5 * k + 1) (by omega) (by omega) hx1 d_law_344 ?_
    refine lv_aload_n hx hb d_law_345 rfl (lv_at hl 2 rfl) ?_
    refine lv_iload hx hb d_law_346 (lv_at hl 1 rfl) ?_
    refine lv_iconst (v := nI 2) hx hb d_law_348 (by decide +kernel) ?_
    refine kn_add hx hb d_law_349 ?_
    refine ka_sld (v := (x2)) hx hb hX hbl hbA hS (i := 5 * k + 2) (by omega) (by omega) hx2 d_law_350 ?_
    refine kc_goV (wr := kc_CO ob (Ou) h cJ cI (P) (L) (N) (Sd)) (ws := kc_Mw g cJ cI cX (fl) (Pm) (La) (Co) (Mv) (M)) (va_runV (As := [.int (x1), .int (x2)]) (rest := []) ⟨hx, hb, hml, hown, hts⟩ (c_M_copy_x l D g cJ cI cX (fl) Pm La Co Mv M H.size x1 x2 hbad) (cwV 2 hts (kc_inV kw_257 kw_258 kw_259 kw_3 kw_260) rfl rfl rfl (by decide +kernel) ⟨by decide, by decide⟩) (kc_preV (wr := kc_CO ob (Ou) h cJ cI (P) (L) (N) (Sd)) (q0 := 0) (ci := 2) hK hP hD rfl rfl) rfl rfl hl.1 rfl (lv_room (Nat.le_of_ble_eq_true rfl)) d_law_351 ⟨by show _ ≤ 601024; omega, by show _ ≤ 7293034; omega⟩) hP hD hS hA (fun u H locs hp hP hD hS => ?_)
    have hP : va_P D kc_cl (kc_CO ob (Ou) h cJ cI (P) (L) (N) (Sd) ++ kc_Mw g cJ cI cX (nI (1)) (Pm) (La) (Co) (Mv) (M)) H := hP
    have hD : va_D A (kc_CO ob (Ou) h cJ cI (P) (L) (N) (Sd) ++ kc_Mw g cJ cI cX (nI (1)) (Pm) (La) (Co) (Mv) (M)) := hD
    refine lv_aload_n hx hb d_law_354 rfl (lv_at hl 4 rfl) ?_
    refine kc_goI (wr := kc_CO ob (Ou) h cJ cI (P) (L) (N) (Sd)) (ws := kc_Mw g cJ cI cX (nI (1)) (Pm) (La) (Co) (Mv) (M)) (va_runV (As := []) (rest := []) ⟨hx, hb, hml, hown, hts⟩ (c_M_thrown l D g cJ cI cX (nI (1)) Pm La Co Mv M H.size ) (cwV 0 hts (kc_inV kw_213 kw_214 kw_215 kw_3 kw_216) rfl rfl rfl (by decide +kernel) ⟨by decide, by decide⟩) (kc_preV (wr := kc_CO ob (Ou) h cJ cI (P) (L) (N) (Sd)) (q0 := 0) (ci := 2) hK hP hD rfl rfl) rfl rfl hl.1 rfl (lv_room (Nat.le_of_ble_eq_true rfl)) d_law_355 ⟨by show _ ≤ 601024; omega, by show _ ≤ 7293034; omega⟩) hP hD hS hA (fun r u H locs hp hP hD hS => ?_)
    subst hp
    have hP : va_P D kc_cl (kc_CO ob (Ou) h cJ cI (P) (L) (N) (Sd) ++ kc_Mw g cJ cI cX (nI (1)) (Pm) (La) (Co) (Mv) (M)) H := hP
    have hD : va_D A (kc_CO ob (Ou) h cJ cI (P) (L) (N) (Sd) ++ kc_Mw g cJ cI cX (nI (1)) (Pm) (La) (Co) (Mv) (M)) := hD
    refine lv_iload hx hb d_law_358 (lv_at hl 0 rfl) ?_
    refine lv_icmp_eq (tgt := 365) hx hb d_law_360 (by decide) (fun _ => ?_) (fun hc => absurd hc (not_not_intro rfl))
    refine lv_goto (tgt := 538) hx hb d_law_365 (by decide) ?_
    have hl : lv_has ls 8 [(4, .int (nI (5 * k))), (0, .ref (b)), (1, .ref (h 0)), (2, .ref (g 0)), (3, .ref (ob))] := lv_sub hl [1, 2, 3, 4, 5] rfl
    refine W.widen (k := 24 + k + 1) (n := 623 + 6 * k + 6) (by omega) (by omega) ?_
    exact K H locs ls _ _ _ _ _ _ _ _ _ _ _ hl ⟨hP, hD, hS⟩ (ht)
  · obtain ⟨pp, hpp⟩ := id ht
    obtain ⟨t1, t2, t3, t4⟩ := hpp j hj
    refine lv_aload_n hx hb d_law_320 rfl (lv_at hl 2 rfl) ?_
    refine lv_aload_n hx hb d_law_321 rfl (lv_at hl 1 rfl) ?_
    refine lv_iload hx hb d_law_322 (lv_at hl 0 rfl) ?_
    refine lv_iconst (v := nI 1) hx hb d_law_324 (by decide +kernel) ?_
    refine kn_add hx hb d_law_325 ?_
    refine ka_sld (v := (nI (j))) hx hb hX hbl hbA hS (i := 5 * k + 1) (by omega) (by omega) hx1 d_law_326 ?_
    refine lv_aload_n hx hb d_law_327 rfl (lv_at hl 1 rfl) ?_
    refine lv_iload hx hb d_law_328 (lv_at hl 0 rfl) ?_
    refine lv_iconst (v := nI 2) hx hb d_law_330 (by decide +kernel) ?_
    refine kn_add hx hb d_law_331 ?_
    refine ka_sld (v := (nI (i))) hx hb hX hbl hbA hS (i := 5 * k + 2) (by omega) (by omega) hx2 d_law_332 ?_
    have hP := kc_swapP hP
    have hD := kc_swapD hD
    refine kc_goI (wr := kc_Mw g cJ cI cX (fl) (Pm) (La) (Co) (Mv) (M)) (ws := kc_CO ob (Ou) h cJ cI (P) (L) (N) (Sd)) (kt_runSW (n := 3) (As := [.ref (h 0), .int (nI (j)), .int (nI (i))]) (rest := []) ⟨hx, hb, hml, hown, hts⟩ (c_L_copy_v l D h cJ cI cX P L N Sd ob Ou H.size j i hj hi) rfl rfl ⟨by decide, by decide⟩ kw_147 kw_148 kw_0 kw_149 (by decide +kernel) (kc_preSE (wr := kc_Mw g cJ cI cX (fl) (Pm) (La) (Co) (Mv) (M)) (ws := kc_CO ob (Ou) h cJ cI (P) (L) (N) (Sd)) (Ex := fun _ : State => True) hK hP hD (fun _ _ _ _ h9 => h9) (fun _ _ _ => trivial)) rfl rfl hl.1 rfl (lv_room (Nat.le_of_ble_eq_true rfl)) d_law_333 ⟨by show _ ≤ 601024; omega, by show _ ≤ 7293034; omega⟩) hP hD hS hA (fun r u H locs hp hP hD hS => ?_)
    have hP := kc_swapP hP
    have hD := kc_swapD hD
    obtain ⟨L1, e_L1⟩ : ∃ z, z = u := ⟨_, rfl⟩
    rw [← e_L1] at hp hP hD
    obtain ⟨hr0, hz, hfr⟩ := hp
    subst hr0
    have hP : va_P D kc_cl (kc_CO ob (Ou) h cJ cI (upd P i (P j)) (L1) (N) (Sd) ++ kc_Mw g cJ cI cX (fl) (Pm) (La) (Co) (Mv) (M)) H := hP
    have hD : va_D A (kc_CO ob (Ou) h cJ cI (upd P i (P j)) (L1) (N) (Sd) ++ kc_Mw g cJ cI cX (fl) (Pm) (La) (Co) (Mv) (M)) := hD
    refine lv_istore hx hb d_law_336 hl (by decide) rfl (fun ls hl => ?_)
    have hl : lv_has ls 8 [(5, .int (nI (0))), (4, .int (nI (5 * k))), (0, .ref (b)), (1, .ref (h 0)), (2, .ref (g 0)), (3, .ref (ob))] := hl
    refine lv_aload_n hx hb d_law_338 rfl (lv_at hl 4 rfl) ?_
    refine lv_aload_n hx hb d_law_339 rfl (lv_at hl 2 rfl) ?_
    refine lv_iload hx hb d_law_340 (lv_at hl 1 rfl) ?_
    refine lv_iconst (v := nI 1) hx hb d_law_342 (by decide +kernel) ?_
    refine kn_add hx hb d_law_343 ?_
    refine ka_sld (v := (nI (j))) hx hb hX hbl hbA hS (i := 5 * k + 1) (by omega) (by omega) hx1 d_law_344 ?_
    refine lv_aload_n hx hb d_law_345 rfl (lv_at hl 2 rfl) ?_
    refine lv_iload hx hb d_law_346 (lv_at hl 1 rfl) ?_
    refine lv_iconst (v := nI 2) hx hb d_law_348 (by decide +kernel) ?_
    refine kn_add hx hb d_law_349 ?_
    refine ka_sld (v := (nI (i))) hx hb hX hbl hbA hS (i := 5 * k + 2) (by omega) (by omega) hx2 d_law_350 ?_
    refine kc_goV (wr := kc_CO ob (Ou) h cJ cI (upd P i (P j)) (L1) (N) (Sd)) (ws := kc_Mw g cJ cI cX (fl) (Pm) (La) (Co) (Mv) (M)) (va_runV (As := [.int (nI (j)), .int (nI (i))]) (rest := []) ⟨hx, hb, hml, hown, hts⟩ (c_M_copy_v l D g cJ cI cX (fl) Pm La Co Mv M H.size j i hj hi) (cwV 2 hts (kc_inV kw_257 kw_258 kw_259 kw_3 kw_260) rfl rfl rfl (by decide +kernel) ⟨by decide, by decide⟩) (kc_preV (wr := kc_CO ob (Ou) h cJ cI (upd P i (P j)) (L1) (N) (Sd)) (q0 := 0) (ci := 2) hK hP hD rfl rfl) rfl rfl hl.1 rfl (lv_room (Nat.le_of_ble_eq_true rfl)) d_law_351 ⟨by show _ ≤ 601024; omega, by show _ ≤ 7293034; omega⟩) hP hD hS hA (fun u H locs hp hP hD hS => ?_)
    obtain ⟨u1, La1⟩ := u
    have hP : va_P D kc_cl (kc_CO ob (Ou) h cJ cI (upd P i (P j)) (L1) (N) (Sd) ++ kc_Mw g cJ cI cX (nI (0)) (upd Pm i (Pm j)) (La1) (Co) (Mv) (va_up M i u1)) H := hP
    have hD : va_D A (kc_CO ob (Ou) h cJ cI (upd P i (P j)) (L1) (N) (Sd) ++ kc_Mw g cJ cI cX (nI (0)) (upd Pm i (Pm j)) (La1) (Co) (Mv) (va_up M i u1)) := hD
    have hu1 : kc_eq u1 (M j) := hp
    refine lv_aload_n hx hb d_law_354 rfl (lv_at hl 4 rfl) ?_
    refine kc_goI (wr := kc_CO ob (Ou) h cJ cI (upd P i (P j)) (L1) (N) (Sd)) (ws := kc_Mw g cJ cI cX (nI (0)) (upd Pm i (Pm j)) (La1) (Co) (Mv) (va_up M i u1)) (va_runV (As := []) (rest := []) ⟨hx, hb, hml, hown, hts⟩ (c_M_thrown l D g cJ cI cX (nI (0)) (upd Pm i (Pm j)) La1 Co Mv (va_up M i u1) H.size ) (cwV 0 hts (kc_inV kw_213 kw_214 kw_215 kw_3 kw_216) rfl rfl rfl (by decide +kernel) ⟨by decide, by decide⟩) (kc_preV (wr := kc_CO ob (Ou) h cJ cI (upd P i (P j)) (L1) (N) (Sd)) (q0 := 0) (ci := 2) hK hP hD rfl rfl) rfl rfl hl.1 rfl (lv_room (Nat.le_of_ble_eq_true rfl)) d_law_355 ⟨by show _ ≤ 601024; omega, by show _ ≤ 7293034; omega⟩) hP hD hS hA (fun r u H locs hp hP hD hS => ?_)
    subst hp
    have hP : va_P D kc_cl (kc_CO ob (Ou) h cJ cI (upd P i (P j)) (L1) (N) (Sd) ++ kc_Mw g cJ cI cX (nI (0)) (upd Pm i (Pm j)) (La1) (Co) (Mv) (va_up M i u1)) H := hP
    have hD : va_D A (kc_CO ob (Ou) h cJ cI (upd P i (P j)) (L1) (N) (Sd) ++ kc_Mw g cJ cI cX (nI (0)) (upd Pm i (Pm j)) (La1) (Co) (Mv) (va_up M i u1)) := hD
    refine lv_iload hx hb d_law_358 (lv_at hl 0 rfl) ?_
    refine lv_icmp_eq (tgt := 365) hx hb d_law_360 (by decide) (fun _ => ?_) (fun hc => absurd hc (not_not_intro rfl))
    refine lv_goto (tgt := 538) hx hb d_law_365 (by decide) ?_
    have hl : lv_has ls 8 [(4, .int (nI (5 * k))), (0, .ref (b)), (1, .ref (h 0)), (2, .ref (g 0)), (3, .ref (ob))] := lv_sub hl [1, 2, 3, 4, 5] rfl
    refine W.widen (k := 24 + k + 1) (n := 623 + 6 * k + 6) (by omega) (by omega) ?_
    exact K H locs ls _ _ _ _ _ _ _ _ _ _ _ hl ⟨hP, hD, hS⟩ (kc_tie_set (a := M j) ht t1 (by rw [pk_us]; exact t2) (fun i9 _ h9 => pk_un h9) (by rw [pk_us]; exact t3) (fun i9 _ h9 => pk_un h9) hfr (hz.trans t4) hu1)
set_option maxHeartbeats 8000000 in
theorem law_lane (hfl : l.flags = flags0) (S : CallFix p m c code 8 s #[Value.ref b] kc_tbl R_L) (hK : va_K D kc_cl (kc_ty cJ cI cX) s) (hX : va_X b L0 xs s s.heap) (hbl : b < s.heap.size) (hbA : ¬ A b) (hA : ∀ q, s.heap.size ≤ q → A q) (hok : kt_ok aS bS s) (haS : aS < s.heap.size ∧ ¬ A aS) (hbS : bS < s.heap.size ∧ ¬ A bS) (hk : k ≤ 512) (hk5 : 5 * k + 5 ≤ L0) (hL0 : L0 ≤ 2560) (hl : lv_has ls 8 [(4, .int (nI (5 * k))), (0, .ref (b)), (1, .ref (h 0)), (2, .ref (g 0)), (3, .ref (ob))]) (hw : kc_at D A s.heap H locs (kc_CO ob Ou h cJ cI P L N Sd ++ kc_Mw g cJ cI cX fl Pm La Co Mv M)) (ht : kc_tie P L Pm M) (K : ∀ (H : Heap) (locs : List Loc) (ls : Array Slot) (P : Nat → Int32) (L N Sd Ou : Nat → Int64) (fl : Int32) (Pm : Nat → Int32) (La Co Mv : Nat → Int64) (M : Nat → Nat → Int64), lv_has ls 8 [(4, .int (nI (5 * k))), (0, .ref (b)), (1, .ref (h 0)), (2, .ref (g 0)), (3, .ref (ob))] → kc_at D A s.heap H locs (kc_CO ob Ou h cJ cI P L N Sd ++ kc_Mw g cJ cI cX fl Pm La Co Mv M) → kc_tie P L Pm M → W p l e room_1 s m #[Value.ref b] below meth c H locs (24 + k + 1) (623 + 6 * k + 6) Q (F0 m 538 ls [])) : W p l e room_1 s m #[Value.ref b] below meth c H locs (24 + k) (623 + 6 * k) Q (F0 m 404 ls []) := by
  obtain ⟨hx, hb, hml, hown, hts⟩ := S
  obtain ⟨hP, hD, hS⟩ := hw
  obtain ⟨x1, hx1⟩ : ∃ z, z = xs (5 * k + 1) := ⟨_, rfl⟩
  obtain ⟨x2, hx2⟩ : ∃ z, z = xs (5 * k + 2) := ⟨_, rfl⟩
  rcases (show ((x1 < 0 ∨ nI 8 ≤ x1) ∨ (∃ j, j < 8 ∧ x1 = nI j) ∧ (x2 < 0 ∨ nI 25 ≤ x2)) ∨ ∃ j : Nat, j < 8 ∧ x1 = nI j ∧ ∃ i : Nat, i < 25 ∧ x2 = nI i from by rcases pk_ix x1 (n := 8) (by decide) with h9 | h9 | h9; exact Or.inl (Or.inl (Or.inl h9)); exact Or.inl (Or.inl (Or.inr h9)); rcases pk_ix x2 (n := 25) (by decide) with h8 | h8 | h8; exact Or.inl (Or.inr ⟨h9, Or.inl h8⟩); exact Or.inl (Or.inr ⟨h9, Or.inr h8⟩); obtain ⟨j, hj, e1⟩ := h9; exact Or.inr ⟨j, hj, e1, h8⟩) with hbad | ⟨j, hj, rfl, i, hi, rfl⟩
  · refine lv_aload_n hx hb d_law_404 rfl (lv_at hl 2 rfl) ?_
    refine lv_aload_n hx hb d_law_405 rfl (lv_at hl 1 rfl) ?_
    refine lv_iload hx hb d_law_406 (lv_at hl 0 rfl) ?_
    refine lv_iconst (v := nI 1) hx hb d_law_408 (by decide +kernel) ?_
    refine kn_add hx hb d_law_409 ?_
    refine ka_sld (v := (x1)) hx hb hX hbl hbA hS (i := 5 * k + 1) (by omega) (by omega) hx1 d_law_410 ?_
    refine lv_aload_n hx hb d_law_411 rfl (lv_at hl 1 rfl) ?_
    refine lv_iload hx hb d_law_412 (lv_at hl 0 rfl) ?_
    refine lv_iconst (v := nI 2) hx hb d_law_414 (by decide +kernel) ?_
    refine kn_add hx hb d_law_415 ?_
    refine ka_sld (v := (x2)) hx hb hX hbl hbA hS (i := 5 * k + 2) (by omega) (by omega) hx2 d_law_416 ?_
    refine lv_aload_n hx hb d_law_417 rfl (lv_at hl 4 rfl) ?_
    have hP := kc_swapP hP
    have hD := kc_swapD hD
    refine kc_goI (wr := kc_Mw g cJ cI cX (fl) (Pm) (La) (Co) (Mv) (M)) (ws := kc_CO ob (Ou) h cJ cI (P) (L) (N) (Sd)) (kt_runSW (n := 4) (As := [.ref (h 0), .int (x1), .int (x2), .ref (ob)]) (rest := []) ⟨hx, hb, hml, hown, hts⟩ (c_L_lane_x l D h cJ cI cX P L N Sd ob Ou H.size hfl aS bS x1 x2 hbad) rfl rfl ⟨by decide, by decide⟩ kw_165 kw_166 kw_0 kw_167 (by decide +kernel) (kc_preSE (wr := kc_Mw g cJ cI cX (fl) (Pm) (La) (Co) (Mv) (M)) (ws := kc_CO ob (Ou) h cJ cI (P) (L) (N) (Sd)) hK hP hD kl_okB (kl_okU hok haS hbS hS)) rfl rfl hl.1 rfl (lv_room (Nat.le_of_ble_eq_true rfl)) d_law_418 ⟨by show _ ≤ 601024; omega, by show _ ≤ 7293034; omega⟩) hP hD hS hA (fun r u H locs hp hP hD hS => ?_)
    have hP := kc_swapP hP
    have hD := kc_swapD hD
    subst hp
    have hP : va_P D kc_cl (kc_CO ob (Ou) h cJ cI (P) (L) (N) (Sd) ++ kc_Mw g cJ cI cX (fl) (Pm) (La) (Co) (Mv) (M)) H := hP
    have hD : va_D A (kc_CO ob (Ou) h cJ cI (P) (L) (N) (Sd) ++ kc_Mw g cJ cI cX (fl) (Pm) (La) (Co) (Mv) (M)) := hD
    refine lv_istore hx hb d_law_421 hl (by decide) rfl (fun ls hl => ?_)
    have hl : lv_has ls 8 [(5, .int (nI (1))), (4, .int (nI (5 * k))), (0, .ref (b)), (1, .ref (h 0)), (2, .ref (g 0)), (3, .ref (ob))] := hl
    refine lv_aload_n hx hb d_law_423 rfl (lv_at hl 4 rfl) ?_
    refine lv_aload_n hx hb d_law_424 rfl (lv_at hl 2 rfl) ?_
    refine lv_iload hx hb d_law_425 (lv_at hl 1 rfl) ?_
    refine lv_iconst (v := nI 1) hx hb d_law_427 (by decide +kernel) ?_
    refine kn_add hx hb d_law_428 ?_
    refine ka_sld (v := (x1)) hx hb hX hbl hbA hS (i := 5 * k + 1) (by omega) (by omega) hx1 d_law_429 ?_
    refine lv_aload_n hx hb d_law_430 rfl (lv_at hl 2 rfl) ?_
    refine lv_iload hx hb d_law_431 (lv_at hl 1 rfl) ?_
    refine lv_iconst (v := nI 2) hx hb d_law_433 (by decide +kernel) ?_
    refine kn_add hx hb d_law_434 ?_
    refine ka_sld (v := (x2)) hx hb hX hbl hbA hS (i := 5 * k + 2) (by omega) (by omega) hx2 d_law_435 ?_
    refine kc_goL (wr := kc_CO ob (Ou) h cJ cI (P) (L) (N) (Sd)) (ws := kc_Mw g cJ cI cX (fl) (Pm) (La) (Co) (Mv) (M)) (va_runV (As := [.int (x1), .int (x2)]) (rest := []) ⟨hx, hb, hml, hown, hts⟩ (c_M_lane_x l D g cJ cI cX (fl) Pm La Co Mv M H.size x1 x2 hbad) (cwV 2 hts (kc_inV kw_265 kw_266 kw_267 kw_3 kw_268) rfl rfl rfl (by decide +kernel) ⟨by decide, by decide⟩) (kc_preV (wr := kc_CO ob (Ou) h cJ cI (P) (L) (N) (Sd)) (q0 := 0) (ci := 2) hK hP hD rfl rfl) rfl rfl hl.1 rfl (lv_room (Nat.le_of_ble_eq_true rfl)) d_law_436 ⟨by show _ ≤ 601024; omega, by show _ ≤ 7293034; omega⟩) hP hD hS hA (fun r u H locs hp hP hD hS => ?_)
    have hP : va_P D kc_cl (kc_CO ob (Ou) h cJ cI (P) (L) (N) (Sd) ++ kc_Mw g cJ cI cX (nI (1)) (Pm) (La) (Co) (Mv) (M)) H := hP
    have hD : va_D A (kc_CO ob (Ou) h cJ cI (P) (L) (N) (Sd) ++ kc_Mw g cJ cI cX (nI (1)) (Pm) (La) (Co) (Mv) (M)) := hD
    obtain ⟨r1, e_r1⟩ : ∃ z, z = r := ⟨_, rfl⟩
    rw [← e_r1]
    refine lv_lstore hx hb d_law_439 hl (by decide) rfl (fun ls hl => ?_)
    have hl : lv_has ls 8 [(6, .long (r1)), (5, .int (nI (1))), (4, .int (nI (5 * k))), (0, .ref (b)), (1, .ref (h 0)), (2, .ref (g 0)), (3, .ref (ob))] := hl
    refine lv_aload_n hx hb d_law_441 rfl (lv_at hl 5 rfl) ?_
    refine kc_goI (wr := kc_CO ob (Ou) h cJ cI (P) (L) (N) (Sd)) (ws := kc_Mw g cJ cI cX (nI (1)) (Pm) (La) (Co) (Mv) (M)) (va_runV (As := []) (rest := []) ⟨hx, hb, hml, hown, hts⟩ (c_M_thrown l D g cJ cI cX (nI (1)) Pm La Co Mv M H.size ) (cwV 0 hts (kc_inV kw_213 kw_214 kw_215 kw_3 kw_216) rfl rfl rfl (by decide +kernel) ⟨by decide, by decide⟩) (kc_preV (wr := kc_CO ob (Ou) h cJ cI (P) (L) (N) (Sd)) (q0 := 0) (ci := 2) hK hP hD rfl rfl) rfl rfl hl.1 rfl (lv_room (Nat.le_of_ble_eq_true rfl)) d_law_442 ⟨by show _ ≤ 601024; omega, by show _ ≤ 7293034; omega⟩) hP hD hS hA (fun r u H locs hp hP hD hS => ?_)
    subst hp
    have hP : va_P D kc_cl (kc_CO ob (Ou) h cJ cI (P) (L) (N) (Sd) ++ kc_Mw g cJ cI cX (nI (1)) (Pm) (La) (Co) (Mv) (M)) H := hP
    have hD : va_D A (kc_CO ob (Ou) h cJ cI (P) (L) (N) (Sd) ++ kc_Mw g cJ cI cX (nI (1)) (Pm) (La) (Co) (Mv) (M)) := hD
    refine lv_iload hx hb d_law_445 (lv_at hl 1 rfl) ?_
    refine lv_icmp_eq (tgt := 452) hx hb d_law_447 (by decide) (fun _ => ?_) (fun hc => absurd hc (not_not_intro rfl))
    refine lv_iload hx hb d_law_452 (lv_at hl 1 rfl) ?_
    refine lv_if_ne (tgt := 468) hx hb d_law_454 (by decide) (fun _ => ?_) (fun hc => absurd hc (by decide))
    refine lv_goto (tgt := 538) hx hb d_law_468 (by decide) ?_
    have hl : lv_has ls 8 [(4, .int (nI (5 * k))), (0, .ref (b)), (1, .ref (h 0)), (2, .ref (g 0)), (3, .ref (ob))] := lv_sub hl [2, 3, 4, 5, 6] rfl
    refine W.widen (k := 24 + k + 1) (n := 623 + 6 * k + 6) (by omega) (by omega) ?_
    exact K H locs ls _ _ _ _ _ _ _ _ _ _ _ hl ⟨hP, hD, hS⟩ (ht)
  · obtain ⟨pp, hpp⟩ := id ht
    obtain ⟨t1, t2, t3, t4⟩ := hpp j hj
    refine lv_aload_n hx hb d_law_404 rfl (lv_at hl 2 rfl) ?_
    refine lv_aload_n hx hb d_law_405 rfl (lv_at hl 1 rfl) ?_
    refine lv_iload hx hb d_law_406 (lv_at hl 0 rfl) ?_
    refine lv_iconst (v := nI 1) hx hb d_law_408 (by decide +kernel) ?_
    refine kn_add hx hb d_law_409 ?_
    refine ka_sld (v := (nI (j))) hx hb hX hbl hbA hS (i := 5 * k + 1) (by omega) (by omega) hx1 d_law_410 ?_
    refine lv_aload_n hx hb d_law_411 rfl (lv_at hl 1 rfl) ?_
    refine lv_iload hx hb d_law_412 (lv_at hl 0 rfl) ?_
    refine lv_iconst (v := nI 2) hx hb d_law_414 (by decide +kernel) ?_
    refine kn_add hx hb d_law_415 ?_
    refine ka_sld (v := (nI (i))) hx hb hX hbl hbA hS (i := 5 * k + 2) (by omega) (by omega) hx2 d_law_416 ?_
    refine lv_aload_n hx hb d_law_417 rfl (lv_at hl 4 rfl) ?_
    have hP := kc_swapP hP
    have hD := kc_swapD hD
    refine kc_goI (wr := kc_Mw g cJ cI cX (fl) (Pm) (La) (Co) (Mv) (M)) (ws := kc_CO ob (Ou) h cJ cI (P) (L) (N) (Sd)) (kt_runSW (n := 4) (As := [.ref (h 0), .int (nI (j)), .int (nI (i)), .ref (ob)]) (rest := []) ⟨hx, hb, hml, hown, hts⟩ (c_L_lane_v l D h cJ cI cX P L N Sd ob Ou H.size j i hj hi) rfl rfl ⟨by decide, by decide⟩ kw_165 kw_166 kw_0 kw_167 (by decide +kernel) (kc_preSE (wr := kc_Mw g cJ cI cX (fl) (Pm) (La) (Co) (Mv) (M)) (ws := kc_CO ob (Ou) h cJ cI (P) (L) (N) (Sd)) (Ex := fun _ : State => True) hK hP hD (fun _ _ _ _ h9 => h9) (fun _ _ _ => trivial)) rfl rfl hl.1 rfl (lv_room (Nat.le_of_ble_eq_true rfl)) d_law_418 ⟨by show _ ≤ 601024; omega, by show _ ≤ 7293034; omega⟩) hP hD hS hA (fun r u H locs hp hP hD hS => ?_)
    have hP := kc_swapP hP
    have hD := kc_swapD hD
    obtain ⟨Ou1, e_Ou1⟩ : ∃ z, z = u := ⟨_, rfl⟩
    rw [← e_Ou1] at hp hP hD
    obtain ⟨hr0, ho1⟩ := hp
    subst hr0
    have hP : va_P D kc_cl (kc_CO ob (Ou1) h cJ cI (P) (L) (N) (Sd) ++ kc_Mw g cJ cI cX (fl) (Pm) (La) (Co) (Mv) (M)) H := hP
    have hD : va_D A (kc_CO ob (Ou1) h cJ cI (P) (L) (N) (Sd) ++ kc_Mw g cJ cI cX (fl) (Pm) (La) (Co) (Mv) (M)) := hD
    refine lv_istore hx hb d_law_421 hl (by decide) rfl (fun ls hl => ?_)
    have hl : lv_has ls 8 [(5, .int (nI (0))), (4, .int (nI (5 * k))), (0, .ref (b)), (1, .ref (h 0)), (2, .ref (g 0)), (3, .ref (ob))] := hl
    refine lv_aload_n hx hb d_law_423 rfl (lv_at hl 4 rfl) ?_
    refine lv_aload_n hx hb d_law_424 rfl (lv_at hl 2 rfl) ?_
    refine lv_iload hx hb d_law_425 (lv_at hl 1 rfl) ?_
    refine lv_iconst (v := nI 1) hx hb d_law_427 (by decide +kernel) ?_
    refine kn_add hx hb d_law_428 ?_
    refine ka_sld (v := (nI (j))) hx hb hX hbl hbA hS (i := 5 * k + 1) (by omega) (by omega) hx1 d_law_429 ?_
    refine lv_aload_n hx hb d_law_430 rfl (lv_at hl 2 rfl) ?_
    refine lv_iload hx hb d_law_431 (lv_at hl 1 rfl) ?_
    refine lv_iconst (v := nI 2) hx hb d_law_433 (by decide +kernel) ?_
    refine kn_add hx hb d_law_434 ?_
    refine ka_sld (v := (nI (i))) hx hb hX hbl hbA hS (i := 5 * k + 2) (by omega) (by omega) hx2 d_law_435 ?_
    refine kc_goL (wr := kc_CO ob (Ou1) h cJ cI (P) (L) (N) (Sd)) (ws := kc_Mw g cJ cI cX (fl) (Pm) (La) (Co) (Mv) (M)) (va_runV (As := [.int (nI (j)), .int (nI (i))]) (rest := []) ⟨hx, hb, hml, hown, hts⟩ (c_M_lane_v l D g cJ cI cX (fl) Pm La Co Mv M H.size j i hj hi) (cwV 2 hts (kc_inV kw_265 kw_266 kw_267 kw_3 kw_268) rfl rfl rfl (by decide +kernel) ⟨by decide, by decide⟩) (kc_preV (wr := kc_CO ob (Ou1) h cJ cI (P) (L) (N) (Sd)) (q0 := 0) (ci := 2) hK hP hD rfl rfl) rfl rfl hl.1 rfl (lv_room (Nat.le_of_ble_eq_true rfl)) d_law_436 ⟨by show _ ≤ 601024; omega, by show _ ≤ 7293034; omega⟩) hP hD hS hA (fun r u H locs hp hP hD hS => ?_)
    subst hp
    have hP : va_P D kc_cl (kc_CO ob (Ou1) h cJ cI (P) (L) (N) (Sd) ++ kc_Mw g cJ cI cX (nI (0)) (Pm) (La) (Co) (Mv) (M)) H := hP
    have hD : va_D A (kc_CO ob (Ou1) h cJ cI (P) (L) (N) (Sd) ++ kc_Mw g cJ cI cX (nI (0)) (Pm) (La) (Co) (Mv) (M)) := hD
    refine lv_topl (fun v1 e_v1 => ?_)
    refine lv_lstore hx hb d_law_439 hl (by decide) rfl (fun ls hl => ?_)
    have hl : lv_has ls 8 [(6, .long (v1)), (5, .int (nI (0))), (4, .int (nI (5 * k))), (0, .ref (b)), (1, .ref (h 0)), (2, .ref (g 0)), (3, .ref (ob))] := hl
    refine lv_aload_n hx hb d_law_441 rfl (lv_at hl 5 rfl) ?_
    refine kc_goI (wr := kc_CO ob (Ou1) h cJ cI (P) (L) (N) (Sd)) (ws := kc_Mw g cJ cI cX (nI (0)) (Pm) (La) (Co) (Mv) (M)) (va_runV (As := []) (rest := []) ⟨hx, hb, hml, hown, hts⟩ (c_M_thrown l D g cJ cI cX (nI (0)) Pm La Co Mv M H.size ) (cwV 0 hts (kc_inV kw_213 kw_214 kw_215 kw_3 kw_216) rfl rfl rfl (by decide +kernel) ⟨by decide, by decide⟩) (kc_preV (wr := kc_CO ob (Ou1) h cJ cI (P) (L) (N) (Sd)) (q0 := 0) (ci := 2) hK hP hD rfl rfl) rfl rfl hl.1 rfl (lv_room (Nat.le_of_ble_eq_true rfl)) d_law_442 ⟨by show _ ≤ 601024; omega, by show _ ≤ 7293034; omega⟩) hP hD hS hA (fun r u H locs hp hP hD hS => ?_)
    subst hp
    have hP : va_P D kc_cl (kc_CO ob (Ou1) h cJ cI (P) (L) (N) (Sd) ++ kc_Mw g cJ cI cX (nI (0)) (Pm) (La) (Co) (Mv) (M)) H := hP
    have hD : va_D A (kc_CO ob (Ou1) h cJ cI (P) (L) (N) (Sd) ++ kc_Mw g cJ cI cX (nI (0)) (Pm) (La) (Co) (Mv) (M)) := hD
    refine lv_iload hx hb d_law_445 (lv_at hl 1 rfl) ?_
    refine lv_icmp_eq (tgt := 452) hx hb d_law_447 (by decide) (fun _ => ?_) (fun hc => absurd hc (not_not_intro rfl))
    refine lv_iload hx hb d_law_452 (lv_at hl 1 rfl) ?_
    refine lv_if_ne (tgt := 468) hx hb d_law_454 (by decide) (fun hc => absurd hc (not_not_intro rfl)) (fun _ => ?_)
    refine lv_aload_n hx hb d_law_457 rfl (lv_at hl 6 rfl) ?_
    refine lv_iconst (v := nI 0) hx hb d_law_458 (by decide +kernel) ?_
    refine ka_lald (f := Ou1) hx hb hK hP 0 0 rfl rfl (i := 0) (by omega) (by decide) d_law_459 ?_
    refine lv_lload hx hb d_law_460 (lv_at hl 0 rfl) ?_
    refine ka_lcmp hx hb (by rw [ho1, e_v1]; exact t4 i hi) d_law_462 ?_
    refine lv_if_eq (tgt := 468) hx hb d_law_463 (by decide) (fun _ => ?_) (fun hc => absurd hc (not_not_intro rfl))
    refine lv_goto (tgt := 538) hx hb d_law_468 (by decide) ?_
    have hl : lv_has ls 8 [(4, .int (nI (5 * k))), (0, .ref (b)), (1, .ref (h 0)), (2, .ref (g 0)), (3, .ref (ob))] := lv_sub hl [2, 3, 4, 5, 6] rfl
    refine W.widen (k := 24 + k + 1) (n := 623 + 6 * k + 6) (by omega) (by omega) ?_
    exact K H locs ls _ _ _ _ _ _ _ _ _ _ _ hl ⟨hP, hD, hS⟩ (ht)
set_option maxHeartbeats 8000000 in
theorem law_digest (hfl : l.flags = flags0) (S : CallFix p m c code 8 s #[Value.ref b] kc_tbl R_L) (hK : va_K D kc_cl (kc_ty cJ cI cX) s) (hX : va_X b L0 xs s s.heap) (hbl : b < s.heap.size) (hbA : ¬ A b) (hA : ∀ q, s.heap.size ≤ q → A q) (hok : kt_ok aS bS s) (haS : aS < s.heap.size ∧ ¬ A aS) (hbS : bS < s.heap.size ∧ ¬ A bS) (hk : k ≤ 512) (hk5 : 5 * k + 5 ≤ L0) (hL0 : L0 ≤ 2560) (hl : lv_has ls 8 [(4, .int (nI (5 * k))), (0, .ref (b)), (1, .ref (h 0)), (2, .ref (g 0)), (3, .ref (ob))]) (hw : kc_at D A s.heap H locs (kc_CO ob Ou h cJ cI P L N Sd ++ kc_Mw g cJ cI cX fl Pm La Co Mv M)) (ht : kc_tie P L Pm M) (K : ∀ (H : Heap) (locs : List Loc) (ls : Array Slot) (P : Nat → Int32) (L N Sd Ou : Nat → Int64) (fl : Int32) (Pm : Nat → Int32) (La Co Mv : Nat → Int64) (M : Nat → Nat → Int64), lv_has ls 8 [(4, .int (nI (5 * k))), (0, .ref (b)), (1, .ref (h 0)), (2, .ref (g 0)), (3, .ref (ob))] → kc_at D A s.heap H locs (kc_CO ob Ou h cJ cI P L N Sd ++ kc_Mw g cJ cI cX fl Pm La Co Mv M) → kc_tie P L Pm M → W p l e room_1 s m #[Value.ref b] below meth c H locs (24 + k + 1) (623 + 6 * k + 6) Q (F0 m 538 ls [])) : W p l e room_1 s m #[Value.ref b] below meth c H locs (24 + k) (623 + 6 * k) Q (F0 m 471 ls []) := by
  obtain ⟨hx, hb, hml, hown, hts⟩ := S
  obtain ⟨hP, hD, hS⟩ := hw
  obtain ⟨x1, hx1⟩ : ∃ z, z = xs (5 * k + 1) := ⟨_, rfl⟩
  obtain ⟨x2, hx2⟩ : ∃ z, z = xs (5 * k + 2) := ⟨_, rfl⟩
  rcases (show ((x1 < 0 ∨ nI 8 ≤ x1) ∨ (∃ j, j < 8 ∧ x1 = nI j) ∧ (x2 < 0 ∨ nI 4 ≤ x2)) ∨ ∃ j : Nat, j < 8 ∧ x1 = nI j ∧ ∃ i : Nat, i < 4 ∧ x2 = nI i from by rcases pk_ix x1 (n := 8) (by decide) with h9 | h9 | h9; exact Or.inl (Or.inl (Or.inl h9)); exact Or.inl (Or.inl (Or.inr h9)); rcases pk_ix x2 (n := 4) (by decide) with h8 | h8 | h8; exact Or.inl (Or.inr ⟨h9, Or.inl h8⟩); exact Or.inl (Or.inr ⟨h9, Or.inr h8⟩); obtain ⟨j, hj, e1⟩ := h9; exact Or.inr ⟨j, hj, e1, h8⟩) with hbad | ⟨j, hj, rfl, i, hi, rfl⟩
  · refine lv_aload_n hx hb d_law_471 rfl (lv_at hl 2 rfl) ?_
    refine lv_aload_n hx hb d_law_472 rfl (lv_at hl 1 rfl) ?_
    refine lv_iload hx hb d_law_473 (lv_at hl 0 rfl) ?_
    refine lv_iconst (v := nI 1) hx hb d_law_475 (by decide +kernel) ?_
    refine kn_add hx hb d_law_476 ?_
    refine ka_sld (v := (x1)) hx hb hX hbl hbA hS (i := 5 * k + 1) (by omega) (by omega) hx1 d_law_477 ?_
    refine lv_aload_n hx hb d_law_478 rfl (lv_at hl 1 rfl) ?_
    refine lv_iload hx hb d_law_479 (lv_at hl 0 rfl) ?_
    refine lv_iconst (v := nI 2) hx hb d_law_481 (by decide +kernel) ?_
    refine kn_add hx hb d_law_482 ?_
    refine ka_sld (v := (x2)) hx hb hX hbl hbA hS (i := 5 * k + 2) (by omega) (by omega) hx2 d_law_483 ?_
    refine lv_aload_n hx hb d_law_484 rfl (lv_at hl 4 rfl) ?_
    have hP := kc_swapP hP
    have hD := kc_swapD hD
    refine kc_goI (wr := kc_Mw g cJ cI cX (fl) (Pm) (La) (Co) (Mv) (M)) (ws := kc_CO ob (Ou) h cJ cI (P) (L) (N) (Sd)) (kt_runSW (n := 4) (As := [.ref (h 0), .int (x1), .int (x2), .ref (ob)]) (rest := []) ⟨hx, hb, hml, hown, hts⟩ (c_L_digest_x l D h cJ cI cX P L N Sd ob Ou H.size hfl aS bS x1 x2 hbad) rfl rfl ⟨by decide, by decide⟩ kw_172 kw_173 kw_0 kw_174 (by decide +kernel) (kc_preSE (wr := kc_Mw g cJ cI cX (fl) (Pm) (La) (Co) (Mv) (M)) (ws := kc_CO ob (Ou) h cJ cI (P) (L) (N) (Sd)) hK hP hD kl_okB (kl_okU hok haS hbS hS)) rfl rfl hl.1 rfl (lv_room (Nat.le_of_ble_eq_true rfl)) d_law_485 ⟨by show _ ≤ 601024; omega, by show _ ≤ 7293034; omega⟩) hP hD hS hA (fun r u H locs hp hP hD hS => ?_)
    have hP := kc_swapP hP
    have hD := kc_swapD hD
    subst hp
    have hP : va_P D kc_cl (kc_CO ob (Ou) h cJ cI (P) (L) (N) (Sd) ++ kc_Mw g cJ cI cX (fl) (Pm) (La) (Co) (Mv) (M)) H := hP
    have hD : va_D A (kc_CO ob (Ou) h cJ cI (P) (L) (N) (Sd) ++ kc_Mw g cJ cI cX (fl) (Pm) (La) (Co) (Mv) (M)) := hD
    refine lv_istore hx hb d_law_488 hl (by decide) rfl (fun ls hl => ?_)
    have hl : lv_has ls 8 [(5, .int (nI (1))), (4, .int (nI (5 * k))), (0, .ref (b)), (1, .ref (h 0)), (2, .ref (g 0)), (3, .ref (ob))] := hl
    refine lv_aload_n hx hb d_law_490 rfl (lv_at hl 4 rfl) ?_
    refine lv_aload_n hx hb d_law_491 rfl (lv_at hl 2 rfl) ?_
    refine lv_iload hx hb d_law_492 (lv_at hl 1 rfl) ?_
    refine lv_iconst (v := nI 1) hx hb d_law_494 (by decide +kernel) ?_
    refine kn_add hx hb d_law_495 ?_
    refine ka_sld (v := (x1)) hx hb hX hbl hbA hS (i := 5 * k + 1) (by omega) (by omega) hx1 d_law_496 ?_
    refine lv_aload_n hx hb d_law_497 rfl (lv_at hl 2 rfl) ?_
    refine lv_iload hx hb d_law_498 (lv_at hl 1 rfl) ?_
    refine lv_iconst (v := nI 2) hx hb d_law_500 (by decide +kernel) ?_
    refine kn_add hx hb d_law_501 ?_
    refine ka_sld (v := (x2)) hx hb hX hbl hbA hS (i := 5 * k + 2) (by omega) (by omega) hx2 d_law_502 ?_
    refine kc_goL (wr := kc_CO ob (Ou) h cJ cI (P) (L) (N) (Sd)) (ws := kc_Mw g cJ cI cX (fl) (Pm) (La) (Co) (Mv) (M)) (va_runV (As := [.int (x1), .int (x2)]) (rest := []) ⟨hx, hb, hml, hown, hts⟩ (c_M_digest_x l D g cJ cI cX (fl) Pm La Co Mv M H.size x1 x2 hbad) (cwV 2 hts (kc_inV kw_269 kw_270 kw_271 kw_3 kw_272) rfl rfl rfl (by decide +kernel) ⟨by decide, by decide⟩) (kc_preV (wr := kc_CO ob (Ou) h cJ cI (P) (L) (N) (Sd)) (q0 := 0) (ci := 2) hK hP hD rfl rfl) rfl rfl hl.1 rfl (lv_room (Nat.le_of_ble_eq_true rfl)) d_law_503 ⟨by show _ ≤ 601024; omega, by show _ ≤ 7293034; omega⟩) hP hD hS hA (fun r u H locs hp hP hD hS => ?_)
    have hP : va_P D kc_cl (kc_CO ob (Ou) h cJ cI (P) (L) (N) (Sd) ++ kc_Mw g cJ cI cX (nI (1)) (Pm) (La) (Co) (Mv) (M)) H := hP
    have hD : va_D A (kc_CO ob (Ou) h cJ cI (P) (L) (N) (Sd) ++ kc_Mw g cJ cI cX (nI (1)) (Pm) (La) (Co) (Mv) (M)) := hD
    obtain ⟨r1, e_r1⟩ : ∃ z, z = r := ⟨_, rfl⟩
    rw [← e_r1]
    refine lv_lstore hx hb d_law_506 hl (by decide) rfl (fun ls hl => ?_)
    have hl : lv_has ls 8 [(6, .long (r1)), (5, .int (nI (1))), (4, .int (nI (5 * k))), (0, .ref (b)), (1, .ref (h 0)), (2, .ref (g 0)), (3, .ref (ob))] := hl
    refine lv_aload_n hx hb d_law_508 rfl (lv_at hl 5 rfl) ?_
    refine kc_goI (wr := kc_CO ob (Ou) h cJ cI (P) (L) (N) (Sd)) (ws := kc_Mw g cJ cI cX (nI (1)) (Pm) (La) (Co) (Mv) (M)) (va_runV (As := []) (rest := []) ⟨hx, hb, hml, hown, hts⟩ (c_M_thrown l D g cJ cI cX (nI (1)) Pm La Co Mv M H.size ) (cwV 0 hts (kc_inV kw_213 kw_214 kw_215 kw_3 kw_216) rfl rfl rfl (by decide +kernel) ⟨by decide, by decide⟩) (kc_preV (wr := kc_CO ob (Ou) h cJ cI (P) (L) (N) (Sd)) (q0 := 0) (ci := 2) hK hP hD rfl rfl) rfl rfl hl.1 rfl (lv_room (Nat.le_of_ble_eq_true rfl)) d_law_509 ⟨by show _ ≤ 601024; omega, by show _ ≤ 7293034; omega⟩) hP hD hS hA (fun r u H locs hp hP hD hS => ?_)
    subst hp
    have hP : va_P D kc_cl (kc_CO ob (Ou) h cJ cI (P) (L) (N) (Sd) ++ kc_Mw g cJ cI cX (nI (1)) (Pm) (La) (Co) (Mv) (M)) H := hP
    have hD : va_D A (kc_CO ob (Ou) h cJ cI (P) (L) (N) (Sd) ++ kc_Mw g cJ cI cX (nI (1)) (Pm) (La) (Co) (Mv) (M)) := hD
    refine lv_iload hx hb d_law_512 (lv_at hl 1 rfl) ?_
    refine lv_icmp_eq (tgt := 519) hx hb d_law_514 (by decide) (fun _ => ?_) (fun hc => absurd hc (not_not_intro rfl))
    refine lv_iload hx hb d_law_519 (lv_at hl 1 rfl) ?_
    refine lv_if_ne (tgt := 535) hx hb d_law_521 (by decide) (fun _ => ?_) (fun hc => absurd hc (by decide))
    refine lv_goto (tgt := 538) hx hb d_law_535 (by decide) ?_
    have hl : lv_has ls 8 [(4, .int (nI (5 * k))), (0, .ref (b)), (1, .ref (h 0)), (2, .ref (g 0)), (3, .ref (ob))] := lv_sub hl [2, 3, 4, 5, 6] rfl
    refine W.widen (k := 24 + k + 1) (n := 623 + 6 * k + 6) (by omega) (by omega) ?_
    exact K H locs ls _ _ _ _ _ _ _ _ _ _ _ hl ⟨hP, hD, hS⟩ (ht)
  · obtain ⟨pp, hpp⟩ := id ht
    obtain ⟨t1, t2, t3, t4⟩ := hpp j hj
    refine lv_aload_n hx hb d_law_471 rfl (lv_at hl 2 rfl) ?_
    refine lv_aload_n hx hb d_law_472 rfl (lv_at hl 1 rfl) ?_
    refine lv_iload hx hb d_law_473 (lv_at hl 0 rfl) ?_
    refine lv_iconst (v := nI 1) hx hb d_law_475 (by decide +kernel) ?_
    refine kn_add hx hb d_law_476 ?_
    refine ka_sld (v := (nI (j))) hx hb hX hbl hbA hS (i := 5 * k + 1) (by omega) (by omega) hx1 d_law_477 ?_
    refine lv_aload_n hx hb d_law_478 rfl (lv_at hl 1 rfl) ?_
    refine lv_iload hx hb d_law_479 (lv_at hl 0 rfl) ?_
    refine lv_iconst (v := nI 2) hx hb d_law_481 (by decide +kernel) ?_
    refine kn_add hx hb d_law_482 ?_
    refine ka_sld (v := (nI (i))) hx hb hX hbl hbA hS (i := 5 * k + 2) (by omega) (by omega) hx2 d_law_483 ?_
    refine lv_aload_n hx hb d_law_484 rfl (lv_at hl 4 rfl) ?_
    have hP := kc_swapP hP
    have hD := kc_swapD hD
    refine kc_goI (wr := kc_Mw g cJ cI cX (fl) (Pm) (La) (Co) (Mv) (M)) (ws := kc_CO ob (Ou) h cJ cI (P) (L) (N) (Sd)) (kt_runSW (n := 4) (As := [.ref (h 0), .int (nI (j)), .int (nI (i)), .ref (ob)]) (rest := []) ⟨hx, hb, hml, hown, hts⟩ (c_L_digest_v l D h cJ cI cX P L N Sd ob Ou H.size j i (pp j) hj hi t2 t1) rfl rfl ⟨by decide, by decide⟩ kw_172 kw_173 kw_0 kw_174 (by decide +kernel) (kc_preSE (wr := kc_Mw g cJ cI cX (fl) (Pm) (La) (Co) (Mv) (M)) (ws := kc_CO ob (Ou) h cJ cI (P) (L) (N) (Sd)) (Ex := fun _ : State => True) hK hP hD (fun _ _ _ _ h9 => h9) (fun _ _ _ => trivial)) rfl rfl hl.1 rfl (lv_room (Nat.le_of_ble_eq_true rfl)) d_law_485 ⟨by show _ ≤ 601024; omega, by show _ ≤ 7293034; omega⟩) hP hD hS hA (fun r u H locs hp hP hD hS => ?_)
    have hP := kc_swapP hP
    have hD := kc_swapD hD
    obtain ⟨L1, N1, S1, Ou1⟩ := u
    obtain ⟨hr0, hf8, ho1⟩ := hp
    subst hr0
    have hP : va_P D kc_cl (kc_CO ob (Ou1) h cJ cI (upd P 8 (P j)) (L1) (N1) (S1) ++ kc_Mw g cJ cI cX (fl) (Pm) (La) (Co) (Mv) (M)) H := hP
    have hD : va_D A (kc_CO ob (Ou1) h cJ cI (upd P 8 (P j)) (L1) (N1) (S1) ++ kc_Mw g cJ cI cX (fl) (Pm) (La) (Co) (Mv) (M)) := hD
    refine lv_istore hx hb d_law_488 hl (by decide) rfl (fun ls hl => ?_)
    have hl : lv_has ls 8 [(5, .int (nI (0))), (4, .int (nI (5 * k))), (0, .ref (b)), (1, .ref (h 0)), (2, .ref (g 0)), (3, .ref (ob))] := hl
    refine lv_aload_n hx hb d_law_490 rfl (lv_at hl 4 rfl) ?_
    refine lv_aload_n hx hb d_law_491 rfl (lv_at hl 2 rfl) ?_
    refine lv_iload hx hb d_law_492 (lv_at hl 1 rfl) ?_
    refine lv_iconst (v := nI 1) hx hb d_law_494 (by decide +kernel) ?_
    refine kn_add hx hb d_law_495 ?_
    refine ka_sld (v := (nI (j))) hx hb hX hbl hbA hS (i := 5 * k + 1) (by omega) (by omega) hx1 d_law_496 ?_
    refine lv_aload_n hx hb d_law_497 rfl (lv_at hl 2 rfl) ?_
    refine lv_iload hx hb d_law_498 (lv_at hl 1 rfl) ?_
    refine lv_iconst (v := nI 2) hx hb d_law_500 (by decide +kernel) ?_
    refine kn_add hx hb d_law_501 ?_
    refine ka_sld (v := (nI (i))) hx hb hX hbl hbA hS (i := 5 * k + 2) (by omega) (by omega) hx2 d_law_502 ?_
    refine kc_goL (wr := kc_CO ob (Ou1) h cJ cI (upd P 8 (P j)) (L1) (N1) (S1)) (ws := kc_Mw g cJ cI cX (fl) (Pm) (La) (Co) (Mv) (M)) (va_runV (As := [.int (nI (j)), .int (nI (i))]) (rest := []) ⟨hx, hb, hml, hown, hts⟩ (c_M_digest_v l D g cJ cI cX (fl) Pm La Co Mv M H.size j i (pp j) hj hi t3 t1) (cwV 2 hts (kc_inV kw_269 kw_270 kw_271 kw_3 kw_272) rfl rfl rfl (by decide +kernel) ⟨by decide, by decide⟩) (kc_preV (wr := kc_CO ob (Ou1) h cJ cI (upd P 8 (P j)) (L1) (N1) (S1)) (q0 := 0) (ci := 2) hK hP hD rfl rfl) rfl rfl hl.1 rfl (lv_room (Nat.le_of_ble_eq_true rfl)) d_law_503 ⟨by show _ ≤ 601024; omega, by show _ ≤ 7293034; omega⟩) hP hD hS hA (fun r u H locs hp hP hD hS => ?_)
    obtain ⟨La1, Co1, Mv1⟩ := u
    subst hp
    have hP : va_P D kc_cl (kc_CO ob (Ou1) h cJ cI (upd P 8 (P j)) (L1) (N1) (S1) ++ kc_Mw g cJ cI cX (nI (0)) (Pm) (La1) (Co1) (Mv1) (M)) H := hP
    have hD : va_D A (kc_CO ob (Ou1) h cJ cI (upd P 8 (P j)) (L1) (N1) (S1) ++ kc_Mw g cJ cI cX (nI (0)) (Pm) (La1) (Co1) (Mv1) (M)) := hD
    refine lv_lstore hx hb d_law_506 hl (by decide) rfl (fun ls hl => ?_)
    have hl : lv_has ls 8 [(6, .long (kc_dig (kc_perm 24 (kc_pad (M j) (pp j)) i) 8)), (5, .int (nI (0))), (4, .int (nI (5 * k))), (0, .ref (b)), (1, .ref (h 0)), (2, .ref (g 0)), (3, .ref (ob))] := hl
    refine lv_aload_n hx hb d_law_508 rfl (lv_at hl 5 rfl) ?_
    refine kc_goI (wr := kc_CO ob (Ou1) h cJ cI (upd P 8 (P j)) (L1) (N1) (S1)) (ws := kc_Mw g cJ cI cX (nI (0)) (Pm) (La1) (Co1) (Mv1) (M)) (va_runV (As := []) (rest := []) ⟨hx, hb, hml, hown, hts⟩ (c_M_thrown l D g cJ cI cX (nI (0)) Pm La1 Co1 Mv1 M H.size ) (cwV 0 hts (kc_inV kw_213 kw_214 kw_215 kw_3 kw_216) rfl rfl rfl (by decide +kernel) ⟨by decide, by decide⟩) (kc_preV (wr := kc_CO ob (Ou1) h cJ cI (upd P 8 (P j)) (L1) (N1) (S1)) (q0 := 0) (ci := 2) hK hP hD rfl rfl) rfl rfl hl.1 rfl (lv_room (Nat.le_of_ble_eq_true rfl)) d_law_509 ⟨by show _ ≤ 601024; omega, by show _ ≤ 7293034; omega⟩) hP hD hS hA (fun r u H locs hp hP hD hS => ?_)
    subst hp
    have hP : va_P D kc_cl (kc_CO ob (Ou1) h cJ cI (upd P 8 (P j)) (L1) (N1) (S1) ++ kc_Mw g cJ cI cX (nI (0)) (Pm) (La1) (Co1) (Mv1) (M)) H := hP
    have hD : va_D A (kc_CO ob (Ou1) h cJ cI (upd P 8 (P j)) (L1) (N1) (S1) ++ kc_Mw g cJ cI cX (nI (0)) (Pm) (La1) (Co1) (Mv1) (M)) := hD
    refine lv_iload hx hb d_law_512 (lv_at hl 1 rfl) ?_
    refine lv_icmp_eq (tgt := 519) hx hb d_law_514 (by decide) (fun _ => ?_) (fun hc => absurd hc (not_not_intro rfl))
    refine lv_iload hx hb d_law_519 (lv_at hl 1 rfl) ?_
    refine lv_if_ne (tgt := 535) hx hb d_law_521 (by decide) (fun hc => absurd hc (not_not_intro rfl)) (fun _ => ?_)
    refine lv_aload_n hx hb d_law_524 rfl (lv_at hl 6 rfl) ?_
    refine lv_iconst (v := nI 0) hx hb d_law_525 (by decide +kernel) ?_
    refine ka_lald (f := Ou1) hx hb hK hP 0 0 rfl rfl (i := 0) (by omega) (by decide) d_law_526 ?_
    refine lv_lload hx hb d_law_527 (lv_at hl 0 rfl) ?_
    refine ka_lcmp hx hb (by show Ou1 0 = _; rw [show Ou1 0 = _ from ho1, kc_eq_perm (kc_eq_pad t4 (pp j)) 24 i (by omega)]) d_law_529 ?_
    refine lv_if_eq (tgt := 535) hx hb d_law_530 (by decide) (fun _ => ?_) (fun hc => absurd hc (not_not_intro rfl))
    refine lv_goto (tgt := 538) hx hb d_law_535 (by decide) ?_
    have hl : lv_has ls 8 [(4, .int (nI (5 * k))), (0, .ref (b)), (1, .ref (h 0)), (2, .ref (g 0)), (3, .ref (ob))] := lv_sub hl [2, 3, 4, 5, 6] rfl
    refine W.widen (k := 24 + k + 1) (n := 623 + 6 * k + 6) (by omega) (by omega) ?_
    exact K H locs ls _ _ _ _ _ _ _ _ _ _ _ hl ⟨hP, hD, hS⟩ (kc_tie_eight ht (fun i9 h9 => pk_un (by omega)) hf8)
set_option maxHeartbeats 8000000 in
theorem law_take (hfl : l.flags = flags0) (S : CallFix p m c code 8 s #[Value.ref b] kc_tbl R_L) (hK : va_K D kc_cl (kc_ty cJ cI cX) s) (hX : va_X b L0 xs s s.heap) (hbl : b < s.heap.size) (hbA : ¬ A b) (hA : ∀ q, s.heap.size ≤ q → A q) (hok : kt_ok aS bS s) (haS : aS < s.heap.size ∧ ¬ A aS) (hbS : bS < s.heap.size ∧ ¬ A bS) (hk : k ≤ 512) (hk5 : 5 * k + 5 ≤ L0) (hL0 : L0 ≤ 2560) (hl : lv_has ls 8 [(4, .int (nI (5 * k))), (0, .ref (b)), (1, .ref (h 0)), (2, .ref (g 0)), (3, .ref (ob))]) (hw : kc_at D A s.heap H locs (kc_CO ob Ou h cJ cI P L N Sd ++ kc_Mw g cJ cI cX fl Pm La Co Mv M)) (ht : kc_tie P L Pm M) (K : ∀ (H : Heap) (locs : List Loc) (ls : Array Slot) (P : Nat → Int32) (L N Sd Ou : Nat → Int64) (fl : Int32) (Pm : Nat → Int32) (La Co Mv : Nat → Int64) (M : Nat → Nat → Int64), lv_has ls 8 [(4, .int (nI (5 * k))), (0, .ref (b)), (1, .ref (h 0)), (2, .ref (g 0)), (3, .ref (ob))] → kc_at D A s.heap H locs (kc_CO ob Ou h cJ cI P L N Sd ++ kc_Mw g cJ cI cX fl Pm La Co Mv M) → kc_tie P L Pm M → W p l e room_1 s m #[Value.ref b] below meth c H locs (24 + k + 1) (623 + 6 * k + 6) Q (F0 m 538 ls [])) : W p l e room_1 s m #[Value.ref b] below meth c H locs (24 + k) (623 + 6 * k) Q (F0 m 116 ls []) := by
  obtain ⟨hx, hb, hml, hown, hts⟩ := S
  obtain ⟨hP, hD, hS⟩ := hw
  obtain ⟨x1, hx1⟩ : ∃ z, z = xs (5 * k + 1) := ⟨_, rfl⟩
  obtain ⟨x2, hx2⟩ : ∃ z, z = xs (5 * k + 2) := ⟨_, rfl⟩
  obtain ⟨x3, hx3⟩ : ∃ z, z = xs (5 * k + 3) := ⟨_, rfl⟩
  obtain ⟨x4, hx4⟩ : ∃ z, z = xs (5 * k + 4) := ⟨_, rfl⟩
  obtain ⟨v0, hv0⟩ : ∃ z, z = (((x2.toInt64) <<< ((nI 32).toInt64 &&& 63)) ||| ((x3.toInt64) &&& 4294967295)) := ⟨_, rfl⟩
  rcases (show ((x1 < 0 ∨ nI 8 ≤ x1) ∨ (∃ j, j < 8 ∧ x1 = nI j) ∧ (x4 < 0 ∨ nI 9 ≤ x4)) ∨ ∃ j : Nat, j < 8 ∧ x1 = nI j ∧ ∃ i : Nat, i < 9 ∧ x4 = nI i from by rcases pk_ix x1 (n := 8) (by decide) with h9 | h9 | h9; exact Or.inl (Or.inl (Or.inl h9)); exact Or.inl (Or.inl (Or.inr h9)); rcases pk_ix x4 (n := 9) (by decide) with h8 | h8 | h8; exact Or.inl (Or.inr ⟨h9, Or.inl h8⟩); exact Or.inl (Or.inr ⟨h9, Or.inr h8⟩); obtain ⟨j, hj, e1⟩ := h9; exact Or.inr ⟨j, hj, e1, h8⟩) with hbad | ⟨j, hj, rfl, i, hi, rfl⟩
  · refine lv_aload_n hx hb d_law_116 rfl (lv_at hl 2 rfl) ?_
    refine lv_aload_n hx hb d_law_117 rfl (lv_at hl 1 rfl) ?_
    refine lv_iload hx hb d_law_118 (lv_at hl 0 rfl) ?_
    refine lv_iconst (v := nI 1) hx hb d_law_120 (by decide +kernel) ?_
    refine kn_add hx hb d_law_121 ?_
    refine ka_sld (v := (x1)) hx hb hX hbl hbA hS (i := 5 * k + 1) (by omega) (by omega) hx1 d_law_122 ?_
    refine lv_aload_n hx hb d_law_123 rfl (lv_at hl 1 rfl) ?_
    refine lv_iload hx hb d_law_124 (lv_at hl 0 rfl) ?_
    refine lv_iconst (v := nI 2) hx hb d_law_126 (by decide +kernel) ?_
    refine kn_add hx hb d_law_127 ?_
    refine ka_sld (v := (x2)) hx hb hX hbl hbA hS (i := 5 * k + 2) (by omega) (by omega) hx2 d_law_128 ?_
    refine lv_i2l hx hb d_law_129 rfl ?_
    refine lv_bipush (v := nI 32) hx hb d_law_130 (by decide +kernel) ?_
    refine lv_lshl hx hb d_law_132 rfl ?_
    refine lv_aload_n hx hb d_law_133 rfl (lv_at hl 1 rfl) ?_
    refine lv_iload hx hb d_law_134 (lv_at hl 0 rfl) ?_
    refine lv_iconst (v := nI 3) hx hb d_law_136 (by decide +kernel) ?_
    refine kn_add hx hb d_law_137 ?_
    refine ka_sld (v := (x3)) hx hb hX hbl hbA hS (i := 5 * k + 3) (by omega) (by omega) hx3 d_law_138 ?_
    refine lv_i2l hx hb d_law_139 rfl ?_
    refine lv_ldc2 (v := (4294967295)) hx hb hown (hts _ kw_275) d_law_140 ?_
    refine lv_land hx hb d_law_143 ?_
    refine lv_lor hx hb d_law_144 ?_
    refine kv_l (y := (v0)) (hv0.symm) ?_
    refine lv_aload_n hx hb d_law_145 rfl (lv_at hl 1 rfl) ?_
    refine lv_iload hx hb d_law_146 (lv_at hl 0 rfl) ?_
    refine lv_iconst (v := nI 4) hx hb d_law_148 (by decide +kernel) ?_
    refine kn_add hx hb d_law_149 ?_
    refine ka_sld (v := (x4)) hx hb hX hbl hbA hS (i := 5 * k + 4) (by omega) (by omega) hx4 d_law_150 ?_
    refine lv_aload_n hx hb d_law_151 rfl (lv_at hl 4 rfl) ?_
    have hP := kc_swapP hP
    have hD := kc_swapD hD
    refine kc_goI (wr := kc_Mw g cJ cI cX (fl) (Pm) (La) (Co) (Mv) (M)) (ws := kc_CO ob (Ou) h cJ cI (P) (L) (N) (Sd)) (kt_runSW (n := 5) (As := [.ref (h 0), .int (x1), .long (v0), .int (x4), .ref (ob)]) (rest := []) ⟨hx, hb, hml, hown, hts⟩ (c_L_take_x l D h cJ cI cX P L N Sd ob Ou H.size hfl aS bS x1 x4 v0 hbad) rfl rfl ⟨by decide, by decide⟩ kw_120 kw_121 kw_0 kw_122 (by decide +kernel) (kc_preSE (wr := kc_Mw g cJ cI cX (fl) (Pm) (La) (Co) (Mv) (M)) (ws := kc_CO ob (Ou) h cJ cI (P) (L) (N) (Sd)) hK hP hD kl_okB (kl_okU hok haS hbS hS)) rfl rfl hl.1 rfl (lv_room (Nat.le_of_ble_eq_true rfl)) d_law_152 ⟨by show _ ≤ 601024; omega, by show _ ≤ 7293034; omega⟩) hP hD hS hA (fun r u H locs hp hP hD hS => ?_)
    have hP := kc_swapP hP
    have hD := kc_swapD hD
    subst hp
    have hP : va_P D kc_cl (kc_CO ob (Ou) h cJ cI (P) (L) (N) (Sd) ++ kc_Mw g cJ cI cX (fl) (Pm) (La) (Co) (Mv) (M)) H := hP
    have hD : va_D A (kc_CO ob (Ou) h cJ cI (P) (L) (N) (Sd) ++ kc_Mw g cJ cI cX (fl) (Pm) (La) (Co) (Mv) (M)) := hD
    refine lv_istore hx hb d_law_155 hl (by decide) rfl (fun ls hl => ?_)
    have hl : lv_has ls 8 [(5, .int (nI (1))), (4, .int (nI (5 * k))), (0, .ref (b)), (1, .ref (h 0)), (2, .ref (g 0)), (3, .ref (ob))] := hl
    refine lv_aload_n hx hb d_law_157 rfl (lv_at hl 4 rfl) ?_
    refine lv_aload_n hx hb d_law_158 rfl (lv_at hl 2 rfl) ?_
    refine lv_iload hx hb d_law_159 (lv_at hl 1 rfl) ?_
    refine lv_iconst (v := nI 1) hx hb d_law_161 (by decide +kernel) ?_
    refine kn_add hx hb d_law_162 ?_
    refine ka_sld (v := (x1)) hx hb hX hbl hbA hS (i := 5 * k + 1) (by omega) (by omega) hx1 d_law_163 ?_
    refine lv_aload_n hx hb d_law_164 rfl (lv_at hl 2 rfl) ?_
    refine lv_iload hx hb d_law_165 (lv_at hl 1 rfl) ?_
    refine lv_iconst (v := nI 2) hx hb d_law_167 (by decide +kernel) ?_
    refine kn_add hx hb d_law_168 ?_
    refine ka_sld (v := (x2)) hx hb hX hbl hbA hS (i := 5 * k + 2) (by omega) (by omega) hx2 d_law_169 ?_
    refine lv_i2l hx hb d_law_170 rfl ?_
    refine lv_bipush (v := nI 32) hx hb d_law_171 (by decide +kernel) ?_
    refine lv_lshl hx hb d_law_173 rfl ?_
    refine lv_aload_n hx hb d_law_174 rfl (lv_at hl 2 rfl) ?_
    refine lv_iload hx hb d_law_175 (lv_at hl 1 rfl) ?_
    refine lv_iconst (v := nI 3) hx hb d_law_177 (by decide +kernel) ?_
    refine kn_add hx hb d_law_178 ?_
    refine ka_sld (v := (x3)) hx hb hX hbl hbA hS (i := 5 * k + 3) (by omega) (by omega) hx3 d_law_179 ?_
    refine lv_i2l hx hb d_law_180 rfl ?_
    refine lv_ldc2 (v := (4294967295)) hx hb hown (hts _ kw_275) d_law_181 ?_
    refine lv_land hx hb d_law_184 ?_
    refine lv_lor hx hb d_law_185 ?_
    refine kv_l (y := (v0)) (hv0.symm) ?_
    refine lv_aload_n hx hb d_law_186 rfl (lv_at hl 2 rfl) ?_
    refine lv_iload hx hb d_law_187 (lv_at hl 1 rfl) ?_
    refine lv_iconst (v := nI 4) hx hb d_law_189 (by decide +kernel) ?_
    refine kn_add hx hb d_law_190 ?_
    refine ka_sld (v := (x4)) hx hb hX hbl hbA hS (i := 5 * k + 4) (by omega) (by omega) hx4 d_law_191 ?_
    refine kc_goI (wr := kc_CO ob (Ou) h cJ cI (P) (L) (N) (Sd)) (ws := kc_Mw g cJ cI cX (fl) (Pm) (La) (Co) (Mv) (M)) (va_runV (As := [.int (x1), .long (v0), .int (x4)]) (rest := []) ⟨hx, hb, hml, hown, hts⟩ (c_M_take_x l D g cJ cI cX (fl) Pm La Co Mv M H.size x1 x4 v0 hbad) (cwV 3 hts (kc_inV kw_225 kw_226 kw_227 kw_3 kw_228) rfl rfl rfl (by decide +kernel) ⟨by decide, by decide⟩) (kc_preV (wr := kc_CO ob (Ou) h cJ cI (P) (L) (N) (Sd)) (q0 := 0) (ci := 2) hK hP hD rfl rfl) rfl rfl hl.1 rfl (lv_room (Nat.le_of_ble_eq_true rfl)) d_law_192 ⟨by show _ ≤ 601024; omega, by show _ ≤ 7293034; omega⟩) hP hD hS hA (fun r u H locs hp hP hD hS => ?_)
    have hP : va_P D kc_cl (kc_CO ob (Ou) h cJ cI (P) (L) (N) (Sd) ++ kc_Mw g cJ cI cX (nI (1)) (Pm) (La) (Co) (Mv) (M)) H := hP
    have hD : va_D A (kc_CO ob (Ou) h cJ cI (P) (L) (N) (Sd) ++ kc_Mw g cJ cI cX (nI (1)) (Pm) (La) (Co) (Mv) (M)) := hD
    obtain ⟨r1, e_r1⟩ : ∃ z, z = r := ⟨_, rfl⟩
    rw [← e_r1]
    refine lv_istore hx hb d_law_195 hl (by decide) rfl (fun ls hl => ?_)
    have hl : lv_has ls 8 [(6, .int (r1)), (5, .int (nI (1))), (4, .int (nI (5 * k))), (0, .ref (b)), (1, .ref (h 0)), (2, .ref (g 0)), (3, .ref (ob))] := hl
    refine lv_aload_n hx hb d_law_197 rfl (lv_at hl 5 rfl) ?_
    refine kc_goI (wr := kc_CO ob (Ou) h cJ cI (P) (L) (N) (Sd)) (ws := kc_Mw g cJ cI cX (nI (1)) (Pm) (La) (Co) (Mv) (M)) (va_runV (As := []) (rest := []) ⟨hx, hb, hml, hown, hts⟩ (c_M_thrown l D g cJ cI cX (nI (1)) Pm La Co Mv M H.size ) (cwV 0 hts (kc_inV kw_213 kw_214 kw_215 kw_3 kw_216) rfl rfl rfl (by decide +kernel) ⟨by decide, by decide⟩) (kc_preV (wr := kc_CO ob (Ou) h cJ cI (P) (L) (N) (Sd)) (q0 := 0) (ci := 2) hK hP hD rfl rfl) rfl rfl hl.1 rfl (lv_room (Nat.le_of_ble_eq_true rfl)) d_law_198 ⟨by show _ ≤ 601024; omega, by show _ ≤ 7293034; omega⟩) hP hD hS hA (fun r u H locs hp hP hD hS => ?_)
    subst hp
    have hP : va_P D kc_cl (kc_CO ob (Ou) h cJ cI (P) (L) (N) (Sd) ++ kc_Mw g cJ cI cX (nI (1)) (Pm) (La) (Co) (Mv) (M)) H := hP
    have hD : va_D A (kc_CO ob (Ou) h cJ cI (P) (L) (N) (Sd) ++ kc_Mw g cJ cI cX (nI (1)) (Pm) (La) (Co) (Mv) (M)) := hD
    refine lv_iload hx hb d_law_201 (lv_at hl 1 rfl) ?_
    refine lv_icmp_eq (tgt := 208) hx hb d_law_203 (by decide) (fun _ => ?_) (fun hc => absurd hc (not_not_intro rfl))
    refine lv_iload hx hb d_law_208 (lv_at hl 1 rfl) ?_
    refine lv_if_ne (tgt := 225) hx hb d_law_210 (by decide) (fun _ => ?_) (fun hc => absurd hc (by decide))
    refine lv_goto (tgt := 538) hx hb d_law_225 (by decide) ?_
    have hl : lv_has ls 8 [(4, .int (nI (5 * k))), (0, .ref (b)), (1, .ref (h 0)), (2, .ref (g 0)), (3, .ref (ob))] := lv_sub hl [2, 3, 4, 5, 6] rfl
    refine W.widen (k := 24 + k + 1) (n := 623 + 6 * k + 6) (by omega) (by omega) ?_
    exact K H locs ls _ _ _ _ _ _ _ _ _ _ _ hl ⟨hP, hD, hS⟩ (ht)
  · obtain ⟨pp, hpp⟩ := id ht
    obtain ⟨t1, t2, t3, t4⟩ := hpp j hj
    have hsm := kc_same_steps (q := (kc_row L j, pp j)) (r := (M j, pp j)) ⟨t4, rfl⟩ (kc_vs v0) i
    refine lv_aload_n hx hb d_law_116 rfl (lv_at hl 2 rfl) ?_
    refine lv_aload_n hx hb d_law_117 rfl (lv_at hl 1 rfl) ?_
    refine lv_iload hx hb d_law_118 (lv_at hl 0 rfl) ?_
    refine lv_iconst (v := nI 1) hx hb d_law_120 (by decide +kernel) ?_
    refine kn_add hx hb d_law_121 ?_
    refine ka_sld (v := (nI (j))) hx hb hX hbl hbA hS (i := 5 * k + 1) (by omega) (by omega) hx1 d_law_122 ?_
    refine lv_aload_n hx hb d_law_123 rfl (lv_at hl 1 rfl) ?_
    refine lv_iload hx hb d_law_124 (lv_at hl 0 rfl) ?_
    refine lv_iconst (v := nI 2) hx hb d_law_126 (by decide +kernel) ?_
    refine kn_add hx hb d_law_127 ?_
    refine ka_sld (v := (x2)) hx hb hX hbl hbA hS (i := 5 * k + 2) (by omega) (by omega) hx2 d_law_128 ?_
    refine lv_i2l hx hb d_law_129 rfl ?_
    refine lv_bipush (v := nI 32) hx hb d_law_130 (by decide +kernel) ?_
    refine lv_lshl hx hb d_law_132 rfl ?_
    refine lv_aload_n hx hb d_law_133 rfl (lv_at hl 1 rfl) ?_
    refine lv_iload hx hb d_law_134 (lv_at hl 0 rfl) ?_
    refine lv_iconst (v := nI 3) hx hb d_law_136 (by decide +kernel) ?_
    refine kn_add hx hb d_law_137 ?_
    refine ka_sld (v := (x3)) hx hb hX hbl hbA hS (i := 5 * k + 3) (by omega) (by omega) hx3 d_law_138 ?_
    refine lv_i2l hx hb d_law_139 rfl ?_
    refine lv_ldc2 (v := (4294967295)) hx hb hown (hts _ kw_275) d_law_140 ?_
    refine lv_land hx hb d_law_143 ?_
    refine lv_lor hx hb d_law_144 ?_
    refine kv_l (y := (v0)) (hv0.symm) ?_
    refine lv_aload_n hx hb d_law_145 rfl (lv_at hl 1 rfl) ?_
    refine lv_iload hx hb d_law_146 (lv_at hl 0 rfl) ?_
    refine lv_iconst (v := nI 4) hx hb d_law_148 (by decide +kernel) ?_
    refine kn_add hx hb d_law_149 ?_
    refine ka_sld (v := (nI (i))) hx hb hX hbl hbA hS (i := 5 * k + 4) (by omega) (by omega) hx4 d_law_150 ?_
    refine lv_aload_n hx hb d_law_151 rfl (lv_at hl 4 rfl) ?_
    have hP := kc_swapP hP
    have hD := kc_swapD hD
    refine kc_goI (wr := kc_Mw g cJ cI cX (fl) (Pm) (La) (Co) (Mv) (M)) (ws := kc_CO ob (Ou) h cJ cI (P) (L) (N) (Sd)) (kt_runSW (n := 5) (As := [.ref (h 0), .int (nI (j)), .long (v0), .int (nI (i)), .ref (ob)]) (rest := []) ⟨hx, hb, hml, hown, hts⟩ (c_L_take_v l D h cJ cI cX P L N Sd ob Ou H.size j i (pp j) v0 hj (by omega) t2 t1) rfl rfl ⟨by decide, by decide⟩ kw_120 kw_121 kw_0 kw_122 (by decide +kernel) (kc_preSE (wr := kc_Mw g cJ cI cX (fl) (Pm) (La) (Co) (Mv) (M)) (ws := kc_CO ob (Ou) h cJ cI (P) (L) (N) (Sd)) (Ex := fun _ : State => True) hK hP hD (fun _ _ _ _ h9 => h9) (fun _ _ _ => trivial)) rfl rfl hl.1 rfl (lv_room (Nat.le_of_ble_eq_true rfl)) d_law_152 ⟨by show _ ≤ 601024; omega, by show _ ≤ 7293034; omega⟩) hP hD hS hA (fun r u H locs hp hP hD hS => ?_)
    have hP := kc_swapP hP
    have hD := kc_swapD hD
    obtain ⟨P1, L1, N1, S1, Ou1⟩ := u
    obtain ⟨hr0, hq1, hq2, hq3, hq4, hq5⟩ := hp
    subst hr0
    have hP : va_P D kc_cl (kc_CO ob (Ou1) h cJ cI (P1) (L1) (N1) (S1) ++ kc_Mw g cJ cI cX (fl) (Pm) (La) (Co) (Mv) (M)) H := hP
    have hD : va_D A (kc_CO ob (Ou1) h cJ cI (P1) (L1) (N1) (S1) ++ kc_Mw g cJ cI cX (fl) (Pm) (La) (Co) (Mv) (M)) := hD
    refine lv_istore hx hb d_law_155 hl (by decide) rfl (fun ls hl => ?_)
    have hl : lv_has ls 8 [(5, .int (nI (0))), (4, .int (nI (5 * k))), (0, .ref (b)), (1, .ref (h 0)), (2, .ref (g 0)), (3, .ref (ob))] := hl
    refine lv_aload_n hx hb d_law_157 rfl (lv_at hl 4 rfl) ?_
    refine lv_aload_n hx hb d_law_158 rfl (lv_at hl 2 rfl) ?_
    refine lv_iload hx hb d_law_159 (lv_at hl 1 rfl) ?_
    refine lv_iconst (v := nI 1) hx hb d_law_161 (by decide +kernel) ?_
    refine kn_add hx hb d_law_162 ?_
    refine ka_sld (v := (nI (j))) hx hb hX hbl hbA hS (i := 5 * k + 1) (by omega) (by omega) hx1 d_law_163 ?_
    refine lv_aload_n hx hb d_law_164 rfl (lv_at hl 2 rfl) ?_
    refine lv_iload hx hb d_law_165 (lv_at hl 1 rfl) ?_
    refine lv_iconst (v := nI 2) hx hb d_law_167 (by decide +kernel) ?_
    refine kn_add hx hb d_law_168 ?_
    refine ka_sld (v := (x2)) hx hb hX hbl hbA hS (i := 5 * k + 2) (by omega) (by omega) hx2 d_law_169 ?_
    refine lv_i2l hx hb d_law_170 rfl ?_
    refine lv_bipush (v := nI 32) hx hb d_law_171 (by decide +kernel) ?_
    refine lv_lshl hx hb d_law_173 rfl ?_
    refine lv_aload_n hx hb d_law_174 rfl (lv_at hl 2 rfl) ?_
    refine lv_iload hx hb d_law_175 (lv_at hl 1 rfl) ?_
    refine lv_iconst (v := nI 3) hx hb d_law_177 (by decide +kernel) ?_
    refine kn_add hx hb d_law_178 ?_
    refine ka_sld (v := (x3)) hx hb hX hbl hbA hS (i := 5 * k + 3) (by omega) (by omega) hx3 d_law_179 ?_
    refine lv_i2l hx hb d_law_180 rfl ?_
    refine lv_ldc2 (v := (4294967295)) hx hb hown (hts _ kw_275) d_law_181 ?_
    refine lv_land hx hb d_law_184 ?_
    refine lv_lor hx hb d_law_185 ?_
    refine kv_l (y := (v0)) (hv0.symm) ?_
    refine lv_aload_n hx hb d_law_186 rfl (lv_at hl 2 rfl) ?_
    refine lv_iload hx hb d_law_187 (lv_at hl 1 rfl) ?_
    refine lv_iconst (v := nI 4) hx hb d_law_189 (by decide +kernel) ?_
    refine kn_add hx hb d_law_190 ?_
    refine ka_sld (v := (nI (i))) hx hb hX hbl hbA hS (i := 5 * k + 4) (by omega) (by omega) hx4 d_law_191 ?_
    refine kc_goI (wr := kc_CO ob (Ou1) h cJ cI (P1) (L1) (N1) (S1)) (ws := kc_Mw g cJ cI cX (fl) (Pm) (La) (Co) (Mv) (M)) (va_runV (As := [.int (nI (j)), .long (v0), .int (nI (i))]) (rest := []) ⟨hx, hb, hml, hown, hts⟩ (c_M_take_v l D g cJ cI cX (fl) Pm La Co Mv M H.size j i (pp j) v0 hj (by omega) t3 t1) (cwV 3 hts (kc_inV kw_225 kw_226 kw_227 kw_3 kw_228) rfl rfl rfl (by decide +kernel) ⟨by decide, by decide⟩) (kc_preV (wr := kc_CO ob (Ou1) h cJ cI (P1) (L1) (N1) (S1)) (q0 := 0) (ci := 2) hK hP hD rfl rfl) rfl rfl hl.1 rfl (lv_room (Nat.le_of_ble_eq_true rfl)) d_law_192 ⟨by show _ ≤ 601024; omega, by show _ ≤ 7293034; omega⟩) hP hD hS hA (fun r u H locs hp hP hD hS => ?_)
    obtain ⟨u1, Pm1, La1, Co1, Mv1⟩ := u
    obtain ⟨hm1, hm2, hm3, hm4⟩ := hp
    subst hm4
    have hP : va_P D kc_cl (kc_CO ob (Ou1) h cJ cI (P1) (L1) (N1) (S1) ++ kc_Mw g cJ cI cX (nI (0)) (Pm1) (La1) (Co1) (Mv1) (va_up M j u1)) H := hP
    have hD : va_D A (kc_CO ob (Ou1) h cJ cI (P1) (L1) (N1) (S1) ++ kc_Mw g cJ cI cX (nI (0)) (Pm1) (La1) (Co1) (Mv1) (va_up M j u1)) := hD
    refine lv_istore hx hb d_law_195 hl (by decide) rfl (fun ls hl => ?_)
    have hl : lv_has ls 8 [(6, .int (nI ((kc_steps (kc_vs v0) i (M j, pp j)).2))), (5, .int (nI (0))), (4, .int (nI (5 * k))), (0, .ref (b)), (1, .ref (h 0)), (2, .ref (g 0)), (3, .ref (ob))] := hl
    refine lv_aload_n hx hb d_law_197 rfl (lv_at hl 5 rfl) ?_
    refine kc_goI (wr := kc_CO ob (Ou1) h cJ cI (P1) (L1) (N1) (S1)) (ws := kc_Mw g cJ cI cX (nI (0)) (Pm1) (La1) (Co1) (Mv1) (va_up M j u1)) (va_runV (As := []) (rest := []) ⟨hx, hb, hml, hown, hts⟩ (c_M_thrown l D g cJ cI cX (nI (0)) Pm1 La1 Co1 Mv1 (va_up M j u1) H.size ) (cwV 0 hts (kc_inV kw_213 kw_214 kw_215 kw_3 kw_216) rfl rfl rfl (by decide +kernel) ⟨by decide, by decide⟩) (kc_preV (wr := kc_CO ob (Ou1) h cJ cI (P1) (L1) (N1) (S1)) (q0 := 0) (ci := 2) hK hP hD rfl rfl) rfl rfl hl.1 rfl (lv_room (Nat.le_of_ble_eq_true rfl)) d_law_198 ⟨by show _ ≤ 601024; omega, by show _ ≤ 7293034; omega⟩) hP hD hS hA (fun r u H locs hp hP hD hS => ?_)
    subst hp
    have hP : va_P D kc_cl (kc_CO ob (Ou1) h cJ cI (P1) (L1) (N1) (S1) ++ kc_Mw g cJ cI cX (nI (0)) (Pm1) (La1) (Co1) (Mv1) (va_up M j u1)) H := hP
    have hD : va_D A (kc_CO ob (Ou1) h cJ cI (P1) (L1) (N1) (S1) ++ kc_Mw g cJ cI cX (nI (0)) (Pm1) (La1) (Co1) (Mv1) (va_up M j u1)) := hD
    refine lv_iload hx hb d_law_201 (lv_at hl 1 rfl) ?_
    refine lv_icmp_eq (tgt := 208) hx hb d_law_203 (by decide) (fun _ => ?_) (fun hc => absurd hc (not_not_intro rfl))
    refine lv_iload hx hb d_law_208 (lv_at hl 1 rfl) ?_
    refine lv_if_ne (tgt := 225) hx hb d_law_210 (by decide) (fun hc => absurd hc (not_not_intro rfl)) (fun _ => ?_)
    refine lv_aload_n hx hb d_law_213 rfl (lv_at hl 6 rfl) ?_
    refine lv_iconst (v := nI 0) hx hb d_law_214 (by decide +kernel) ?_
    refine ka_lald (f := Ou1) hx hb hK hP 0 0 rfl rfl (i := 0) (by omega) (by decide) d_law_215 ?_
    refine lv_iload hx hb d_law_216 (lv_at hl 0 rfl) ?_
    refine lv_i2l hx hb d_law_218 rfl ?_
    refine ka_lcmp hx hb (by rw [show Ou1 0 = _ from hq5, hsm.2]) d_law_219 ?_
    refine lv_if_eq (tgt := 225) hx hb d_law_220 (by decide) (fun _ => ?_) (fun hc => absurd hc (not_not_intro rfl))
    refine lv_goto (tgt := 538) hx hb d_law_225 (by decide) ?_
    have hl : lv_has ls 8 [(4, .int (nI (5 * k))), (0, .ref (b)), (1, .ref (h 0)), (2, .ref (g 0)), (3, .ref (ob))] := lv_sub hl [2, 3, 4, 5, 6] rfl
    refine W.widen (k := 24 + k + 1) (n := 623 + 6 * k + 6) (by omega) (by omega) ?_
    exact K H locs ls _ _ _ _ _ _ _ _ _ _ _ hl ⟨hP, hD, hS⟩ (kc_tie_set (a := (kc_steps (kc_vs v0) i (M j, pp j)).1) ht (kc_steps_lt (q := (M j, pp j)) t1 _ _) (show P1 j = _ from hq2.trans (congrArg nI hsm.2)) (fun i9 _ h9 => hq3 i9 h9) hm2 (fun i9 _ h9 => hm3 i9 h9) hq4 (kc_eq.trans hq1 hsm.1) hm1)
set_option maxHeartbeats 8000000 in
theorem law_fill (hfl : l.flags = flags0) (S : CallFix p m c code 8 s #[Value.ref b] kc_tbl R_L) (hK : va_K D kc_cl (kc_ty cJ cI cX) s) (hX : va_X b L0 xs s s.heap) (hbl : b < s.heap.size) (hbA : ¬ A b) (hA : ∀ q, s.heap.size ≤ q → A q) (hok : kt_ok aS bS s) (haS : aS < s.heap.size ∧ ¬ A aS) (hbS : bS < s.heap.size ∧ ¬ A bS) (hk : k ≤ 512) (hk5 : 5 * k + 5 ≤ L0) (hL0 : L0 ≤ 2560) (hl : lv_has ls 8 [(4, .int (nI (5 * k))), (0, .ref (b)), (1, .ref (h 0)), (2, .ref (g 0)), (3, .ref (ob))]) (hw : kc_at D A s.heap H locs (kc_CO ob Ou h cJ cI P L N Sd ++ kc_Mw g cJ cI cX fl Pm La Co Mv M)) (ht : kc_tie P L Pm M) (K : ∀ (H : Heap) (locs : List Loc) (ls : Array Slot) (P : Nat → Int32) (L N Sd Ou : Nat → Int64) (fl : Int32) (Pm : Nat → Int32) (La Co Mv : Nat → Int64) (M : Nat → Nat → Int64), lv_has ls 8 [(4, .int (nI (5 * k))), (0, .ref (b)), (1, .ref (h 0)), (2, .ref (g 0)), (3, .ref (ob))] → kc_at D A s.heap H locs (kc_CO ob Ou h cJ cI P L N Sd ++ kc_Mw g cJ cI cX fl Pm La Co Mv M) → kc_tie P L Pm M → W p l e room_1 s m #[Value.ref b] below meth c H locs (24 + k + 1) (623 + 6 * k + 6) Q (F0 m 538 ls [])) : W p l e room_1 s m #[Value.ref b] below meth c H locs (24 + k) (623 + 6 * k) Q (F0 m 228 ls []) := by
  obtain ⟨hx, hb, hml, hown, hts⟩ := S
  obtain ⟨hP, hD, hS⟩ := hw
  obtain ⟨x1, hx1⟩ : ∃ z, z = xs (5 * k + 1) := ⟨_, rfl⟩
  obtain ⟨x2, hx2⟩ : ∃ z, z = xs (5 * k + 2) := ⟨_, rfl⟩
  obtain ⟨x3, hx3⟩ : ∃ z, z = xs (5 * k + 3) := ⟨_, rfl⟩
  obtain ⟨x4, hx4⟩ : ∃ z, z = xs (5 * k + 4) := ⟨_, rfl⟩
  rcases (show ((x1 < 0 ∨ nI 8 ≤ x1) ∨ (∃ j, j < 8 ∧ x1 = nI j) ∧ (x4 < 0 ∨ nI 2001 ≤ x4)) ∨ ∃ j : Nat, j < 8 ∧ x1 = nI j ∧ ∃ i : Nat, i < 2001 ∧ x4 = nI i from by rcases pk_ix x1 (n := 8) (by decide) with h9 | h9 | h9; exact Or.inl (Or.inl (Or.inl h9)); exact Or.inl (Or.inl (Or.inr h9)); rcases pk_ix x4 (n := 2001) (by decide) with h8 | h8 | h8; exact Or.inl (Or.inr ⟨h9, Or.inl h8⟩); exact Or.inl (Or.inr ⟨h9, Or.inr h8⟩); obtain ⟨j, hj, e1⟩ := h9; exact Or.inr ⟨j, hj, e1, h8⟩) with hbad | ⟨j, hj, rfl, i, hi, rfl⟩
  · refine lv_aload_n hx hb d_law_228 rfl (lv_at hl 2 rfl) ?_
    refine lv_aload_n hx hb d_law_229 rfl (lv_at hl 1 rfl) ?_
    refine lv_iload hx hb d_law_230 (lv_at hl 0 rfl) ?_
    refine lv_iconst (v := nI 1) hx hb d_law_232 (by decide +kernel) ?_
    refine kn_add hx hb d_law_233 ?_
    refine ka_sld (v := (x1)) hx hb hX hbl hbA hS (i := 5 * k + 1) (by omega) (by omega) hx1 d_law_234 ?_
    refine lv_aload_n hx hb d_law_235 rfl (lv_at hl 1 rfl) ?_
    refine lv_iload hx hb d_law_236 (lv_at hl 0 rfl) ?_
    refine lv_iconst (v := nI 2) hx hb d_law_238 (by decide +kernel) ?_
    refine kn_add hx hb d_law_239 ?_
    refine ka_sld (v := (x2)) hx hb hX hbl hbA hS (i := 5 * k + 2) (by omega) (by omega) hx2 d_law_240 ?_
    refine lv_aload_n hx hb d_law_241 rfl (lv_at hl 1 rfl) ?_
    refine lv_iload hx hb d_law_242 (lv_at hl 0 rfl) ?_
    refine lv_iconst (v := nI 3) hx hb d_law_244 (by decide +kernel) ?_
    refine kn_add hx hb d_law_245 ?_
    refine ka_sld (v := (x3)) hx hb hX hbl hbA hS (i := 5 * k + 3) (by omega) (by omega) hx3 d_law_246 ?_
    refine lv_aload_n hx hb d_law_247 rfl (lv_at hl 1 rfl) ?_
    refine lv_iload hx hb d_law_248 (lv_at hl 0 rfl) ?_
    refine lv_iconst (v := nI 4) hx hb d_law_250 (by decide +kernel) ?_
    refine kn_add hx hb d_law_251 ?_
    refine ka_sld (v := (x4)) hx hb hX hbl hbA hS (i := 5 * k + 4) (by omega) (by omega) hx4 d_law_252 ?_
    refine lv_aload_n hx hb d_law_253 rfl (lv_at hl 4 rfl) ?_
    have hP := kc_swapP hP
    have hD := kc_swapD hD
    refine kc_goI (wr := kc_Mw g cJ cI cX (fl) (Pm) (La) (Co) (Mv) (M)) (ws := kc_CO ob (Ou) h cJ cI (P) (L) (N) (Sd)) (kt_runSW (n := 6) (As := [.ref (h 0), .int (x1), .int (x2), .int (x3), .int (x4), .ref (ob)]) (rest := []) ⟨hx, hb, hml, hown, hts⟩ (c_L_fill_x l D h cJ cI cX P L N Sd ob Ou H.size hfl aS bS x1 x4 x2 x3 hbad) rfl rfl ⟨by decide, by decide⟩ kw_140 kw_141 kw_0 kw_142 (by decide +kernel) (kc_preSE (wr := kc_Mw g cJ cI cX (fl) (Pm) (La) (Co) (Mv) (M)) (ws := kc_CO ob (Ou) h cJ cI (P) (L) (N) (Sd)) hK hP hD kl_okB (kl_okU hok haS hbS hS)) rfl rfl hl.1 rfl (lv_room (Nat.le_of_ble_eq_true rfl)) d_law_254 ⟨by show _ ≤ 601024; omega, by show _ ≤ 7293034; omega⟩) hP hD hS hA (fun r u H locs hp hP hD hS => ?_)
    have hP := kc_swapP hP
    have hD := kc_swapD hD
    subst hp
    have hP : va_P D kc_cl (kc_CO ob (Ou) h cJ cI (P) (L) (N) (Sd) ++ kc_Mw g cJ cI cX (fl) (Pm) (La) (Co) (Mv) (M)) H := hP
    have hD : va_D A (kc_CO ob (Ou) h cJ cI (P) (L) (N) (Sd) ++ kc_Mw g cJ cI cX (fl) (Pm) (La) (Co) (Mv) (M)) := hD
    refine lv_istore hx hb d_law_257 hl (by decide) rfl (fun ls hl => ?_)
    have hl : lv_has ls 8 [(5, .int (nI (1))), (4, .int (nI (5 * k))), (0, .ref (b)), (1, .ref (h 0)), (2, .ref (g 0)), (3, .ref (ob))] := hl
    refine lv_aload_n hx hb d_law_259 rfl (lv_at hl 4 rfl) ?_
    refine lv_aload_n hx hb d_law_260 rfl (lv_at hl 2 rfl) ?_
    refine lv_iload hx hb d_law_261 (lv_at hl 1 rfl) ?_
    refine lv_iconst (v := nI 1) hx hb d_law_263 (by decide +kernel) ?_
    refine kn_add hx hb d_law_264 ?_
    refine ka_sld (v := (x1)) hx hb hX hbl hbA hS (i := 5 * k + 1) (by omega) (by omega) hx1 d_law_265 ?_
    refine lv_aload_n hx hb d_law_266 rfl (lv_at hl 2 rfl) ?_
    refine lv_iload hx hb d_law_267 (lv_at hl 1 rfl) ?_
    refine lv_iconst (v := nI 2) hx hb d_law_269 (by decide +kernel) ?_
    refine kn_add hx hb d_law_270 ?_
    refine ka_sld (v := (x2)) hx hb hX hbl hbA hS (i := 5 * k + 2) (by omega) (by omega) hx2 d_law_271 ?_
    refine lv_aload_n hx hb d_law_272 rfl (lv_at hl 2 rfl) ?_
    refine lv_iload hx hb d_law_273 (lv_at hl 1 rfl) ?_
    refine lv_iconst (v := nI 3) hx hb d_law_275 (by decide +kernel) ?_
    refine kn_add hx hb d_law_276 ?_
    refine ka_sld (v := (x3)) hx hb hX hbl hbA hS (i := 5 * k + 3) (by omega) (by omega) hx3 d_law_277 ?_
    refine lv_aload_n hx hb d_law_278 rfl (lv_at hl 2 rfl) ?_
    refine lv_iload hx hb d_law_279 (lv_at hl 1 rfl) ?_
    refine lv_iconst (v := nI 4) hx hb d_law_281 (by decide +kernel) ?_
    refine kn_add hx hb d_law_282 ?_
    refine ka_sld (v := (x4)) hx hb hX hbl hbA hS (i := 5 * k + 4) (by omega) (by omega) hx4 d_law_283 ?_
    refine kc_goI (wr := kc_CO ob (Ou) h cJ cI (P) (L) (N) (Sd)) (ws := kc_Mw g cJ cI cX (fl) (Pm) (La) (Co) (Mv) (M)) (va_runV (As := [.int (x1), .int (x2), .int (x3), .int (x4)]) (rest := []) ⟨hx, hb, hml, hown, hts⟩ (c_M_fill_x l D g cJ cI cX (fl) Pm La Co Mv M H.size x1 x4 x2 x3 hbad) (cwV 4 hts (kc_inV kw_253 kw_254 kw_255 kw_3 kw_256) rfl rfl rfl (by decide +kernel) ⟨by decide, by decide⟩) (kc_preV (wr := kc_CO ob (Ou) h cJ cI (P) (L) (N) (Sd)) (q0 := 0) (ci := 2) hK hP hD rfl rfl) rfl rfl hl.1 rfl (lv_room (Nat.le_of_ble_eq_true rfl)) d_law_284 ⟨by show _ ≤ 601024; omega, by show _ ≤ 7293034; omega⟩) hP hD hS hA (fun r u H locs hp hP hD hS => ?_)
    have hP : va_P D kc_cl (kc_CO ob (Ou) h cJ cI (P) (L) (N) (Sd) ++ kc_Mw g cJ cI cX (nI (1)) (Pm) (La) (Co) (Mv) (M)) H := hP
    have hD : va_D A (kc_CO ob (Ou) h cJ cI (P) (L) (N) (Sd) ++ kc_Mw g cJ cI cX (nI (1)) (Pm) (La) (Co) (Mv) (M)) := hD
    obtain ⟨r1, e_r1⟩ : ∃ z, z = r := ⟨_, rfl⟩
    rw [← e_r1]
    refine lv_istore hx hb d_law_287 hl (by decide) rfl (fun ls hl => ?_)
    have hl : lv_has ls 8 [(6, .int (r1)), (5, .int (nI (1))), (4, .int (nI (5 * k))), (0, .ref (b)), (1, .ref (h 0)), (2, .ref (g 0)), (3, .ref (ob))] := hl
    refine lv_aload_n hx hb d_law_289 rfl (lv_at hl 5 rfl) ?_
    refine kc_goI (wr := kc_CO ob (Ou) h cJ cI (P) (L) (N) (Sd)) (ws := kc_Mw g cJ cI cX (nI (1)) (Pm) (La) (Co) (Mv) (M)) (va_runV (As := []) (rest := []) ⟨hx, hb, hml, hown, hts⟩ (c_M_thrown l D g cJ cI cX (nI (1)) Pm La Co Mv M H.size ) (cwV 0 hts (kc_inV kw_213 kw_214 kw_215 kw_3 kw_216) rfl rfl rfl (by decide +kernel) ⟨by decide, by decide⟩) (kc_preV (wr := kc_CO ob (Ou) h cJ cI (P) (L) (N) (Sd)) (q0 := 0) (ci := 2) hK hP hD rfl rfl) rfl rfl hl.1 rfl (lv_room (Nat.le_of_ble_eq_true rfl)) d_law_290 ⟨by show _ ≤ 601024; omega, by show _ ≤ 7293034; omega⟩) hP hD hS hA (fun r u H locs hp hP hD hS => ?_)
    subst hp
    have hP : va_P D kc_cl (kc_CO ob (Ou) h cJ cI (P) (L) (N) (Sd) ++ kc_Mw g cJ cI cX (nI (1)) (Pm) (La) (Co) (Mv) (M)) H := hP
    have hD : va_D A (kc_CO ob (Ou) h cJ cI (P) (L) (N) (Sd) ++ kc_Mw g cJ cI cX (nI (1)) (Pm) (La) (Co) (Mv) (M)) := hD
    refine lv_iload hx hb d_law_293 (lv_at hl 1 rfl) ?_
    refine lv_icmp_eq (tgt := 300) hx hb d_law_295 (by decide) (fun _ => ?_) (fun hc => absurd hc (not_not_intro rfl))
    refine lv_iload hx hb d_law_300 (lv_at hl 1 rfl) ?_
    refine lv_if_ne (tgt := 317) hx hb d_law_302 (by decide) (fun _ => ?_) (fun hc => absurd hc (by decide))
    refine lv_goto (tgt := 538) hx hb d_law_317 (by decide) ?_
    have hl : lv_has ls 8 [(4, .int (nI (5 * k))), (0, .ref (b)), (1, .ref (h 0)), (2, .ref (g 0)), (3, .ref (ob))] := lv_sub hl [2, 3, 4, 5, 6] rfl
    refine W.widen (k := 24 + k + 1) (n := 623 + 6 * k + 6) (by omega) (by omega) ?_
    exact K H locs ls _ _ _ _ _ _ _ _ _ _ _ hl ⟨hP, hD, hS⟩ (ht)
  · obtain ⟨pp, hpp⟩ := id ht
    obtain ⟨t1, t2, t3, t4⟩ := hpp j hj
    have hsm := kc_same_steps (q := (kc_row L j, pp j)) (r := (M j, pp j)) ⟨t4, rfl⟩ (kc_fs x2 x3) i
    refine lv_aload_n hx hb d_law_228 rfl (lv_at hl 2 rfl) ?_
    refine lv_aload_n hx hb d_law_229 rfl (lv_at hl 1 rfl) ?_
    refine lv_iload hx hb d_law_230 (lv_at hl 0 rfl) ?_
    refine lv_iconst (v := nI 1) hx hb d_law_232 (by decide +kernel) ?_
    refine kn_add hx hb d_law_233 ?_
    refine ka_sld (v := (nI (j))) hx hb hX hbl hbA hS (i := 5 * k + 1) (by omega) (by omega) hx1 d_law_234 ?_
    refine lv_aload_n hx hb d_law_235 rfl (lv_at hl 1 rfl) ?_
    refine lv_iload hx hb d_law_236 (lv_at hl 0 rfl) ?_
    refine lv_iconst (v := nI 2) hx hb d_law_238 (by decide +kernel) ?_
    refine kn_add hx hb d_law_239 ?_
    refine ka_sld (v := (x2)) hx hb hX hbl hbA hS (i := 5 * k + 2) (by omega) (by omega) hx2 d_law_240 ?_
    refine lv_aload_n hx hb d_law_241 rfl (lv_at hl 1 rfl) ?_
    refine lv_iload hx hb d_law_242 (lv_at hl 0 rfl) ?_
    refine lv_iconst (v := nI 3) hx hb d_law_244 (by decide +kernel) ?_
    refine kn_add hx hb d_law_245 ?_
    refine ka_sld (v := (x3)) hx hb hX hbl hbA hS (i := 5 * k + 3) (by omega) (by omega) hx3 d_law_246 ?_
    refine lv_aload_n hx hb d_law_247 rfl (lv_at hl 1 rfl) ?_
    refine lv_iload hx hb d_law_248 (lv_at hl 0 rfl) ?_
    refine lv_iconst (v := nI 4) hx hb d_law_250 (by decide +kernel) ?_
    refine kn_add hx hb d_law_251 ?_
    refine ka_sld (v := (nI (i))) hx hb hX hbl hbA hS (i := 5 * k + 4) (by omega) (by omega) hx4 d_law_252 ?_
    refine lv_aload_n hx hb d_law_253 rfl (lv_at hl 4 rfl) ?_
    have hP := kc_swapP hP
    have hD := kc_swapD hD
    refine kc_goI (wr := kc_Mw g cJ cI cX (fl) (Pm) (La) (Co) (Mv) (M)) (ws := kc_CO ob (Ou) h cJ cI (P) (L) (N) (Sd)) (kt_runSW (n := 6) (As := [.ref (h 0), .int (nI (j)), .int (x2), .int (x3), .int (nI (i)), .ref (ob)]) (rest := []) ⟨hx, hb, hml, hown, hts⟩ (c_L_fill_v l D h cJ cI cX P L N Sd ob Ou H.size j i (pp j) x2 x3 hj (by omega) t2 t1) rfl rfl ⟨by decide, by decide⟩ kw_140 kw_141 kw_0 kw_142 (by decide +kernel) (kc_preSE (wr := kc_Mw g cJ cI cX (fl) (Pm) (La) (Co) (Mv) (M)) (ws := kc_CO ob (Ou) h cJ cI (P) (L) (N) (Sd)) (Ex := fun _ : State => True) hK hP hD (fun _ _ _ _ h9 => h9) (fun _ _ _ => trivial)) rfl rfl hl.1 rfl (lv_room (Nat.le_of_ble_eq_true rfl)) d_law_254 ⟨by show _ ≤ 601024; omega, by show _ ≤ 7293034; omega⟩) hP hD hS hA (fun r u H locs hp hP hD hS => ?_)
    have hP := kc_swapP hP
    have hD := kc_swapD hD
    obtain ⟨P1, L1, N1, S1, Ou1⟩ := u
    obtain ⟨hr0, hq1, hq2, hq3, hq4, hq5⟩ := hp
    subst hr0
    have hP : va_P D kc_cl (kc_CO ob (Ou1) h cJ cI (P1) (L1) (N1) (S1) ++ kc_Mw g cJ cI cX (fl) (Pm) (La) (Co) (Mv) (M)) H := hP
    have hD : va_D A (kc_CO ob (Ou1) h cJ cI (P1) (L1) (N1) (S1) ++ kc_Mw g cJ cI cX (fl) (Pm) (La) (Co) (Mv) (M)) := hD
    refine lv_istore hx hb d_law_257 hl (by decide) rfl (fun ls hl => ?_)
    have hl : lv_has ls 8 [(5, .int (nI (0))), (4, .int (nI (5 * k))), (0, .ref (b)), (1, .ref (h 0)), (2, .ref (g 0)), (3, .ref (ob))] := hl
    refine lv_aload_n hx hb d_law_259 rfl (lv_at hl 4 rfl) ?_
    refine lv_aload_n hx hb d_law_260 rfl (lv_at hl 2 rfl) ?_
    refine lv_iload hx hb d_law_261 (lv_at hl 1 rfl) ?_
    refine lv_iconst (v := nI 1) hx hb d_law_263 (by decide +kernel) ?_
    refine kn_add hx hb d_law_264 ?_
    refine ka_sld (v := (nI (j))) hx hb hX hbl hbA hS (i := 5 * k + 1) (by omega) (by omega) hx1 d_law_265 ?_
    refine lv_aload_n hx hb d_law_266 rfl (lv_at hl 2 rfl) ?_
    refine lv_iload hx hb d_law_267 (lv_at hl 1 rfl) ?_
    refine lv_iconst (v := nI 2) hx hb d_law_269 (by decide +kernel) ?_
    refine kn_add hx hb d_law_270 ?_
    refine ka_sld (v := (x2)) hx hb hX hbl hbA hS (i := 5 * k + 2) (by omega) (by omega) hx2 d_law_271 ?_
    refine lv_aload_n hx hb d_law_272 rfl (lv_at hl 2 rfl) ?_
    refine lv_iload hx hb d_law_273 (lv_at hl 1 rfl) ?_
    refine lv_iconst (v := nI 3) hx hb d_law_275 (by decide +kernel) ?_
    refine kn_add hx hb d_law_276 ?_
    refine ka_sld (v := (x3)) hx hb hX hbl hbA hS (i := 5 * k + 3) (by omega) (by omega) hx3 d_law_277 ?_
    refine lv_aload_n hx hb d_law_278 rfl (lv_at hl 2 rfl) ?_
    refine lv_iload hx hb d_law_279 (lv_at hl 1 rfl) ?_
    refine lv_iconst (v := nI 4) hx hb d_law_281 (by decide +kernel) ?_
    refine kn_add hx hb d_law_282 ?_
    refine ka_sld (v := (nI (i))) hx hb hX hbl hbA hS (i := 5 * k + 4) (by omega) (by omega) hx4 d_law_283 ?_
    refine kc_goI (wr := kc_CO ob (Ou1) h cJ cI (P1) (L1) (N1) (S1)) (ws := kc_Mw g cJ cI cX (fl) (Pm) (La) (Co) (Mv) (M)) (va_runV (As := [.int (nI (j)), .int (x2), .int (x3), .int (nI (i))]) (rest := []) ⟨hx, hb, hml, hown, hts⟩ (c_M_fill_v l D g cJ cI cX (fl) Pm La Co Mv M H.size j i (pp j) x2 x3 hj (by omega) t3 t1) (cwV 4 hts (kc_inV kw_253 kw_254 kw_255 kw_3 kw_256) rfl rfl rfl (by decide +kernel) ⟨by decide, by decide⟩) (kc_preV (wr := kc_CO ob (Ou1) h cJ cI (P1) (L1) (N1) (S1)) (q0 := 0) (ci := 2) hK hP hD rfl rfl) rfl rfl hl.1 rfl (lv_room (Nat.le_of_ble_eq_true rfl)) d_law_284 ⟨by show _ ≤ 601024; omega, by show _ ≤ 7293034; omega⟩) hP hD hS hA (fun r u H locs hp hP hD hS => ?_)
    obtain ⟨u1, Pm1, La1, Co1, Mv1⟩ := u
    obtain ⟨hm1, hm2, hm3, hm4⟩ := hp
    subst hm4
    have hP : va_P D kc_cl (kc_CO ob (Ou1) h cJ cI (P1) (L1) (N1) (S1) ++ kc_Mw g cJ cI cX (nI (0)) (Pm1) (La1) (Co1) (Mv1) (va_up M j u1)) H := hP
    have hD : va_D A (kc_CO ob (Ou1) h cJ cI (P1) (L1) (N1) (S1) ++ kc_Mw g cJ cI cX (nI (0)) (Pm1) (La1) (Co1) (Mv1) (va_up M j u1)) := hD
    refine lv_istore hx hb d_law_287 hl (by decide) rfl (fun ls hl => ?_)
    have hl : lv_has ls 8 [(6, .int (nI ((kc_steps (kc_fs x2 x3) i (M j, pp j)).2))), (5, .int (nI (0))), (4, .int (nI (5 * k))), (0, .ref (b)), (1, .ref (h 0)), (2, .ref (g 0)), (3, .ref (ob))] := hl
    refine lv_aload_n hx hb d_law_289 rfl (lv_at hl 5 rfl) ?_
    refine kc_goI (wr := kc_CO ob (Ou1) h cJ cI (P1) (L1) (N1) (S1)) (ws := kc_Mw g cJ cI cX (nI (0)) (Pm1) (La1) (Co1) (Mv1) (va_up M j u1)) (va_runV (As := []) (rest := []) ⟨hx, hb, hml, hown, hts⟩ (c_M_thrown l D g cJ cI cX (nI (0)) Pm1 La1 Co1 Mv1 (va_up M j u1) H.size ) (cwV 0 hts (kc_inV kw_213 kw_214 kw_215 kw_3 kw_216) rfl rfl rfl (by decide +kernel) ⟨by decide, by decide⟩) (kc_preV (wr := kc_CO ob (Ou1) h cJ cI (P1) (L1) (N1) (S1)) (q0 := 0) (ci := 2) hK hP hD rfl rfl) rfl rfl hl.1 rfl (lv_room (Nat.le_of_ble_eq_true rfl)) d_law_290 ⟨by show _ ≤ 601024; omega, by show _ ≤ 7293034; omega⟩) hP hD hS hA (fun r u H locs hp hP hD hS => ?_)
    subst hp
    have hP : va_P D kc_cl (kc_CO ob (Ou1) h cJ cI (P1) (L1) (N1) (S1) ++ kc_Mw g cJ cI cX (nI (0)) (Pm1) (La1) (Co1) (Mv1) (va_up M j u1)) H := hP
    have hD : va_D A (kc_CO ob (Ou1) h cJ cI (P1) (L1) (N1) (S1) ++ kc_Mw g cJ cI cX (nI (0)) (Pm1) (La1) (Co1) (Mv1) (va_up M j u1)) := hD
    refine lv_iload hx hb d_law_293 (lv_at hl 1 rfl) ?_
    refine lv_icmp_eq (tgt := 300) hx hb d_law_295 (by decide) (fun _ => ?_) (fun hc => absurd hc (not_not_intro rfl))
    refine lv_iload hx hb d_law_300 (lv_at hl 1 rfl) ?_
    refine lv_if_ne (tgt := 317) hx hb d_law_302 (by decide) (fun hc => absurd hc (not_not_intro rfl)) (fun _ => ?_)
    refine lv_aload_n hx hb d_law_305 rfl (lv_at hl 6 rfl) ?_
    refine lv_iconst (v := nI 0) hx hb d_law_306 (by decide +kernel) ?_
    refine ka_lald (f := Ou1) hx hb hK hP 0 0 rfl rfl (i := 0) (by omega) (by decide) d_law_307 ?_
    refine lv_iload hx hb d_law_308 (lv_at hl 0 rfl) ?_
    refine lv_i2l hx hb d_law_310 rfl ?_
    refine ka_lcmp hx hb (by rw [show Ou1 0 = _ from hq5, hsm.2]) d_law_311 ?_
    refine lv_if_eq (tgt := 317) hx hb d_law_312 (by decide) (fun _ => ?_) (fun hc => absurd hc (not_not_intro rfl))
    refine lv_goto (tgt := 538) hx hb d_law_317 (by decide) ?_
    have hl : lv_has ls 8 [(4, .int (nI (5 * k))), (0, .ref (b)), (1, .ref (h 0)), (2, .ref (g 0)), (3, .ref (ob))] := lv_sub hl [2, 3, 4, 5, 6] rfl
    refine W.widen (k := 24 + k + 1) (n := 623 + 6 * k + 6) (by omega) (by omega) ?_
    exact K H locs ls _ _ _ _ _ _ _ _ _ _ _ hl ⟨hP, hD, hS⟩ (kc_tie_set (a := (kc_steps (kc_fs x2 x3) i (M j, pp j)).1) ht (kc_steps_lt (q := (M j, pp j)) t1 _ _) (show P1 j = _ from hq2.trans (congrArg nI hsm.2)) (fun i9 _ h9 => hq3 i9 h9) hm2 (fun i9 _ h9 => hm3 i9 h9) hq4 (kc_eq.trans hq1 hsm.1) hm1)
end LAW
end
section
/-! the law: its end and its loop (rows of the skeleton, a starting text, and rows printed by gen23.py) -/
def R_law : String := "KeccakLanesLaw"
def lw_P (b : Addr) (xs : List Int32) (args : Array Value) (s : State) : Prop := args = #[.ref b] ∧ s.IntsAt b xs ∧ xs.length ≤ 2560 ∧ (Jvm.Cond.and given_1 narrow_1).before args s = true
def lw_Q (_ : Array Value) (s : State) (o : Outcome) (t : State) : Prop := o = .returned (some (.int 1)) ∧ Framed s o t [] 601024 7293034
def lw_Z (below : List Frame) (a : Array Value) (s : State) : State → Prop := fun t => ∃ o, t.status = .running ∧ Ended t below o ∧ lw_Q a s o t
/-- the law's own end, with 1 on the stack, nothing written that was there before, its room as the claim has it -/
theorem lw_ret {p : Program} {l : Launch} {e : Env} {s : State} {m : MethodId} {below : List Frame} {meth : Method} {c : Code} {b : Nat} (hx : p.tables.exec = Jvm.exec) (hb : c.code = code) (hr : meth.sig.returnType = ret) (hlocks : meth.locks = false) {pc : Nat} {H : Heap} {ls : Array Slot} (hdg : decode code pc = .ok (.ireturn, 1)) : W p l e room_1 s m #[Value.ref b] below meth c H [] 601024 7293034 (lw_Z below #[Value.ref b] s) (F0 m pc ls [.int 1]) := by
  intro T hT X
  obtain ⟨fs, hret, hrun, hended, hW, hframe⟩ := X.leave (v := some (.int 1)) (hlocks := hlocks) (fun h => by rw [hr] at h; cases h)
  have hmeth' : T.vm.method? m = some meth := X.method'
  refine ⟨T.setFrames fs, ?_, .returned (some (.int 1)), hrun, hended, rfl, ⟨_, rfl⟩, hW, hframe⟩
  jvm_step X.here [X.here.top, hx, hb, hdg, hmeth', hr, ret, narrow_b1]
  (try refine ⟨rfl, ?_⟩); (try refine ⟨rfl, ?_⟩)
  first | (intro acts; rw [hret _ acts rfl rfl rfl]) | rw [hret _ _ rfl rfl rfl]
  exact Steps.refl _
/-- what holds at the law's entry: the machine, the code, the tables' words (any of lw_tbl by 'hts w (by decide +kernel)'), the script of L ints xs at the cell b, what the Statement gives of the start (any of its parts by flat_of_before) -/
def lw_At (p : Program) (s : State) (m : MethodId) (meth : Method) (c : Code) (b L : Nat) (xs : Nat → Int32) : Prop :=
  p.tables.exec = Jvm.exec ∧ c.code = code ∧ meth.sig.returnType = ret ∧ c.maxLocals = 8 ∧ s.vm.findClass R_law = some m.cls ∧ (∀ w ∈ lw_tbl, w.before #[Value.ref b] s = true) ∧ va_X b L xs s s.heap ∧ b < s.heap.size ∧ meth.locks = false ∧ (Jvm.Cond.and given_1 narrow_1).before #[Value.ref b] s = true
theorem kl_cont {L0 k : Nat} (hL : L0 ≤ 2560) (hk : k ≤ 512) (h : ¬ (Int32.ofNat L0 - nI 5 < nI (5 * k))) : 5 * k + 5 ≤ L0 := by
  rw [Int32.lt_iff_toInt_lt] at h
  have h1 : (Int32.ofNat L0 - nI 5).toInt = (L0 : Int) - 5 := pk_sub_toInt (a := L0) (b := 5) (by omega) (by decide)
  rw [h1, nI_toInt (by omega)] at h
  omega
section LOOP
variable {p : Program} {l : Launch} {e : Env} {s : State} {m : MethodId} {below : List Frame} {meth : Method} {c : Code} {D : va_G} {A : Nat → Prop} {h g : Nat → Nat} {cJ cI cX : ClassId} {b L0 ob aS bS : Nat} {xs : Nat → Int32}
set_option maxHeartbeats 8000000 in
theorem law_loop (hfl : l.flags = flags0) (S : CallFix p m c code 8 s #[Value.ref b] kc_tbl R_L) (hr : meth.sig.returnType = ret) (hlk : meth.locks = false) (hK : va_K D kc_cl (kc_ty cJ cI cX) s) (hX : va_X b L0 xs s s.heap) (hbl : b < s.heap.size) (hbA : ¬ A b) (hA : ∀ q, s.heap.size ≤ q → A q) (hA2 : ∀ q, A q → s.heap.size ≤ q) (hok : kt_ok aS bS s) (haS : aS < s.heap.size ∧ ¬ A aS) (hbS : bS < s.heap.size ∧ ¬ A bS) (hL0 : L0 ≤ 2560) (n : Nat) : ∀ (k : Nat) (H : Heap) (locs : List Loc) (ls : Array Slot) (P : Nat → Int32) (L N Sd Ou : Nat → Int64) (fl : Int32) (Pm : Nat → Int32) (La Co Mv : Nat → Int64) (M : Nat → Nat → Int64), L0 ≤ 5 * k + 5 * n → k ≤ 512 → lv_has ls 8 [(4, .int (nI (5 * k))), (0, .ref (b)), (1, .ref (h 0)), (2, .ref (g 0)), (3, .ref (ob))] → kc_at D A s.heap H locs (kc_CO ob Ou h cJ cI P L N Sd ++ kc_Mw g cJ cI cX fl Pm La Co Mv M) → kc_tie P L Pm M → W p l e room_1 s m #[Value.ref b] below meth c H locs (24 + k) (623 + 6 * k) (lw_Z below #[Value.ref b] s) (F0 m 23 ls []) := by
  induction n with
  | zero =>
    intro k H locs ls P L N Sd Ou fl Pm La Co Mv M hn hk hl hw ht
    obtain ⟨hx, hb, hml, hown, hts⟩ := S
    obtain ⟨hP, hD, hS⟩ := hw
    refine lv_iload hx hb d_law_23 (lv_at hl 0 rfl) ?_
    refine lv_aload_n hx hb d_law_25 rfl (lv_at hl 1 rfl) ?_
    refine va_slen hx hb hX hbl hbA hS d_law_26 ?_
    refine lv_iconst (v := nI 5) hx hb d_law_27 (by decide +kernel) ?_
    refine lv_isub hx hb d_law_28 ?_
    refine lv_icmp_gt (tgt := 544) hx hb d_law_29 (by decide) (fun hc => ?_) (fun hc => absurd (kl_cont hL0 hk hc) (by omega))
    refine lv_iconst (v := 1) hx hb d_law_544 (by decide +kernel) ?_
    refine va_forget (fun q hq => hA2 _ (hS.2.2 q hq)) ?_
    refine W.widen (k := 601024) (n := 7293034) (by omega) (by omega) ?_
    exact lw_ret hx hb hr hlk d_law_545
  | succ n ih =>
    intro k H locs ls P L N Sd Ou fl Pm La Co Mv M hn hk hl hw ht
    have S' := S
    obtain ⟨hx, hb, hml, hown, hts⟩ := S
    have hw' := hw
    obtain ⟨hP, hD, hS⟩ := hw
    refine lv_iload hx hb d_law_23 (lv_at hl 0 rfl) ?_
    refine lv_aload_n hx hb d_law_25 rfl (lv_at hl 1 rfl) ?_
    refine va_slen hx hb hX hbl hbA hS d_law_26 ?_
    refine lv_iconst (v := nI 5) hx hb d_law_27 (by decide +kernel) ?_
    refine lv_isub hx hb d_law_28 ?_
    refine lv_icmp_gt (tgt := 544) hx hb d_law_29 (by decide) (fun hc => ?_) (fun hc => ?_)
    · refine lv_iconst (v := 1) hx hb d_law_544 (by decide +kernel) ?_
      refine va_forget (fun q hq => hA2 _ (hS.2.2 q hq)) ?_
      refine W.widen (k := 601024) (n := 7293034) (by omega) (by omega) ?_
      exact lw_ret hx hb hr hlk d_law_545
    · have hk5 := kl_cont hL0 hk hc
      have K : ∀ (H : Heap) (locs : List Loc) (ls : Array Slot) (P : Nat → Int32) (L N Sd Ou : Nat → Int64) (fl : Int32) (Pm : Nat → Int32) (La Co Mv : Nat → Int64) (M : Nat → Nat → Int64), lv_has ls 8 [(4, .int (nI (5 * k))), (0, .ref (b)), (1, .ref (h 0)), (2, .ref (g 0)), (3, .ref (ob))] → kc_at D A s.heap H locs (kc_CO ob Ou h cJ cI P L N Sd ++ kc_Mw g cJ cI cX fl Pm La Co Mv M) → kc_tie P L Pm M → W p l e room_1 s m #[Value.ref b] below meth c H locs (24 + k + 1) (623 + 6 * k + 6) (lw_Z below #[Value.ref b] s) (F0 m 538 ls []) := by
        intro H locs ls P L N Sd Ou fl Pm La Co Mv M hl hw ht
        refine lv_iinc (k := 0) hx hb d_law_538 hl rfl (kn_i5 _) (by decide) rfl (fun ls hl => ?_)
        have hl : lv_has ls 8 [(4, .int (nI (5 * (k + 1)))), (0, .ref (b)), (1, .ref (h 0)), (2, .ref (g 0)), (3, .ref (ob))] := hl
        refine lv_goto (tgt := 23) hx hb d_law_541 (by decide) ?_
        exact ih (k + 1) H locs ls P L N Sd Ou fl Pm La Co Mv M (by omega) (by omega) hl hw ht
      refine lv_aload_n hx hb d_law_32 rfl (lv_at hl 1 rfl) ?_
      refine lv_iload hx hb d_law_33 (lv_at hl 0 rfl) ?_
      refine ka_sld (v := xs (5 * k)) hx hb hX hbl hbA hS (i := 5 * k) (by omega) (by omega) rfl d_law_35 ?_
      refine lv_bipush (v := nI 7) hx hb d_law_36 (by decide +kernel) ?_
      refine lv_iand hx hb d_law_38 ?_
      obtain ⟨j, hj, ej⟩ := pk_andE (xs (5 * k)) (m := nI 7) 3 (by decide)
      refine kv_i ej ?_
      have hj : j < 8 := hj
      rcases (show j = 0 ∨ j = 1 ∨ j = 2 ∨ j = 3 ∨ j = 4 ∨ j = 5 ∨ j = 6 ∨ j = 7 by omega) with rfl | rfl | rfl | rfl | rfl | rfl | rfl | rfl
      · refine lv_tableIn (off := 41) (tgt := 80) hx hb d_law_39 (by decide) (by decide) (by decide) (by decide) ?_
        exact law_clear hfl S' hK hX hbl hbA hA hok haS hbS hk hk5 hL0 hl hw' ht K
      · refine lv_tableIn (off := 77) (tgt := 116) hx hb d_law_39 (by decide) (by decide) (by decide) (by decide) ?_
        exact law_take hfl S' hK hX hbl hbA hA hok haS hbS hk hk5 hL0 hl hw' ht K
      · refine lv_tableIn (off := 189) (tgt := 228) hx hb d_law_39 (by decide) (by decide) (by decide) (by decide) ?_
        exact law_fill hfl S' hK hX hbl hbA hA hok haS hbS hk hk5 hL0 hl hw' ht K
      · refine lv_tableIn (off := 281) (tgt := 320) hx hb d_law_39 (by decide) (by decide) (by decide) (by decide) ?_
        exact law_copy hfl S' hK hX hbl hbA hA hok haS hbS hk hk5 hL0 hl hw' ht K
      · refine lv_tableIn (off := 329) (tgt := 368) hx hb d_law_39 (by decide) (by decide) (by decide) (by decide) ?_
        exact law_mix hfl S' hK hX hbl hbA hA hok haS hbS hk hk5 hL0 hl hw' ht K
      · refine lv_tableIn (off := 365) (tgt := 404) hx hb d_law_39 (by decide) (by decide) (by decide) (by decide) ?_
        exact law_lane hfl S' hK hX hbl hbA hA hok haS hbS hk hk5 hL0 hl hw' ht K
      · refine lv_tableIn (off := 432) (tgt := 471) hx hb d_law_39 (by decide) (by decide) (by decide) (by decide) ?_
        exact law_digest hfl S' hK hX hbl hbA hA hok haS hbS hk hk5 hL0 hl hw' ht K
      · refine lv_tableOut (tgt := 538) hx hb d_law_39 (Or.inr (by decide)) (by decide) ?_
        refine W.widen (k := 24 + k + 1) (n := 623 + 6 * k + 6) (by omega) (by omega) ?_
        exact K H locs ls P L N Sd Ou fl Pm La Co Mv M hl hw' ht
end LOOP
end
section
/-! the law's start and the claim (rows of the skeleton, a starting text, with the launch's flags handed on; whole_start is ours) -/
set_option maxHeartbeats 8000000 in
theorem whole_start {p : Program} {e : Env} {s : State} {m : MethodId} {below : List Frame} {meth : Method} {c : Code} (l : Launch) (hfl : l.flags = flags0) {b L : Nat} {xs : Nat → Int32} (hL : L ≤ 2560) (C0 : lw_At p s m meth c b L xs) : W p l e room_1 s m #[Value.ref b] below meth c s.heap [] 0 0 (lw_Z below #[Value.ref b] s) (entryFrame m ([Value.ref b] : List Value).toArray 8) := by
  obtain ⟨hx, hb, hr, hml, hown, htsL, hX, hbl, hlk, hgv⟩ := C0
  have hts : ∀ w ∈ kc_tbl, w.before #[Value.ref b] s = true := fun w hw => htsL w (kc_tbl_lw hw)
  obtain ⟨cK, iK, hKK⟩ := u_known hts u_K_in (hts _ kw_10)
  obtain ⟨cM, iM, hKM⟩ := u_known hts u_X_in (hts _ kw_18)
  obtain ⟨cN, iN, hKN⟩ := u_known hts u_M_in (hts _ kw_181)
  obtain ⟨cJ, kJ, c0, fJ, hkJ, hJ⟩ := Cond.arrayClass_spec (hts _ kw_36)
  obtain ⟨cI, kI, c1, fI, hkI, hI⟩ := Cond.arrayClass_spec (hts _ kw_37)
  obtain ⟨cJ', cX, kX, fJ', hkX, hkindX, fX⟩ := km_over (htsL _ kw_187)
  have eJ : cJ' = cJ := Option.some.inj (fJ'.symm.trans fJ)
  subst eJ
  have hAO : km_AO cJ' cX s := ⟨kX, kJ, c0, hkX, hkindX, hkJ, hJ, fX⟩
  obtain ⟨D, hDd⟩ : ∃ D : va_G, D = (fun c => match c with | 0 => cK | 1 => cM | _ => cN, fun c => match c with | 0 => iK | 1 => iM | _ => iN) := ⟨_, rfl⟩
  have hK : va_K D kc_cl (kc_ty cJ' cI cX) s := by
    subst hDd
    refine ⟨fun c q hq => ?_, fun k q hk => ?_⟩
    · rcases c with _ | _ | _ | c
      · cases hq; exact hKK
      · cases hq; exact hKM
      · cases hq; exact hKN
      · simp at hq
    · rcases k with _ | _ | _ | k
      · cases hk; exact ⟨fun N z => ⟨(fun k h => by cases h), kJ, hkJ, c0, hJ⟩, fJ⟩
      · cases hk; exact ⟨fun N z => ⟨(fun k h => by cases h), kI, hkI, c1, hI⟩, fI⟩
      · cases hk; exact ⟨fun N z => ⟨(fun k h => by cases h), kX, hkX, _, hkindX⟩, fX⟩
      · simp at hk
  clear hDd
  have hs := flat_of_before _ hgv
  obtain ⟨aS, haS, hst1⟩ := kt_st_of (htsL _ kw_86) (hs (.isRef (.static "java/lang/Throwable" "UNASSIGNED_STACK" "[Ljava/lang/StackTraceElement;")) (by decide +kernel))
  obtain ⟨bS, hbS, hst2⟩ := kt_st_of (htsL _ kw_88) (hs (.isRef (.static "java/lang/Throwable" "SUPPRESSED_SENTINEL" "Ljava/util/List;")) (by decide +kernel))
  have hok : kt_ok aS bS s := by
    refine ⟨hst1, hst2, fun w hw => ?_⟩
    simp only [kt_ws, List.mem_cons, List.not_mem_nil, or_false] at hw
    rcases hw with rfl | rfl | rfl | rfl
    · exact kt_face rfl rfl (Vm.Alike.refl s.vm) (htsL _ kw_61)
    · exact kt_face rfl rfl (Vm.Alike.refl s.vm) (htsL _ kw_62)
    · exact kt_face rfl rfl (Vm.Alike.refl s.vm) (htsL _ kw_64)
    · exact kt_face rfl rfl (Vm.Alike.refl s.vm) (htsL _ kw_66)
  obtain ⟨A, hAd⟩ : ∃ A : Nat → Prop, A = fun q => s.heap.size ≤ q := ⟨_, rfl⟩
  have hA : ∀ q, s.heap.size ≤ q → A q := fun q h => by rw [hAd]; exact h
  have hA2 : ∀ q, A q → s.heap.size ≤ q := fun q h => by rw [hAd] at h; exact h
  clear hAd
  have hl := lv_entry ([.ref b]) (n := 8) (Nat.le_of_ble_eq_true rfl)
  rw [lg_entry_eq]
  generalize (lg_sl ([.ref b]) ++ List.replicate (8 - (lg_sl ([.ref b])).length) Slot.unset).toArray = ls at hl ⊢
  have hl : lv_has ls 8 [(0, .ref b)] := hl
  have hP : va_P D kc_cl [] s.heap := fun k q hk => by simp at hk
  have hD : va_D A [] := ⟨fun i j p q hi => by simp at hi, fun k q hk => by simp at hk⟩
  have hS : va_S A s.heap s.heap [] := va_S.rf
  refine va_new (ci := 0) (fs := [.null, .null, .null]) (C := R_K) (T := F_K) (N := 3) (own := R_L) hx hb hts u_K_in t_K t_K_ok hown (hts _ kw_9) (hts _ kw_10) (hts _ kw_1) hK hP hD hS hA rfl (fun j hj => by rcases j with _ | _ | _ | j <;> first | rfl | omega) (by show _ ≤ 601024; omega) (by show _ ≤ 7293034; omega) d_law_0 (fun o1 H hP hD hS => ?_)
  have hP : va_P D kc_cl [(o1, .inr (0, [.null, .null, .null]))] H := hP
  have hD : va_D A [(o1, .inr (0, [.null, .null, .null]))] := hD
  refine lv_dup hx hb d_law_3 rfl ?_
  refine kc_goV (wr := []) (ws := [(o1, .inr (0, [.null, .null, .null]))]) (va_runI (As := []) (rest := [.ref o1]) ⟨hx, hb, hml, hown, hts⟩ (c_K_init l D o1 cJ' cI cX H.size) (cwI 0 hts (kc_gi (kc_inC kw_13)) rfl rfl rfl (hts _ kw_1) (hts _ kw_11) (hts _ kw_12) rfl (by decide +kernel) ⟨by decide, by decide⟩) (kc_preS (wr := []) hK hP hD) rfl rfl hl.1 rfl (lv_room (Nat.le_of_ble_eq_true rfl)) d_law_4 ⟨by show _ ≤ 601024; omega, by show _ ≤ 7293034; omega⟩) hP hD hS hA (fun h H locs hp hP hD hS => ?_)
  have hp : h 0 = o1 := hp
  rw [← hp]
  have hP : va_P D kc_cl (kc_C h cJ' cI (fun _ => 0) (fun _ => 0) (fun _ => 0) (fun _ => 0)) H := hP
  have hD : va_D A (kc_C h cJ' cI (fun _ => 0) (fun _ => 0) (fun _ => 0) (fun _ => 0)) := hD
  refine lv_astore_n hx hb d_law_7 rfl hl (by decide) rfl (fun ls hl => ?_)
  have hl : lv_has ls 8 [(1, .ref (h 0)), (0, .ref b)] := hl
  refine va_new (ci := 2) (fs := [.int 0, .null, .null, .null, .null, .null, .null]) (C := R_M) (T := F_M) (N := 7) (own := R_L) hx hb hts u_M_in t_M t_M_ok hown (hts _ kw_180) (hts _ kw_181) (hts _ kw_3) hK hP hD hS hA rfl (fun j hj => by rcases j with _ | _ | _ | _ | _ | _ | _ | j <;> first | rfl | omega) (by show _ ≤ 601024; omega) (by show _ ≤ 7293034; omega) d_law_8 (fun o2 H hP hD hS => ?_)
  have hP : va_P D kc_cl (kc_C h cJ' cI (fun _ => 0) (fun _ => 0) (fun _ => 0) (fun _ => 0) ++ [(o2, .inr (2, [.int 0, .null, .null, .null, .null, .null, .null]))]) H := hP
  have hD : va_D A (kc_C h cJ' cI (fun _ => 0) (fun _ => 0) (fun _ => 0) (fun _ => 0) ++ [(o2, .inr (2, [.int 0, .null, .null, .null, .null, .null, .null]))]) := hD
  refine lv_dup hx hb d_law_11 rfl ?_
  refine kc_goV (wr := kc_C h cJ' cI (fun _ => 0) (fun _ => 0) (fun _ => 0) (fun _ => 0)) (ws := [(o2, .inr (2, [.int 0, .null, .null, .null, .null, .null, .null]))]) (va_runI (As := []) (rest := [.ref o2]) ⟨hx, hb, hml, hown, hts⟩ (c_M_init l D o2 cJ' cI cX H.size) (cwI 0 hts (kc_gi (kc_inC kw_184)) rfl rfl rfl (hts _ kw_3) (hts _ kw_182) (hts _ kw_183) rfl (by decide +kernel) ⟨by decide, by decide⟩) (kc_preSE (wr := kc_C h cJ' cI (fun _ => 0) (fun _ => 0) (fun _ => 0) (fun _ => 0)) (ws := [(o2, .inr (2, [.int 0, .null, .null, .null, .null, .null, .null]))]) (Ex := km_AO cJ' cX) hK hP hD (fun U g mk a h9 => km_AO_moved (u := U) (U := U.calling g mk a) (Vm.Alike.refl U.vm) h9) (fun U hU hW => km_AO_moved hW.alike hAO)) rfl rfl hl.1 rfl (lv_room (Nat.le_of_ble_eq_true rfl)) d_law_12 ⟨by show _ ≤ 601024; omega, by show _ ≤ 7293034; omega⟩) hP hD hS hA (fun g H locs hp hP hD hS => ?_)
  have hp : g 0 = o2 := hp
  rw [← hp]
  have hP : va_P D kc_cl (kc_C h cJ' cI (fun _ => 0) (fun _ => 0) (fun _ => 0) (fun _ => 0) ++ kc_Mw g cJ' cI cX 0 (fun _ => 0) (fun _ => 0) (fun _ => 0) (fun _ => 0) (fun _ _ => 0)) H := hP
  have hD : va_D A (kc_C h cJ' cI (fun _ => 0) (fun _ => 0) (fun _ => 0) (fun _ => 0) ++ kc_Mw g cJ' cI cX 0 (fun _ => 0) (fun _ => 0) (fun _ => 0) (fun _ => 0) (fun _ _ => 0)) := hD
  refine lv_astore_n hx hb d_law_15 rfl hl (by decide) rfl (fun ls hl => ?_)
  have hl : lv_has ls 8 [(2, .ref (g 0)), (1, .ref (h 0)), (0, .ref b)] := hl
  refine lv_iconst (v := nI 1) hx hb d_law_16 (by decide +kernel) ?_
  refine ka_newJ (n := 1) hx hb (hts _ kw_36) hK hP hD hS hA 0 rfl (by decide) (by show _ ≤ 601024; omega) (by show _ ≤ 7293034; omega) d_law_17 (fun ob H hP hD hS => ?_)
  have hP := kc_swapP hP
  have hD := kc_swapD hD
  have hP : va_P D kc_cl (kc_CO ob (fun _ => 0) h cJ' cI (fun _ => 0) (fun _ => 0) (fun _ => 0) (fun _ => 0) ++ kc_Mw g cJ' cI cX 0 (fun _ => 0) (fun _ => 0) (fun _ => 0) (fun _ => 0) (fun _ _ => 0)) H := hP
  have hD : va_D A (kc_CO ob (fun _ => 0) h cJ' cI (fun _ => 0) (fun _ => 0) (fun _ => 0) (fun _ => 0) ++ kc_Mw g cJ' cI cX 0 (fun _ => 0) (fun _ => 0) (fun _ => 0) (fun _ => 0) (fun _ _ => 0)) := hD
  refine lv_astore_n hx hb d_law_19 rfl hl (by decide) rfl (fun ls hl => ?_)
  have hl : lv_has ls 8 [(3, .ref ob), (2, .ref (g 0)), (1, .ref (h 0)), (0, .ref b)] := hl
  refine lv_iconst (v := nI 0) hx hb d_law_20 (by decide +kernel) ?_
  refine lv_istore hx hb d_law_21 hl (by decide) rfl (fun ls hl => ?_)
  have hl : lv_has ls 8 [(4, .int (nI (5 * 0))), (3, .ref ob), (2, .ref (g 0)), (1, .ref (h 0)), (0, .ref b)] := hl
  have hl : lv_has ls 8 [(4, .int (nI (5 * 0))), (0, .ref b), (1, .ref (h 0)), (2, .ref (g 0)), (3, .ref ob)] := lv_sub hl [0, 4, 3, 2, 1] rfl
  refine W.widen (k := 24 + 0) (n := 623 + 6 * 0) (by omega) (by omega) ?_
  exact law_loop hfl ⟨hx, hb, hml, hown, hts⟩ hr hlk hK hX hbl (fun h9 => by have := hA2 _ h9; omega) hA hA2 hok ⟨haS, fun h9 => by have := hA2 _ h9; omega⟩ ⟨hbS, fun h9 => by have := hA2 _ h9; omega⟩ hL 512 0 H locs ls _ _ _ _ _ _ _ _ _ _ _ (by omega) (by omega) hl ⟨hP, hD, hS⟩ ⟨fun _ => 0, fun q hq => ⟨(by show 0 < 136; decide), nI_0.symm, nI_0.symm, fun c hc => rfl⟩⟩
set_option maxHeartbeats 4000000 in
theorem lw_walk (l : Launch) (hfl : l.flags = flags0) (b : Addr) (xs : List Int32) : MetFree l x (headSpec (Jvm.Cond.code x code maxLocals ret :: tables_1) room_1) (lw_P b xs) (fun _ _ _ _ _ => True) lw_Q := by
  refine MetFree.of_bodyS (code := code) (maxLocals := maxLocals) (ret := ret) (by decide) ?_ ?_
  · intro args s m h hn
    obtain ⟨meth, c, h1, h2, h3, h4, h5, h6, -, -⟩ := Cond.code_spec hn (atoms_spec (ws := Jvm.Cond.code x code maxLocals ret :: tables_1) h _ List.mem_cons_self)
    exact ⟨meth, c, h1, h2, h3, h4, h5, h6⟩
  · intro p e s m args below meth c s₁ B hml0 hP _
    obtain ⟨rfl, hx, hbd, hgv⟩ := hP
    obtain ⟨scr, harrAt, hlist, hof, hsmall⟩ := hx
    obtain ⟨hcb, hkn, -, -⟩ := State.arrayAt?_spec harrAt
    have hown : s.vm.findClass R_law = some m.cls := findClass_of_methodNamed B.named
    have hts0 : ∀ c ∈ (Jvm.Cond.code x code maxLocals ret :: tables_1), c.before #[Value.ref b] s = true := atoms_spec (ws := Jvm.Cond.code x code maxLocals ret :: tables_1) B.pre
    have hts : ∀ w ∈ lw_tbl, w.before #[Value.ref b] s = true := k2_hts_sels lw_privs (fun w hw => hts0 w (List.mem_cons_of_mem _ hw)) lw_privs_ok
    have hml : c.maxLocals = 8 := B.maxLocals_eq (hts0 _ List.mem_cons_self)
    have X₀ : Stand p l e room_1 s m #[Value.ref b] below meth c s₁ [] 0 0 := Stand.of_body B
    have hh0 : s₁.heap = s.heap := by rw [B.state]; rfl
    have hsz : scr.slots.size = xs.length := by rw [← Array.length_toList, hlist, List.length_map]
    have hval : ∀ j : Nat, j < xs.length → scr.slots[j]? = some (.int (xs.getD j 0)) := fun j hj => by
      rw [← Array.getElem?_toList, hlist]
      simp [hj]
    have hbl : b < s.heap.size := (Array.getElem?_eq_some_iff.mp hcb).1
    have hX : va_X b xs.length (fun j => xs.getD j 0) s s.heap := ⟨scr, hcb, hof, hkn, hsz, hval⟩
    have K : W p l e room_1 s m #[Value.ref b] below meth c s₁.heap [] 0 0 (lw_Z below #[Value.ref b] s) (entryFrame m ([Value.ref b] : List Value).toArray 8) := by
      rw [hh0]
      exact whole_start l hfl hbd ⟨B.exec, B.bytes, B.returns, hml, hown, hts, hX, hbl, B.notSynchronized, hgv⟩
    obtain ⟨t, a1, o, b1, b2, b3⟩ := K s₁ rfl X₀
    exact ⟨t, o, a1, b1, b2, b3⟩
theorem lw_pre_spec {args : Array Value} {s : State} (h : (Jvm.Cond.and given_1 narrow_1).before args s = true) (hr : rest_1_c.before args s = true) : ∃ (b : Addr) (xs : List Int32), lw_P b xs args s := by
  have hs := flat_of_before _ h
  have hq := flat_of_before _ hr
  have hc : (Cond.count 1).before args s = true := hs _ (by decide +kernel)
  have harr : (Cond.arrayOf (.arg 0) .int).before args s = true := hs _ (by decide +kernel)
  have hle : (Cond.le (.length (.arg 0)) (.int 2560)).before args s = true := hs _ (by decide +kernel)
  have hlen : (Cond.isInt (.length (.arg 0))).before args s = true := hq _ (by decide +kernel)
  have hall : (Cond.all (.arg 0) (.isInt (.elem (.arg 0) (.index 0)))).before args s = true := hq _ (by decide +kernel)
  obtain ⟨b, xs, hb, hx⟩ := State.ints_of_pre rfl harr hlen hall
  have hsm : xs.length < 2 ^ 31 := hx.choose_spec.2.2.2
  have hev : (Term.length (.arg 0)).eval args s none [] s = some (.int xs.length.toInt32) := hx.length_eval hb
  have hv := Cond.le_ints hev (show (Term.int 2560).eval args s none [] s = some (.int 2560) from rfl)
  have hd : xs.length.toInt32 ≤ 2560 := by
    simpa [Cond.before, Cond.holds, hv] using hle
  have hN : xs.length ≤ 2560 := (Int32.ofNat_le_ofNat hsm (by decide)).mp (show Int32.ofNat xs.length ≤ Int32.ofNat 2560 from hd)
  exact ⟨b, xs, Cond.one_arg hc (show args[0]? = some (.ref b) from hb), hx, hN, h⟩
theorem lw_comes (l : Launch) (hfl : l.flags = flags0) : Comes l x (Jvm.Cond.code x code maxLocals ret :: tables_1) room_1 (fun tb e args s => Calls_1 tb e args s ∧ rest_1 tb e args s ∧ Pre_1 tb e args s)
    (fun _ _ args s o t => lw_Q args s o t) := by
  intro p e ha hc hk s m args below hf hfit hheap happ hpre
  obtain ⟨b, xs, hP⟩ := lw_pre_spec hpre.2.2 hpre.2.1
  obtain ⟨k, o, h1, h2, h3, hQ⟩ := lw_walk l hfl b xs p e ha hc hk s m args below hf ((Spec.applies_iff_loose hf).mp happ).1 hP trivial
  exact ⟨k, o, h1, h2, h3, hQ⟩
theorem lw_frame {s t : State} {o : Outcome} {args : Array Value} (h : Framed s o t [] 601024 7293034) :
    Framed s o t (fieldLocs frame_1_writes args s ++ arrayLocs frame_1_arrays args s ++ staticLocs frame_1_statics s) 601024 7293034 := h
theorem lw_limb (L : Cond) (hL : ∀ (args : Array Value) (s t : State), L.after args s (.returned (some (.int 1))) t = true) :
    ArmFor flags0 classFile x code maxLocals ret World_1 tables_1 room_1 Calls_1 rest_1 Pre_1
      (fun tb e a s o t => postC L tb e a s o t ∧ Framed s o t (fieldLocs frame_1_writes a s ++ arrayLocs frame_1_arrays a s ++ staticLocs frame_1_statics s) 601024 7293034) := by
  intro l hfl _ _ p e ha hc hk s m args below hf hfit hheap happ hpre
  obtain ⟨k, o, h1, h2, h3, rfl, hF⟩ := lw_comes l hfl p e ha hc hk s m args below hf hfit hheap happ hpre
  exact ⟨k, _, h1, h2, h3, hL args s _, lw_frame hF⟩
theorem i_vc : Claimed_1_1 ∧ Claimed_1_2 := ⟨lw_limb limb_1_1 (fun args s t => by simp [limb_1_1, Cond.after, Cond.holds, Cond.value]), lw_limb limb_1_2 (fun args s t => Cond.after_iff.mpr (by
  first | (rw [show limb_1_2 = Cond.eq .result (.int 1) from rfl, Cond.eq_ints (x := 1) (y := 1) rfl rfl]; simp; done) | (simp [limb_1_2, Cond.value, Term.eval]; done)))⟩
end
