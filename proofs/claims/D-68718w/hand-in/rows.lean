section
-- ===== PART A: goes FIRST, ahead of the names: the tables' words, and 'selects' of the private methods out of them =====
/-- a private method of a class that the tables say can be made, by its rows of tables_1 -/
def lw_okq (q : MethodName × Nat) : Prop := (q.1.cls ≠ "java/lang/invoke/MethodHandle" ∧ q.1.cls ≠ "java/lang/invoke/VarHandle") ∧ Cond.instantiable q.1.cls q.2 ∈ tables_1 ∧ Cond.privateMethod q.1 ∈ tables_1 ∧ Cond.instanceMethod q.1 ∈ tables_1
theorem lw_p0 : lw_okq (⟨"ModeKeeper$Modes", "become", "(I)V"⟩, 6) := ⟨⟨by decide +kernel, by decide +kernel⟩, List.mem_of_getElem? (i := 27) (by decide +kernel), List.mem_of_getElem? (i := 125) (by decide +kernel), List.mem_of_getElem? (i := 126) (by decide +kernel)⟩
theorem lw_p1 : lw_okq (⟨"ModeKeeperModel", "becomes", "(I)Z"⟩, 12) := ⟨⟨by decide +kernel, by decide +kernel⟩, List.mem_of_getElem? (i := 216) (by decide +kernel), List.mem_of_getElem? (i := 267) (by decide +kernel), List.mem_of_getElem? (i := 268) (by decide +kernel)⟩
theorem lw_p2 : lw_okq (⟨"ModeKeeperModel", "forms", "()I"⟩, 12) := ⟨⟨by decide +kernel, by decide +kernel⟩, List.mem_of_getElem? (i := 216) (by decide +kernel), List.mem_of_getElem? (i := 287) (by decide +kernel), List.mem_of_getElem? (i := 288) (by decide +kernel)⟩
theorem lw_p3 : lw_okq (⟨"ModeKeeperModel", "isThere", "(I)Z"⟩, 12) := ⟨⟨by decide +kernel, by decide +kernel⟩, List.mem_of_getElem? (i := 216) (by decide +kernel), List.mem_of_getElem? (i := 295) (by decide +kernel), List.mem_of_getElem? (i := 296) (by decide +kernel)⟩
def lw_privs_1 : List (MethodName × Nat) := [(⟨"ModeKeeper$Modes", "become", "(I)V"⟩, 6), (⟨"ModeKeeperModel", "becomes", "(I)Z"⟩, 12), (⟨"ModeKeeperModel", "forms", "()I"⟩, 12), (⟨"ModeKeeperModel", "isThere", "(I)Z"⟩, 12)]
theorem lw_r1 : ∀ q ∈ lw_privs_1, lw_okq q := List.forall_mem_cons.mpr ⟨lw_p0, List.forall_mem_cons.mpr ⟨lw_p1, List.forall_mem_cons.mpr ⟨lw_p2, List.forall_mem_cons.mpr ⟨lw_p3, fun _ h => absurd h List.not_mem_nil⟩⟩⟩⟩
def lw_privs : List (MethodName × Nat) := lw_privs_1
def lw_tbl : List Cond := k2_sels lw_privs ++ tables_1
theorem lw_privs_ok : ∀ q ∈ lw_privs, lw_okq q := lw_r1
def F_MK : u_T := fun k => match k with
  | 0 => ("ModeKeeper", "counter", "LModeKeeper$Counter;", true)
  | 1 => ("ModeKeeper", "modes", "LModeKeeper$Modes;", true)
  | 2 => ("ModeKeeper", "forms", "LModeKeeper$Forms;", true)
  | 3 => ("ModeKeeper", "text", "[B", true)
  | _ => ("ModeKeeper", "size", "I", false)
def F_Co : u_T := fun k => match k with
  | _ => ("ModeKeeper$Counter", "changes", "I", false)
def F_Mo : u_T := fun k => match k with
  | 0 => ("ModeKeeper$Modes", "listener", "LModeKeeper$Listener;", true)
  | 1 => ("ModeKeeper$Modes", "safe", "[I", true)
  | 2 => ("ModeKeeper$Modes", "actuators", "[I", true)
  | 3 => ("ModeKeeper$Modes", "mode", "I", false)
  | 4 => ("ModeKeeper$Modes", "alarmed", "Z", false)
  | _ => ("ModeKeeper$Modes", "alarm", "I", false)
def F_Fo : u_T := fun k => match k with
  | 0 => ("ModeKeeper$Forms", "every", "[I", true)
  | 1 => ("ModeKeeper$Forms", "on", "[Z", true)
  | 2 => ("ModeKeeper$Forms", "parameters", "[B", true)
  | 3 => ("ModeKeeper$Forms", "sizes", "[I", true)
  | _ => ("ModeKeeper$Forms", "count", "I", false)
def F_Mm : u_T := fun k => match k with
  | 0 => ("ModeKeeperModel", "thrown", "I", false)
  | 1 => ("ModeKeeperModel", "mode", "I", false)
  | 2 => ("ModeKeeperModel", "actuators", "[I", true)
  | 3 => ("ModeKeeperModel", "alarmed", "Z", false)
  | 4 => ("ModeKeeperModel", "alarmTick", "I", false)
  | 5 => ("ModeKeeperModel", "changes", "I", false)
  | 6 => ("ModeKeeperModel", "size", "I", false)
  | 7 => ("ModeKeeperModel", "text", "[I", true)
  | 8 => ("ModeKeeperModel", "every", "[I", true)
  | 9 => ("ModeKeeperModel", "on", "[Z", true)
  | 10 => ("ModeKeeperModel", "many", "[I", true)
  | _ => ("ModeKeeperModel", "parameters", "[I", true)
/-- the classes whose objects the worlds hold, by number -/
abbrev classes : List vw_C := [("ModeKeeper", F_MK, 5), ("ModeKeeper$Counter", F_Co, 1), ("ModeKeeper$Modes", F_Mo, 6), ("ModeKeeper$Forms", F_Fo, 5), ("ModeKeeperModel", F_Mm, 12)]
/-- the steady words of the tables: every method's words are its own code and these -/
def BIG : List Cond := lw_tbl.filter goodWord
theorem big_in {w : Cond} (i : Nat) (h : lw_tbl[i]? = some w) (hg : goodWord w = true) : w ∈ BIG := List.mem_filter.mpr ⟨List.mem_of_getElem? h, hg⟩
theorem big_sub : ∀ w ∈ BIG, w ∈ lw_tbl := fun _ h => (List.mem_filter.mp h).1
theorem big_good : ∀ w ∈ BIG, goodWord w = true := fun _ h => (List.mem_filter.mp h).2
theorem k_0 : (Cond.selects "ModeKeeper$Modes" (⟨"ModeKeeper$Modes", "become", "(I)V"⟩ : MethodName) (⟨"ModeKeeper$Modes", "become", "(I)V"⟩ : MethodName)) ∈ BIG := big_in 0 (by decide +kernel) rfl
theorem k_1 : (Cond.selects "ModeKeeperModel" (⟨"ModeKeeperModel", "becomes", "(I)Z"⟩ : MethodName) (⟨"ModeKeeperModel", "becomes", "(I)Z"⟩ : MethodName)) ∈ BIG := big_in 1 (by decide +kernel) rfl
theorem k_2 : (Cond.selects "ModeKeeperModel" (⟨"ModeKeeperModel", "forms", "()I"⟩ : MethodName) (⟨"ModeKeeperModel", "forms", "()I"⟩ : MethodName)) ∈ BIG := big_in 2 (by decide +kernel) rfl
theorem k_3 : (Cond.selects "ModeKeeperModel" (⟨"ModeKeeperModel", "isThere", "(I)Z"⟩ : MethodName) (⟨"ModeKeeperModel", "isThere", "(I)Z"⟩ : MethodName)) ∈ BIG := big_in 3 (by decide +kernel) rfl
theorem k_4 : (Cond.initialized "ModeKeeperLaw") ∈ BIG := big_in 4 (by decide +kernel) rfl
theorem k_5 : (Cond.initialized "ModeKeeper") ∈ BIG := big_in 5 (by decide +kernel) rfl
theorem k_6 : (Cond.initialized "ModeKeeper$Counter") ∈ BIG := big_in 6 (by decide +kernel) rfl
theorem k_7 : (Cond.initialized "ModeKeeper$Modes") ∈ BIG := big_in 7 (by decide +kernel) rfl
theorem k_8 : (Cond.initialized "ModeKeeper$Forms") ∈ BIG := big_in 8 (by decide +kernel) rfl
theorem k_9 : (Cond.initialized "ModeKeeperModel") ∈ BIG := big_in 9 (by decide +kernel) rfl
theorem k_10 : (Cond.initialized "java/lang/System") ∈ BIG := big_in 10 (by decide +kernel) rfl
theorem k_11 : (Cond.classLink "ModeKeeperLaw" 7 "ModeKeeper") ∈ BIG := big_in 11 (by decide +kernel) rfl
theorem k_12 : (Cond.instantiable "ModeKeeper" 5) ∈ BIG := big_in 12 (by decide +kernel) rfl
theorem k_13 : (Cond.methodLink "ModeKeeperLaw" 9 (⟨"ModeKeeper", "<init>", "()V"⟩ : MethodName)) ∈ BIG := big_in 13 (by decide +kernel) rfl
theorem k_14 : (Cond.instanceMethod (⟨"ModeKeeper", "<init>", "()V"⟩ : MethodName)) ∈ BIG := big_in 14 (by decide +kernel) rfl
theorem k_15 : (Cond.code (⟨"ModeKeeper", "<init>", "()V"⟩ : MethodName) prog_1_method_1_code 1 none) ∈ BIG := big_in 15 rfl rfl
theorem k_16 : (Cond.methodLink "ModeKeeper" 1 (⟨"java/lang/Object", "<init>", "()V"⟩ : MethodName)) ∈ BIG := big_in 16 (by decide +kernel) rfl
theorem k_17 : (Cond.instanceMethod (⟨"java/lang/Object", "<init>", "()V"⟩ : MethodName)) ∈ BIG := big_in 17 (by decide +kernel) rfl
theorem k_18 : (Cond.code (⟨"java/lang/Object", "<init>", "()V"⟩ : MethodName) object_method_1_code 1 none) ∈ BIG := big_in 18 rfl rfl
theorem k_19 : (Cond.classLink "ModeKeeper" 7 "ModeKeeper$Counter") ∈ BIG := big_in 19 (by decide +kernel) rfl
theorem k_20 : (Cond.instantiable "ModeKeeper$Counter" 1) ∈ BIG := big_in 20 (by decide +kernel) rfl
theorem k_21 : (Cond.methodLinkNest "ModeKeeper" 9 (⟨"ModeKeeper$Counter", "<init>", "()V"⟩ : MethodName) "ModeKeeper") ∈ lw_tbl := List.mem_of_getElem? (i := 21) (by decide +kernel)
theorem k_22 : (Cond.instanceMethod (⟨"ModeKeeper$Counter", "<init>", "()V"⟩ : MethodName)) ∈ BIG := big_in 22 (by decide +kernel) rfl
theorem k_23 : (Cond.code (⟨"ModeKeeper$Counter", "<init>", "()V"⟩ : MethodName) prog_2_method_1_code 1 none) ∈ BIG := big_in 23 rfl rfl
theorem k_24 : (Cond.methodLink "ModeKeeper$Counter" 1 (⟨"java/lang/Object", "<init>", "()V"⟩ : MethodName)) ∈ BIG := big_in 24 (by decide +kernel) rfl
theorem k_25 : (Cond.fieldLink "ModeKeeper$Counter" 7 "ModeKeeper$Counter" "changes" "I") ∈ BIG := big_in 25 (by decide +kernel) rfl
theorem k_26 : (Cond.fieldLinkNest "ModeKeeper" 91 "ModeKeeper$Counter" "changes" "I" "ModeKeeper") ∈ lw_tbl := List.mem_of_getElem? (i := 26) (by decide +kernel)
theorem k_27 : (Cond.lays "ModeKeeper$Counter" "ModeKeeper$Counter" "changes" "I") ∈ BIG := big_in 27 (by decide +kernel) rfl
theorem k_28 : (Cond.soleField "ModeKeeper$Counter" "changes") ∈ lw_tbl := List.mem_of_getElem? (i := 28) (by decide +kernel)
theorem k_29 : (Cond.superclass "ModeKeeper$Counter" "java/lang/Object") ∈ lw_tbl := List.mem_of_getElem? (i := 29) (by decide +kernel)
theorem k_30 : (Cond.classLink "ModeKeeper" 16 "ModeKeeper$Modes") ∈ BIG := big_in 30 (by decide +kernel) rfl
theorem k_31 : (Cond.instantiable "ModeKeeper$Modes" 6) ∈ BIG := big_in 31 (by decide +kernel) rfl
theorem k_32 : (Cond.methodLink "ModeKeeper" 18 (⟨"ModeKeeper$Modes", "<init>", "(LModeKeeper$Listener;)V"⟩ : MethodName)) ∈ BIG := big_in 32 (by decide +kernel) rfl
theorem k_33 : (Cond.instanceMethod (⟨"ModeKeeper$Modes", "<init>", "(LModeKeeper$Listener;)V"⟩ : MethodName)) ∈ BIG := big_in 33 (by decide +kernel) rfl
theorem k_34 : (Cond.code (⟨"ModeKeeper$Modes", "<init>", "(LModeKeeper$Listener;)V"⟩ : MethodName) prog_5_method_1_code 2 none) ∈ BIG := big_in 34 rfl rfl
theorem k_35 : (Cond.methodLink "ModeKeeper$Modes" 3 (⟨"java/lang/Object", "<init>", "()V"⟩ : MethodName)) ∈ BIG := big_in 35 (by decide +kernel) rfl
theorem k_36 : (Cond.fieldLink "ModeKeeper$Modes" 22 "ModeKeeper$Modes" "listener" "LModeKeeper$Listener;") ∈ BIG := big_in 36 (by decide +kernel) rfl
theorem k_37 : (Cond.fieldLink "ModeKeeper$Modes" 9 "ModeKeeper$Modes" "safe" "[I") ∈ BIG := big_in 37 (by decide +kernel) rfl
theorem k_38 : (Cond.fieldLink "ModeKeeper$Modes" 15 "ModeKeeper$Modes" "actuators" "[I") ∈ BIG := big_in 38 (by decide +kernel) rfl
theorem k_39 : (Cond.fieldLinkNest "ModeKeeper" 79 "ModeKeeper$Modes" "actuators" "[I" "ModeKeeper") ∈ lw_tbl := List.mem_of_getElem? (i := 39) (by decide +kernel)
theorem k_40 : (Cond.fieldLink "ModeKeeper$Modes" 18 "ModeKeeper$Modes" "mode" "I") ∈ BIG := big_in 40 (by decide +kernel) rfl
theorem k_41 : (Cond.fieldLinkNest "ModeKeeper" 82 "ModeKeeper$Modes" "mode" "I" "ModeKeeper") ∈ lw_tbl := List.mem_of_getElem? (i := 41) (by decide +kernel)
theorem k_42 : (Cond.fieldLink "ModeKeeper$Modes" 48 "ModeKeeper$Modes" "alarmed" "Z") ∈ BIG := big_in 42 (by decide +kernel) rfl
theorem k_43 : (Cond.fieldLinkNest "ModeKeeper" 85 "ModeKeeper$Modes" "alarmed" "Z" "ModeKeeper") ∈ lw_tbl := List.mem_of_getElem? (i := 43) (by decide +kernel)
theorem k_44 : (Cond.fieldLink "ModeKeeper$Modes" 52 "ModeKeeper$Modes" "alarm" "I") ∈ BIG := big_in 44 (by decide +kernel) rfl
theorem k_45 : (Cond.fieldLinkNest "ModeKeeper" 89 "ModeKeeper$Modes" "alarm" "I" "ModeKeeper") ∈ lw_tbl := List.mem_of_getElem? (i := 45) (by decide +kernel)
theorem k_46 : (Cond.laysFinal "ModeKeeper$Modes" "ModeKeeper$Modes" "listener" "LModeKeeper$Listener;") ∈ BIG := big_in 46 (by decide +kernel) rfl
theorem k_47 : (Cond.soleField "ModeKeeper$Modes" "listener") ∈ lw_tbl := List.mem_of_getElem? (i := 47) (by decide +kernel)
theorem k_48 : (Cond.laysFinal "ModeKeeper$Modes" "ModeKeeper$Modes" "safe" "[I") ∈ BIG := big_in 48 (by decide +kernel) rfl
theorem k_49 : (Cond.soleField "ModeKeeper$Modes" "safe") ∈ lw_tbl := List.mem_of_getElem? (i := 49) (by decide +kernel)
theorem k_50 : (Cond.laysFinal "ModeKeeper$Modes" "ModeKeeper$Modes" "actuators" "[I") ∈ BIG := big_in 50 (by decide +kernel) rfl
theorem k_51 : (Cond.soleField "ModeKeeper$Modes" "actuators") ∈ lw_tbl := List.mem_of_getElem? (i := 51) (by decide +kernel)
theorem k_52 : (Cond.lays "ModeKeeper$Modes" "ModeKeeper$Modes" "mode" "I") ∈ BIG := big_in 52 (by decide +kernel) rfl
theorem k_53 : (Cond.soleField "ModeKeeper$Modes" "mode") ∈ lw_tbl := List.mem_of_getElem? (i := 53) (by decide +kernel)
theorem k_54 : (Cond.lays "ModeKeeper$Modes" "ModeKeeper$Modes" "alarmed" "Z") ∈ BIG := big_in 54 (by decide +kernel) rfl
theorem k_55 : (Cond.soleField "ModeKeeper$Modes" "alarmed") ∈ lw_tbl := List.mem_of_getElem? (i := 55) (by decide +kernel)
theorem k_56 : (Cond.lays "ModeKeeper$Modes" "ModeKeeper$Modes" "alarm" "I") ∈ BIG := big_in 56 (by decide +kernel) rfl
theorem k_57 : (Cond.soleField "ModeKeeper$Modes" "alarm") ∈ lw_tbl := List.mem_of_getElem? (i := 57) (by decide +kernel)
theorem k_58 : (Cond.superclass "ModeKeeper$Modes" "java/lang/Object") ∈ lw_tbl := List.mem_of_getElem? (i := 58) (by decide +kernel)
theorem k_59 : (Cond.arrayClass .int) ∈ BIG := big_in 59 (by decide +kernel) rfl
theorem k_60 : (Cond.classLink "ModeKeeper" 25 "ModeKeeper$Forms") ∈ BIG := big_in 60 (by decide +kernel) rfl
theorem k_61 : (Cond.instantiable "ModeKeeper$Forms" 5) ∈ BIG := big_in 61 (by decide +kernel) rfl
theorem k_62 : (Cond.methodLinkNest "ModeKeeper" 27 (⟨"ModeKeeper$Forms", "<init>", "()V"⟩ : MethodName) "ModeKeeper") ∈ lw_tbl := List.mem_of_getElem? (i := 62) (by decide +kernel)
theorem k_63 : (Cond.instanceMethod (⟨"ModeKeeper$Forms", "<init>", "()V"⟩ : MethodName)) ∈ BIG := big_in 63 (by decide +kernel) rfl
theorem k_64 : (Cond.code (⟨"ModeKeeper$Forms", "<init>", "()V"⟩ : MethodName) prog_3_method_1_code 1 none) ∈ BIG := big_in 64 rfl rfl
theorem k_65 : (Cond.methodLink "ModeKeeper$Forms" 3 (⟨"java/lang/Object", "<init>", "()V"⟩ : MethodName)) ∈ BIG := big_in 65 (by decide +kernel) rfl
theorem k_66 : (Cond.fieldLink "ModeKeeper$Forms" 11 "ModeKeeper$Forms" "every" "[I") ∈ BIG := big_in 66 (by decide +kernel) rfl
theorem k_67 : (Cond.fieldLinkNest "ModeKeeper" 97 "ModeKeeper$Forms" "every" "[I" "ModeKeeper") ∈ lw_tbl := List.mem_of_getElem? (i := 67) (by decide +kernel)
theorem k_68 : (Cond.fieldLink "ModeKeeper$Forms" 15 "ModeKeeper$Forms" "on" "[Z") ∈ BIG := big_in 68 (by decide +kernel) rfl
theorem k_69 : (Cond.fieldLinkNest "ModeKeeper" 100 "ModeKeeper$Forms" "on" "[Z" "ModeKeeper") ∈ lw_tbl := List.mem_of_getElem? (i := 69) (by decide +kernel)
theorem k_70 : (Cond.fieldLink "ModeKeeper$Forms" 19 "ModeKeeper$Forms" "parameters" "[B") ∈ BIG := big_in 70 (by decide +kernel) rfl
theorem k_71 : (Cond.fieldLink "ModeKeeper$Forms" 23 "ModeKeeper$Forms" "sizes" "[I") ∈ BIG := big_in 71 (by decide +kernel) rfl
theorem k_72 : (Cond.fieldLinkNest "ModeKeeper" 72 "ModeKeeper$Forms" "sizes" "[I" "ModeKeeper") ∈ lw_tbl := List.mem_of_getElem? (i := 72) (by decide +kernel)
theorem k_73 : (Cond.fieldLink "ModeKeeper$Forms" 26 "ModeKeeper$Forms" "count" "I") ∈ BIG := big_in 73 (by decide +kernel) rfl
theorem k_74 : (Cond.fieldLinkNest "ModeKeeper" 94 "ModeKeeper$Forms" "count" "I" "ModeKeeper") ∈ lw_tbl := List.mem_of_getElem? (i := 74) (by decide +kernel)
theorem k_75 : (Cond.laysFinal "ModeKeeper$Forms" "ModeKeeper$Forms" "every" "[I") ∈ BIG := big_in 75 (by decide +kernel) rfl
theorem k_76 : (Cond.soleField "ModeKeeper$Forms" "every") ∈ lw_tbl := List.mem_of_getElem? (i := 76) (by decide +kernel)
theorem k_77 : (Cond.laysFinal "ModeKeeper$Forms" "ModeKeeper$Forms" "on" "[Z") ∈ BIG := big_in 77 (by decide +kernel) rfl
theorem k_78 : (Cond.soleField "ModeKeeper$Forms" "on") ∈ lw_tbl := List.mem_of_getElem? (i := 78) (by decide +kernel)
theorem k_79 : (Cond.laysFinal "ModeKeeper$Forms" "ModeKeeper$Forms" "parameters" "[B") ∈ BIG := big_in 79 (by decide +kernel) rfl
theorem k_80 : (Cond.soleField "ModeKeeper$Forms" "parameters") ∈ lw_tbl := List.mem_of_getElem? (i := 80) (by decide +kernel)
theorem k_81 : (Cond.laysFinal "ModeKeeper$Forms" "ModeKeeper$Forms" "sizes" "[I") ∈ BIG := big_in 81 (by decide +kernel) rfl
theorem k_82 : (Cond.soleField "ModeKeeper$Forms" "sizes") ∈ lw_tbl := List.mem_of_getElem? (i := 82) (by decide +kernel)
theorem k_83 : (Cond.lays "ModeKeeper$Forms" "ModeKeeper$Forms" "count" "I") ∈ BIG := big_in 83 (by decide +kernel) rfl
theorem k_84 : (Cond.soleField "ModeKeeper$Forms" "count") ∈ lw_tbl := List.mem_of_getElem? (i := 84) (by decide +kernel)
theorem k_85 : (Cond.superclass "ModeKeeper$Forms" "java/lang/Object") ∈ lw_tbl := List.mem_of_getElem? (i := 85) (by decide +kernel)
theorem k_86 : (Cond.arrayClass .boolean) ∈ BIG := big_in 86 (by decide +kernel) rfl
theorem k_87 : (Cond.arrayClass .byte) ∈ BIG := big_in 87 (by decide +kernel) rfl
theorem k_88 : (Cond.fieldLink "ModeKeeper" 10 "ModeKeeper" "counter" "LModeKeeper$Counter;") ∈ BIG := big_in 88 (by decide +kernel) rfl
theorem k_89 : (Cond.fieldLink "ModeKeeper" 21 "ModeKeeper" "modes" "LModeKeeper$Modes;") ∈ BIG := big_in 89 (by decide +kernel) rfl
theorem k_90 : (Cond.fieldLink "ModeKeeper" 28 "ModeKeeper" "forms" "LModeKeeper$Forms;") ∈ BIG := big_in 90 (by decide +kernel) rfl
theorem k_91 : (Cond.fieldLink "ModeKeeper" 32 "ModeKeeper" "text" "[B") ∈ BIG := big_in 91 (by decide +kernel) rfl
theorem k_92 : (Cond.fieldLink "ModeKeeper" 51 "ModeKeeper" "size" "I") ∈ BIG := big_in 92 (by decide +kernel) rfl
theorem k_93 : (Cond.laysFinal "ModeKeeper" "ModeKeeper" "counter" "LModeKeeper$Counter;") ∈ BIG := big_in 93 (by decide +kernel) rfl
theorem k_94 : (Cond.soleField "ModeKeeper" "counter") ∈ lw_tbl := List.mem_of_getElem? (i := 94) (by decide +kernel)
theorem k_95 : (Cond.laysFinal "ModeKeeper" "ModeKeeper" "modes" "LModeKeeper$Modes;") ∈ BIG := big_in 95 (by decide +kernel) rfl
theorem k_96 : (Cond.soleField "ModeKeeper" "modes") ∈ lw_tbl := List.mem_of_getElem? (i := 96) (by decide +kernel)
theorem k_97 : (Cond.laysFinal "ModeKeeper" "ModeKeeper" "forms" "LModeKeeper$Forms;") ∈ BIG := big_in 97 (by decide +kernel) rfl
theorem k_98 : (Cond.soleField "ModeKeeper" "forms") ∈ lw_tbl := List.mem_of_getElem? (i := 98) (by decide +kernel)
theorem k_99 : (Cond.laysFinal "ModeKeeper" "ModeKeeper" "text" "[B") ∈ BIG := big_in 99 (by decide +kernel) rfl
theorem k_100 : (Cond.soleField "ModeKeeper" "text") ∈ lw_tbl := List.mem_of_getElem? (i := 100) (by decide +kernel)
theorem k_101 : (Cond.lays "ModeKeeper" "ModeKeeper" "size" "I") ∈ BIG := big_in 101 (by decide +kernel) rfl
theorem k_102 : (Cond.soleField "ModeKeeper" "size") ∈ lw_tbl := List.mem_of_getElem? (i := 102) (by decide +kernel)
theorem k_103 : (Cond.superclass "ModeKeeper" "java/lang/Object") ∈ lw_tbl := List.mem_of_getElem? (i := 103) (by decide +kernel)
theorem k_104 : (Cond.methodLink "ModeKeeperLaw" 13 (⟨"ModeKeeper", "move", "(II)I"⟩ : MethodName)) ∈ BIG := big_in 104 (by decide +kernel) rfl
theorem k_105 : (Cond.instanceMethod (⟨"ModeKeeper", "move", "(II)I"⟩ : MethodName)) ∈ BIG := big_in 105 (by decide +kernel) rfl
theorem k_106 : (Cond.selects "ModeKeeper" (⟨"ModeKeeper", "move", "(II)I"⟩ : MethodName) (⟨"ModeKeeper", "move", "(II)I"⟩ : MethodName)) ∈ BIG := big_in 106 (by decide +kernel) rfl
theorem k_107 : (Cond.code (⟨"ModeKeeper", "move", "(II)I"⟩ : MethodName) prog_1_method_2_code 3 (some .int)) ∈ BIG := big_in 107 rfl rfl
theorem k_108 : (Cond.methodLink "ModeKeeper" 36 (⟨"ModeKeeper$Modes", "move", "(II)I"⟩ : MethodName)) ∈ BIG := big_in 108 (by decide +kernel) rfl
theorem k_109 : (Cond.instanceMethod (⟨"ModeKeeper$Modes", "move", "(II)I"⟩ : MethodName)) ∈ BIG := big_in 109 (by decide +kernel) rfl
theorem k_110 : (Cond.selects "ModeKeeper$Modes" (⟨"ModeKeeper$Modes", "move", "(II)I"⟩ : MethodName) (⟨"ModeKeeper$Modes", "move", "(II)I"⟩ : MethodName)) ∈ BIG := big_in 110 (by decide +kernel) rfl
theorem k_111 : (Cond.code (⟨"ModeKeeper$Modes", "move", "(II)I"⟩ : MethodName) prog_5_method_2_code 4 (some .int)) ∈ BIG := big_in 111 rfl rfl
theorem k_112 : (Cond.methodLink "ModeKeeper$Modes" 26 (⟨"ModeKeeper$Modes", "moving", "(I)I"⟩ : MethodName)) ∈ BIG := big_in 112 (by decide +kernel) rfl
theorem k_113 : (Cond.instanceMethod (⟨"ModeKeeper$Modes", "moving", "(I)I"⟩ : MethodName)) ∈ BIG := big_in 113 (by decide +kernel) rfl
theorem k_114 : (Cond.selects "ModeKeeper$Modes" (⟨"ModeKeeper$Modes", "moving", "(I)I"⟩ : MethodName) (⟨"ModeKeeper$Modes", "moving", "(I)I"⟩ : MethodName)) ∈ BIG := big_in 114 (by decide +kernel) rfl
theorem k_115 : (Cond.code (⟨"ModeKeeper$Modes", "moving", "(I)I"⟩ : MethodName) prog_5_method_3_code 2 (some .int)) ∈ BIG := big_in 115 rfl rfl
theorem k_116 : (Cond.methodLink "ModeKeeperLaw" 18 (⟨"ModeKeeper", "enter", "(I)I"⟩ : MethodName)) ∈ BIG := big_in 116 (by decide +kernel) rfl
theorem k_117 : (Cond.instanceMethod (⟨"ModeKeeper", "enter", "(I)I"⟩ : MethodName)) ∈ BIG := big_in 117 (by decide +kernel) rfl
theorem k_118 : (Cond.selects "ModeKeeper" (⟨"ModeKeeper", "enter", "(I)I"⟩ : MethodName) (⟨"ModeKeeper", "enter", "(I)I"⟩ : MethodName)) ∈ BIG := big_in 118 (by decide +kernel) rfl
theorem k_119 : (Cond.code (⟨"ModeKeeper", "enter", "(I)I"⟩ : MethodName) prog_1_method_3_code 2 (some .int)) ∈ BIG := big_in 119 rfl rfl
theorem k_120 : (Cond.methodLink "ModeKeeper" 40 (⟨"ModeKeeper$Modes", "enter", "(I)I"⟩ : MethodName)) ∈ BIG := big_in 120 (by decide +kernel) rfl
theorem k_121 : (Cond.instanceMethod (⟨"ModeKeeper$Modes", "enter", "(I)I"⟩ : MethodName)) ∈ BIG := big_in 121 (by decide +kernel) rfl
theorem k_122 : (Cond.selects "ModeKeeper$Modes" (⟨"ModeKeeper$Modes", "enter", "(I)I"⟩ : MethodName) (⟨"ModeKeeper$Modes", "enter", "(I)I"⟩ : MethodName)) ∈ BIG := big_in 122 (by decide +kernel) rfl
theorem k_123 : (Cond.code (⟨"ModeKeeper$Modes", "enter", "(I)I"⟩ : MethodName) prog_5_method_5_code 3 (some .int)) ∈ BIG := big_in 123 rfl rfl
theorem k_124 : (Cond.methodLink "ModeKeeper$Modes" 30 (⟨"ModeKeeper$Modes", "entering", "(I)I"⟩ : MethodName)) ∈ BIG := big_in 124 (by decide +kernel) rfl
theorem k_125 : (Cond.instanceMethod (⟨"ModeKeeper$Modes", "entering", "(I)I"⟩ : MethodName)) ∈ BIG := big_in 125 (by decide +kernel) rfl
theorem k_126 : (Cond.selects "ModeKeeper$Modes" (⟨"ModeKeeper$Modes", "entering", "(I)I"⟩ : MethodName) (⟨"ModeKeeper$Modes", "entering", "(I)I"⟩ : MethodName)) ∈ BIG := big_in 126 (by decide +kernel) rfl
theorem k_127 : (Cond.code (⟨"ModeKeeper$Modes", "entering", "(I)I"⟩ : MethodName) prog_5_method_4_code 2 (some .int)) ∈ BIG := big_in 127 rfl rfl
theorem k_128 : (Cond.methodLink "ModeKeeper$Modes" 33 (⟨"ModeKeeper$Modes", "become", "(I)V"⟩ : MethodName)) ∈ BIG := big_in 128 (by decide +kernel) rfl
theorem k_129 : (Cond.privateMethod (⟨"ModeKeeper$Modes", "become", "(I)V"⟩ : MethodName)) ∈ lw_tbl := List.mem_of_getElem? (i := 129) (by decide +kernel)
theorem k_130 : (Cond.instanceMethod (⟨"ModeKeeper$Modes", "become", "(I)V"⟩ : MethodName)) ∈ BIG := big_in 130 (by decide +kernel) rfl
theorem k_131 : (Cond.code (⟨"ModeKeeper$Modes", "become", "(I)V"⟩ : MethodName) prog_5_method_6_code 2 none) ∈ BIG := big_in 131 rfl rfl
theorem k_132 : (Cond.methodLink "ModeKeeper$Modes" 37 (⟨"java/lang/System", "arraycopy", "(Ljava/lang/Object;ILjava/lang/Object;II)V"⟩ : MethodName)) ∈ BIG := big_in 132 (by decide +kernel) rfl
theorem k_133 : (Cond.static (⟨"java/lang/System", "arraycopy", "(Ljava/lang/Object;ILjava/lang/Object;II)V"⟩ : MethodName)) ∈ BIG := big_in 133 (by decide +kernel) rfl
theorem k_134 : (Cond.native (⟨"java/lang/System", "arraycopy", "(Ljava/lang/Object;ILjava/lang/Object;II)V"⟩ : MethodName)) ∈ BIG := big_in 134 (by decide +kernel) rfl
theorem k_135 : (Cond.interfaceEntry "ModeKeeper$Modes" 43) ∈ lw_tbl := List.mem_of_getElem? (i := 135) (by decide +kernel)
theorem k_136 : (Cond.methodLink "ModeKeeper$Modes" 43 (⟨"ModeKeeper$Listener", "changed", "(I)V"⟩ : MethodName)) ∈ BIG := big_in 136 (by decide +kernel) rfl
theorem k_137 : (Cond.interfaceMethod "ModeKeeper$Listener" "ModeKeeper$Listener" "changed" "(I)V") ∈ lw_tbl := List.mem_of_getElem? (i := 137) (by decide +kernel)
theorem k_138 : (Cond.declares (⟨"ModeKeeper$Listener", "changed", "(I)V"⟩ : MethodName)) ∈ lw_tbl := List.mem_of_getElem? (i := 138) (by decide +kernel)
theorem k_139 : (Cond.castable "ModeKeeper$Counter" "ModeKeeper$Listener") ∈ lw_tbl := List.mem_of_getElem? (i := 139) (by decide +kernel)
theorem k_140 : (Cond.selects "ModeKeeper$Counter" (⟨"ModeKeeper$Listener", "changed", "(I)V"⟩ : MethodName) (⟨"ModeKeeper$Counter", "changed", "(I)V"⟩ : MethodName)) ∈ BIG := big_in 140 (by decide +kernel) rfl
theorem k_141 : (Cond.unhidden "ModeKeeper$Counter" "changed" "(I)V") ∈ lw_tbl := List.mem_of_getElem? (i := 141) (by decide +kernel)
theorem k_142 : (Cond.instanceMethod (⟨"ModeKeeper$Counter", "changed", "(I)V"⟩ : MethodName)) ∈ BIG := big_in 142 (by decide +kernel) rfl
theorem k_143 : (Cond.publicMethod (⟨"ModeKeeper$Counter", "changed", "(I)V"⟩ : MethodName)) ∈ lw_tbl := List.mem_of_getElem? (i := 143) (by decide +kernel)
theorem k_144 : (Cond.code (⟨"ModeKeeper$Counter", "changed", "(I)V"⟩ : MethodName) prog_2_method_2_code 2 none) ∈ BIG := big_in 144 rfl rfl
theorem k_145 : (Cond.methodLink "ModeKeeperLaw" 23 (⟨"ModeKeeper", "alarm", "(I)Z"⟩ : MethodName)) ∈ BIG := big_in 145 (by decide +kernel) rfl
theorem k_146 : (Cond.instanceMethod (⟨"ModeKeeper", "alarm", "(I)Z"⟩ : MethodName)) ∈ BIG := big_in 146 (by decide +kernel) rfl
theorem k_147 : (Cond.selects "ModeKeeper" (⟨"ModeKeeper", "alarm", "(I)Z"⟩ : MethodName) (⟨"ModeKeeper", "alarm", "(I)Z"⟩ : MethodName)) ∈ BIG := big_in 147 (by decide +kernel) rfl
theorem k_148 : (Cond.code (⟨"ModeKeeper", "alarm", "(I)Z"⟩ : MethodName) prog_1_method_4_code 2 (some .boolean)) ∈ BIG := big_in 148 rfl rfl
theorem k_149 : (Cond.methodLink "ModeKeeper" 44 (⟨"ModeKeeper$Modes", "alarm", "(I)Z"⟩ : MethodName)) ∈ BIG := big_in 149 (by decide +kernel) rfl
theorem k_150 : (Cond.instanceMethod (⟨"ModeKeeper$Modes", "alarm", "(I)Z"⟩ : MethodName)) ∈ BIG := big_in 150 (by decide +kernel) rfl
theorem k_151 : (Cond.selects "ModeKeeper$Modes" (⟨"ModeKeeper$Modes", "alarm", "(I)Z"⟩ : MethodName) (⟨"ModeKeeper$Modes", "alarm", "(I)Z"⟩ : MethodName)) ∈ BIG := big_in 151 (by decide +kernel) rfl
theorem k_152 : (Cond.code (⟨"ModeKeeper$Modes", "alarm", "(I)Z"⟩ : MethodName) prog_5_method_7_code 2 (some .boolean)) ∈ BIG := big_in 152 rfl rfl
theorem k_153 : (Cond.methodLink "ModeKeeperLaw" 28 (⟨"ModeKeeper", "look", "(I)Z"⟩ : MethodName)) ∈ BIG := big_in 153 (by decide +kernel) rfl
theorem k_154 : (Cond.instanceMethod (⟨"ModeKeeper", "look", "(I)Z"⟩ : MethodName)) ∈ BIG := big_in 154 (by decide +kernel) rfl
theorem k_155 : (Cond.selects "ModeKeeper" (⟨"ModeKeeper", "look", "(I)Z"⟩ : MethodName) (⟨"ModeKeeper", "look", "(I)Z"⟩ : MethodName)) ∈ BIG := big_in 155 (by decide +kernel) rfl
theorem k_156 : (Cond.code (⟨"ModeKeeper", "look", "(I)Z"⟩ : MethodName) prog_1_method_5_code 2 (some .boolean)) ∈ BIG := big_in 156 rfl rfl
theorem k_157 : (Cond.methodLink "ModeKeeper" 48 (⟨"ModeKeeper$Modes", "look", "(I)Z"⟩ : MethodName)) ∈ BIG := big_in 157 (by decide +kernel) rfl
theorem k_158 : (Cond.instanceMethod (⟨"ModeKeeper$Modes", "look", "(I)Z"⟩ : MethodName)) ∈ BIG := big_in 158 (by decide +kernel) rfl
theorem k_159 : (Cond.selects "ModeKeeper$Modes" (⟨"ModeKeeper$Modes", "look", "(I)Z"⟩ : MethodName) (⟨"ModeKeeper$Modes", "look", "(I)Z"⟩ : MethodName)) ∈ BIG := big_in 159 (by decide +kernel) rfl
theorem k_160 : (Cond.code (⟨"ModeKeeper$Modes", "look", "(I)Z"⟩ : MethodName) prog_5_method_8_code 3 (some .boolean)) ∈ BIG := big_in 160 rfl rfl
theorem k_161 : (Cond.methodLink "ModeKeeperLaw" 32 (⟨"ModeKeeper", "put", "(I)I"⟩ : MethodName)) ∈ BIG := big_in 161 (by decide +kernel) rfl
theorem k_162 : (Cond.instanceMethod (⟨"ModeKeeper", "put", "(I)I"⟩ : MethodName)) ∈ BIG := big_in 162 (by decide +kernel) rfl
theorem k_163 : (Cond.selects "ModeKeeper" (⟨"ModeKeeper", "put", "(I)I"⟩ : MethodName) (⟨"ModeKeeper", "put", "(I)I"⟩ : MethodName)) ∈ BIG := big_in 163 (by decide +kernel) rfl
theorem k_164 : (Cond.code (⟨"ModeKeeper", "put", "(I)I"⟩ : MethodName) prog_1_method_6_code 2 (some .int)) ∈ BIG := big_in 164 rfl rfl
theorem k_165 : (Cond.methodLink "ModeKeeperLaw" 36 (⟨"ModeKeeper", "form", "(II)I"⟩ : MethodName)) ∈ BIG := big_in 165 (by decide +kernel) rfl
theorem k_166 : (Cond.instanceMethod (⟨"ModeKeeper", "form", "(II)I"⟩ : MethodName)) ∈ BIG := big_in 166 (by decide +kernel) rfl
theorem k_167 : (Cond.selects "ModeKeeper" (⟨"ModeKeeper", "form", "(II)I"⟩ : MethodName) (⟨"ModeKeeper", "form", "(II)I"⟩ : MethodName)) ∈ BIG := big_in 167 (by decide +kernel) rfl
theorem k_168 : (Cond.code (⟨"ModeKeeper", "form", "(II)I"⟩ : MethodName) prog_1_method_7_code 4 (some .int)) ∈ BIG := big_in 168 rfl rfl
theorem k_169 : (Cond.methodLink "ModeKeeper" 55 (⟨"ModeKeeper$Forms", "add", "(II[BII)I"⟩ : MethodName)) ∈ BIG := big_in 169 (by decide +kernel) rfl
theorem k_170 : (Cond.instanceMethod (⟨"ModeKeeper$Forms", "add", "(II[BII)I"⟩ : MethodName)) ∈ BIG := big_in 170 (by decide +kernel) rfl
theorem k_171 : (Cond.selects "ModeKeeper$Forms" (⟨"ModeKeeper$Forms", "add", "(II[BII)I"⟩ : MethodName) (⟨"ModeKeeper$Forms", "add", "(II[BII)I"⟩ : MethodName)) ∈ BIG := big_in 171 (by decide +kernel) rfl
theorem k_172 : (Cond.code (⟨"ModeKeeper$Forms", "add", "(II[BII)I"⟩ : MethodName) prog_3_method_3_code 6 (some .int)) ∈ BIG := big_in 172 rfl rfl
theorem k_173 : (Cond.methodLink "ModeKeeper$Forms" 30 (⟨"java/lang/System", "arraycopy", "(Ljava/lang/Object;ILjava/lang/Object;II)V"⟩ : MethodName)) ∈ BIG := big_in 173 (by decide +kernel) rfl
theorem k_174 : (Cond.methodLink "ModeKeeperLaw" 40 (⟨"ModeKeeper", "remove", "(I)I"⟩ : MethodName)) ∈ BIG := big_in 174 (by decide +kernel) rfl
theorem k_175 : (Cond.instanceMethod (⟨"ModeKeeper", "remove", "(I)I"⟩ : MethodName)) ∈ BIG := big_in 175 (by decide +kernel) rfl
theorem k_176 : (Cond.selects "ModeKeeper" (⟨"ModeKeeper", "remove", "(I)I"⟩ : MethodName) (⟨"ModeKeeper", "remove", "(I)I"⟩ : MethodName)) ∈ BIG := big_in 176 (by decide +kernel) rfl
theorem k_177 : (Cond.code (⟨"ModeKeeper", "remove", "(I)I"⟩ : MethodName) prog_1_method_8_code 2 (some .int)) ∈ BIG := big_in 177 rfl rfl
theorem k_178 : (Cond.methodLink "ModeKeeper" 59 (⟨"ModeKeeper$Forms", "remove", "(I)I"⟩ : MethodName)) ∈ BIG := big_in 178 (by decide +kernel) rfl
theorem k_179 : (Cond.instanceMethod (⟨"ModeKeeper$Forms", "remove", "(I)I"⟩ : MethodName)) ∈ BIG := big_in 179 (by decide +kernel) rfl
theorem k_180 : (Cond.selects "ModeKeeper$Forms" (⟨"ModeKeeper$Forms", "remove", "(I)I"⟩ : MethodName) (⟨"ModeKeeper$Forms", "remove", "(I)I"⟩ : MethodName)) ∈ BIG := big_in 180 (by decide +kernel) rfl
theorem k_181 : (Cond.code (⟨"ModeKeeper$Forms", "remove", "(I)I"⟩ : MethodName) prog_3_method_4_code 2 (some .int)) ∈ BIG := big_in 181 rfl rfl
theorem k_182 : (Cond.methodLink "ModeKeeper$Forms" 36 (⟨"ModeKeeper$Forms", "is", "(I)Z"⟩ : MethodName)) ∈ BIG := big_in 182 (by decide +kernel) rfl
theorem k_183 : (Cond.instanceMethod (⟨"ModeKeeper$Forms", "is", "(I)Z"⟩ : MethodName)) ∈ BIG := big_in 183 (by decide +kernel) rfl
theorem k_184 : (Cond.selects "ModeKeeper$Forms" (⟨"ModeKeeper$Forms", "is", "(I)Z"⟩ : MethodName) (⟨"ModeKeeper$Forms", "is", "(I)Z"⟩ : MethodName)) ∈ BIG := big_in 184 (by decide +kernel) rfl
theorem k_185 : (Cond.code (⟨"ModeKeeper$Forms", "is", "(I)Z"⟩ : MethodName) prog_3_method_2_code 2 (some .boolean)) ∈ BIG := big_in 185 rfl rfl
theorem k_186 : (Cond.methodLink "ModeKeeperLaw" 44 (⟨"ModeKeeper", "enable", "(IZ)I"⟩ : MethodName)) ∈ BIG := big_in 186 (by decide +kernel) rfl
theorem k_187 : (Cond.instanceMethod (⟨"ModeKeeper", "enable", "(IZ)I"⟩ : MethodName)) ∈ BIG := big_in 187 (by decide +kernel) rfl
theorem k_188 : (Cond.selects "ModeKeeper" (⟨"ModeKeeper", "enable", "(IZ)I"⟩ : MethodName) (⟨"ModeKeeper", "enable", "(IZ)I"⟩ : MethodName)) ∈ BIG := big_in 188 (by decide +kernel) rfl
theorem k_189 : (Cond.code (⟨"ModeKeeper", "enable", "(IZ)I"⟩ : MethodName) prog_1_method_9_code 3 (some .int)) ∈ BIG := big_in 189 rfl rfl
theorem k_190 : (Cond.methodLink "ModeKeeper" 62 (⟨"ModeKeeper$Forms", "enable", "(IZ)I"⟩ : MethodName)) ∈ BIG := big_in 190 (by decide +kernel) rfl
theorem k_191 : (Cond.instanceMethod (⟨"ModeKeeper$Forms", "enable", "(IZ)I"⟩ : MethodName)) ∈ BIG := big_in 191 (by decide +kernel) rfl
theorem k_192 : (Cond.selects "ModeKeeper$Forms" (⟨"ModeKeeper$Forms", "enable", "(IZ)I"⟩ : MethodName) (⟨"ModeKeeper$Forms", "enable", "(IZ)I"⟩ : MethodName)) ∈ BIG := big_in 192 (by decide +kernel) rfl
theorem k_193 : (Cond.code (⟨"ModeKeeper$Forms", "enable", "(IZ)I"⟩ : MethodName) prog_3_method_5_code 3 (some .int)) ∈ BIG := big_in 193 rfl rfl
theorem k_194 : (Cond.methodLink "ModeKeeperLaw" 49 (⟨"ModeKeeper", "due", "(II)I"⟩ : MethodName)) ∈ BIG := big_in 194 (by decide +kernel) rfl
theorem k_195 : (Cond.instanceMethod (⟨"ModeKeeper", "due", "(II)I"⟩ : MethodName)) ∈ BIG := big_in 195 (by decide +kernel) rfl
theorem k_196 : (Cond.selects "ModeKeeper" (⟨"ModeKeeper", "due", "(II)I"⟩ : MethodName) (⟨"ModeKeeper", "due", "(II)I"⟩ : MethodName)) ∈ BIG := big_in 196 (by decide +kernel) rfl
theorem k_197 : (Cond.code (⟨"ModeKeeper", "due", "(II)I"⟩ : MethodName) prog_1_method_10_code 3 (some .int)) ∈ BIG := big_in 197 rfl rfl
theorem k_198 : (Cond.methodLink "ModeKeeper" 66 (⟨"ModeKeeper$Forms", "due", "(II)I"⟩ : MethodName)) ∈ BIG := big_in 198 (by decide +kernel) rfl
theorem k_199 : (Cond.instanceMethod (⟨"ModeKeeper$Forms", "due", "(II)I"⟩ : MethodName)) ∈ BIG := big_in 199 (by decide +kernel) rfl
theorem k_200 : (Cond.selects "ModeKeeper$Forms" (⟨"ModeKeeper$Forms", "due", "(II)I"⟩ : MethodName) (⟨"ModeKeeper$Forms", "due", "(II)I"⟩ : MethodName)) ∈ BIG := big_in 200 (by decide +kernel) rfl
theorem k_201 : (Cond.code (⟨"ModeKeeper$Forms", "due", "(II)I"⟩ : MethodName) prog_3_method_6_code 4 (some .int)) ∈ BIG := big_in 201 rfl rfl
theorem k_202 : (Cond.methodLink "ModeKeeperLaw" 53 (⟨"ModeKeeper", "parameter", "(II)I"⟩ : MethodName)) ∈ BIG := big_in 202 (by decide +kernel) rfl
theorem k_203 : (Cond.instanceMethod (⟨"ModeKeeper", "parameter", "(II)I"⟩ : MethodName)) ∈ BIG := big_in 203 (by decide +kernel) rfl
theorem k_204 : (Cond.selects "ModeKeeper" (⟨"ModeKeeper", "parameter", "(II)I"⟩ : MethodName) (⟨"ModeKeeper", "parameter", "(II)I"⟩ : MethodName)) ∈ BIG := big_in 204 (by decide +kernel) rfl
theorem k_205 : (Cond.code (⟨"ModeKeeper", "parameter", "(II)I"⟩ : MethodName) prog_1_method_11_code 3 (some .int)) ∈ BIG := big_in 205 rfl rfl
theorem k_206 : (Cond.methodLink "ModeKeeper" 69 (⟨"ModeKeeper$Forms", "is", "(I)Z"⟩ : MethodName)) ∈ BIG := big_in 206 (by decide +kernel) rfl
theorem k_207 : (Cond.methodLink "ModeKeeper" 76 (⟨"ModeKeeper$Forms", "parameter", "(II)I"⟩ : MethodName)) ∈ BIG := big_in 207 (by decide +kernel) rfl
theorem k_208 : (Cond.instanceMethod (⟨"ModeKeeper$Forms", "parameter", "(II)I"⟩ : MethodName)) ∈ BIG := big_in 208 (by decide +kernel) rfl
theorem k_209 : (Cond.selects "ModeKeeper$Forms" (⟨"ModeKeeper$Forms", "parameter", "(II)I"⟩ : MethodName) (⟨"ModeKeeper$Forms", "parameter", "(II)I"⟩ : MethodName)) ∈ BIG := big_in 209 (by decide +kernel) rfl
theorem k_210 : (Cond.code (⟨"ModeKeeper$Forms", "parameter", "(II)I"⟩ : MethodName) prog_3_method_7_code 3 (some .int)) ∈ BIG := big_in 210 rfl rfl
theorem k_211 : (Cond.methodLink "ModeKeeperLaw" 57 (⟨"ModeKeeper", "value", "(I)I"⟩ : MethodName)) ∈ BIG := big_in 211 (by decide +kernel) rfl
theorem k_212 : (Cond.instanceMethod (⟨"ModeKeeper", "value", "(I)I"⟩ : MethodName)) ∈ BIG := big_in 212 (by decide +kernel) rfl
theorem k_213 : (Cond.selects "ModeKeeper" (⟨"ModeKeeper", "value", "(I)I"⟩ : MethodName) (⟨"ModeKeeper", "value", "(I)I"⟩ : MethodName)) ∈ BIG := big_in 213 (by decide +kernel) rfl
theorem k_214 : (Cond.code (⟨"ModeKeeper", "value", "(I)I"⟩ : MethodName) prog_1_method_12_code 2 (some .int)) ∈ BIG := big_in 214 rfl rfl
theorem k_215 : (Cond.methodLink "ModeKeeperLaw" 61 (⟨"ModeKeeper", "about", "(II)I"⟩ : MethodName)) ∈ BIG := big_in 215 (by decide +kernel) rfl
theorem k_216 : (Cond.instanceMethod (⟨"ModeKeeper", "about", "(II)I"⟩ : MethodName)) ∈ BIG := big_in 216 (by decide +kernel) rfl
theorem k_217 : (Cond.selects "ModeKeeper" (⟨"ModeKeeper", "about", "(II)I"⟩ : MethodName) (⟨"ModeKeeper", "about", "(II)I"⟩ : MethodName)) ∈ BIG := big_in 217 (by decide +kernel) rfl
theorem k_218 : (Cond.code (⟨"ModeKeeper", "about", "(II)I"⟩ : MethodName) prog_1_method_13_code 3 (some .int)) ∈ BIG := big_in 218 rfl rfl
theorem k_219 : (Cond.classLink "ModeKeeperLaw" 10 "ModeKeeperModel") ∈ BIG := big_in 219 (by decide +kernel) rfl
theorem k_220 : (Cond.instantiable "ModeKeeperModel" 12) ∈ BIG := big_in 220 (by decide +kernel) rfl
theorem k_221 : (Cond.methodLink "ModeKeeperLaw" 12 (⟨"ModeKeeperModel", "<init>", "()V"⟩ : MethodName)) ∈ BIG := big_in 221 (by decide +kernel) rfl
theorem k_222 : (Cond.instanceMethod (⟨"ModeKeeperModel", "<init>", "()V"⟩ : MethodName)) ∈ BIG := big_in 222 (by decide +kernel) rfl
theorem k_223 : (Cond.code (⟨"ModeKeeperModel", "<init>", "()V"⟩ : MethodName) prog_7_method_1_code 1 none) ∈ BIG := big_in 223 rfl rfl
theorem k_224 : (Cond.methodLink "ModeKeeperModel" 1 (⟨"java/lang/Object", "<init>", "()V"⟩ : MethodName)) ∈ BIG := big_in 224 (by decide +kernel) rfl
theorem k_225 : (Cond.fieldLink "ModeKeeperModel" 33 "ModeKeeperModel" "thrown" "I") ∈ BIG := big_in 225 (by decide +kernel) rfl
theorem k_226 : (Cond.fieldLink "ModeKeeperModel" 7 "ModeKeeperModel" "mode" "I") ∈ BIG := big_in 226 (by decide +kernel) rfl
theorem k_227 : (Cond.fieldLink "ModeKeeperModel" 13 "ModeKeeperModel" "actuators" "[I") ∈ BIG := big_in 227 (by decide +kernel) rfl
theorem k_228 : (Cond.fieldLink "ModeKeeperModel" 43 "ModeKeeperModel" "alarmed" "Z") ∈ BIG := big_in 228 (by decide +kernel) rfl
theorem k_229 : (Cond.fieldLink "ModeKeeperModel" 47 "ModeKeeperModel" "alarmTick" "I") ∈ BIG := big_in 229 (by decide +kernel) rfl
theorem k_230 : (Cond.fieldLink "ModeKeeperModel" 36 "ModeKeeperModel" "changes" "I") ∈ BIG := big_in 230 (by decide +kernel) rfl
theorem k_231 : (Cond.fieldLink "ModeKeeperModel" 50 "ModeKeeperModel" "size" "I") ∈ BIG := big_in 231 (by decide +kernel) rfl
theorem k_232 : (Cond.fieldLink "ModeKeeperModel" 17 "ModeKeeperModel" "text" "[I") ∈ BIG := big_in 232 (by decide +kernel) rfl
theorem k_233 : (Cond.fieldLink "ModeKeeperModel" 20 "ModeKeeperModel" "every" "[I") ∈ BIG := big_in 233 (by decide +kernel) rfl
theorem k_234 : (Cond.fieldLink "ModeKeeperModel" 23 "ModeKeeperModel" "on" "[Z") ∈ BIG := big_in 234 (by decide +kernel) rfl
theorem k_235 : (Cond.fieldLink "ModeKeeperModel" 27 "ModeKeeperModel" "many" "[I") ∈ BIG := big_in 235 (by decide +kernel) rfl
theorem k_236 : (Cond.fieldLink "ModeKeeperModel" 30 "ModeKeeperModel" "parameters" "[I") ∈ BIG := big_in 236 (by decide +kernel) rfl
theorem k_237 : (Cond.lays "ModeKeeperModel" "ModeKeeperModel" "thrown" "I") ∈ BIG := big_in 237 (by decide +kernel) rfl
theorem k_238 : (Cond.soleField "ModeKeeperModel" "thrown") ∈ lw_tbl := List.mem_of_getElem? (i := 238) (by decide +kernel)
theorem k_239 : (Cond.lays "ModeKeeperModel" "ModeKeeperModel" "mode" "I") ∈ BIG := big_in 239 (by decide +kernel) rfl
theorem k_240 : (Cond.soleField "ModeKeeperModel" "mode") ∈ lw_tbl := List.mem_of_getElem? (i := 240) (by decide +kernel)
theorem k_241 : (Cond.laysFinal "ModeKeeperModel" "ModeKeeperModel" "actuators" "[I") ∈ BIG := big_in 241 (by decide +kernel) rfl
theorem k_242 : (Cond.soleField "ModeKeeperModel" "actuators") ∈ lw_tbl := List.mem_of_getElem? (i := 242) (by decide +kernel)
theorem k_243 : (Cond.lays "ModeKeeperModel" "ModeKeeperModel" "alarmed" "Z") ∈ BIG := big_in 243 (by decide +kernel) rfl
theorem k_244 : (Cond.soleField "ModeKeeperModel" "alarmed") ∈ lw_tbl := List.mem_of_getElem? (i := 244) (by decide +kernel)
theorem k_245 : (Cond.lays "ModeKeeperModel" "ModeKeeperModel" "alarmTick" "I") ∈ BIG := big_in 245 (by decide +kernel) rfl
theorem k_246 : (Cond.soleField "ModeKeeperModel" "alarmTick") ∈ lw_tbl := List.mem_of_getElem? (i := 246) (by decide +kernel)
theorem k_247 : (Cond.lays "ModeKeeperModel" "ModeKeeperModel" "changes" "I") ∈ BIG := big_in 247 (by decide +kernel) rfl
theorem k_248 : (Cond.soleField "ModeKeeperModel" "changes") ∈ lw_tbl := List.mem_of_getElem? (i := 248) (by decide +kernel)
theorem k_249 : (Cond.lays "ModeKeeperModel" "ModeKeeperModel" "size" "I") ∈ BIG := big_in 249 (by decide +kernel) rfl
theorem k_250 : (Cond.soleField "ModeKeeperModel" "size") ∈ lw_tbl := List.mem_of_getElem? (i := 250) (by decide +kernel)
theorem k_251 : (Cond.laysFinal "ModeKeeperModel" "ModeKeeperModel" "text" "[I") ∈ BIG := big_in 251 (by decide +kernel) rfl
theorem k_252 : (Cond.soleField "ModeKeeperModel" "text") ∈ lw_tbl := List.mem_of_getElem? (i := 252) (by decide +kernel)
theorem k_253 : (Cond.laysFinal "ModeKeeperModel" "ModeKeeperModel" "every" "[I") ∈ BIG := big_in 253 (by decide +kernel) rfl
theorem k_254 : (Cond.soleField "ModeKeeperModel" "every") ∈ lw_tbl := List.mem_of_getElem? (i := 254) (by decide +kernel)
theorem k_255 : (Cond.laysFinal "ModeKeeperModel" "ModeKeeperModel" "on" "[Z") ∈ BIG := big_in 255 (by decide +kernel) rfl
theorem k_256 : (Cond.soleField "ModeKeeperModel" "on") ∈ lw_tbl := List.mem_of_getElem? (i := 256) (by decide +kernel)
theorem k_257 : (Cond.laysFinal "ModeKeeperModel" "ModeKeeperModel" "many" "[I") ∈ BIG := big_in 257 (by decide +kernel) rfl
theorem k_258 : (Cond.soleField "ModeKeeperModel" "many") ∈ lw_tbl := List.mem_of_getElem? (i := 258) (by decide +kernel)
theorem k_259 : (Cond.laysFinal "ModeKeeperModel" "ModeKeeperModel" "parameters" "[I") ∈ BIG := big_in 259 (by decide +kernel) rfl
theorem k_260 : (Cond.soleField "ModeKeeperModel" "parameters") ∈ lw_tbl := List.mem_of_getElem? (i := 260) (by decide +kernel)
theorem k_261 : (Cond.superclass "ModeKeeperModel" "java/lang/Object") ∈ lw_tbl := List.mem_of_getElem? (i := 261) (by decide +kernel)
theorem k_262 : (Cond.methodLink "ModeKeeperLaw" 17 (⟨"ModeKeeperModel", "move", "(II)I"⟩ : MethodName)) ∈ BIG := big_in 262 (by decide +kernel) rfl
theorem k_263 : (Cond.instanceMethod (⟨"ModeKeeperModel", "move", "(II)I"⟩ : MethodName)) ∈ BIG := big_in 263 (by decide +kernel) rfl
theorem k_264 : (Cond.selects "ModeKeeperModel" (⟨"ModeKeeperModel", "move", "(II)I"⟩ : MethodName) (⟨"ModeKeeperModel", "move", "(II)I"⟩ : MethodName)) ∈ BIG := big_in 264 (by decide +kernel) rfl
theorem k_265 : (Cond.code (⟨"ModeKeeperModel", "move", "(II)I"⟩ : MethodName) prog_7_method_3_code 3 (some .int)) ∈ BIG := big_in 265 rfl rfl
theorem k_266 : (Cond.methodLink "ModeKeeperLaw" 22 (⟨"ModeKeeperModel", "enter", "(I)I"⟩ : MethodName)) ∈ BIG := big_in 266 (by decide +kernel) rfl
theorem k_267 : (Cond.instanceMethod (⟨"ModeKeeperModel", "enter", "(I)I"⟩ : MethodName)) ∈ BIG := big_in 267 (by decide +kernel) rfl
theorem k_268 : (Cond.selects "ModeKeeperModel" (⟨"ModeKeeperModel", "enter", "(I)I"⟩ : MethodName) (⟨"ModeKeeperModel", "enter", "(I)I"⟩ : MethodName)) ∈ BIG := big_in 268 (by decide +kernel) rfl
theorem k_269 : (Cond.code (⟨"ModeKeeperModel", "enter", "(I)I"⟩ : MethodName) prog_7_method_5_code 3 (some .int)) ∈ BIG := big_in 269 rfl rfl
theorem k_270 : (Cond.methodLink "ModeKeeperModel" 39 (⟨"ModeKeeperModel", "becomes", "(I)Z"⟩ : MethodName)) ∈ BIG := big_in 270 (by decide +kernel) rfl
theorem k_271 : (Cond.privateMethod (⟨"ModeKeeperModel", "becomes", "(I)Z"⟩ : MethodName)) ∈ lw_tbl := List.mem_of_getElem? (i := 271) (by decide +kernel)
theorem k_272 : (Cond.instanceMethod (⟨"ModeKeeperModel", "becomes", "(I)Z"⟩ : MethodName)) ∈ BIG := big_in 272 (by decide +kernel) rfl
theorem k_273 : (Cond.code (⟨"ModeKeeperModel", "becomes", "(I)Z"⟩ : MethodName) prog_7_method_4_code 4 (some .boolean)) ∈ BIG := big_in 273 rfl rfl
theorem k_274 : (Cond.methodLink "ModeKeeperLaw" 27 (⟨"ModeKeeperModel", "alarm", "(I)Z"⟩ : MethodName)) ∈ BIG := big_in 274 (by decide +kernel) rfl
theorem k_275 : (Cond.instanceMethod (⟨"ModeKeeperModel", "alarm", "(I)Z"⟩ : MethodName)) ∈ BIG := big_in 275 (by decide +kernel) rfl
theorem k_276 : (Cond.selects "ModeKeeperModel" (⟨"ModeKeeperModel", "alarm", "(I)Z"⟩ : MethodName) (⟨"ModeKeeperModel", "alarm", "(I)Z"⟩ : MethodName)) ∈ BIG := big_in 276 (by decide +kernel) rfl
theorem k_277 : (Cond.code (⟨"ModeKeeperModel", "alarm", "(I)Z"⟩ : MethodName) prog_7_method_6_code 2 (some .boolean)) ∈ BIG := big_in 277 rfl rfl
theorem k_278 : (Cond.methodLink "ModeKeeperLaw" 31 (⟨"ModeKeeperModel", "look", "(I)Z"⟩ : MethodName)) ∈ BIG := big_in 278 (by decide +kernel) rfl
theorem k_279 : (Cond.instanceMethod (⟨"ModeKeeperModel", "look", "(I)Z"⟩ : MethodName)) ∈ BIG := big_in 279 (by decide +kernel) rfl
theorem k_280 : (Cond.selects "ModeKeeperModel" (⟨"ModeKeeperModel", "look", "(I)Z"⟩ : MethodName) (⟨"ModeKeeperModel", "look", "(I)Z"⟩ : MethodName)) ∈ BIG := big_in 280 (by decide +kernel) rfl
theorem k_281 : (Cond.code (⟨"ModeKeeperModel", "look", "(I)Z"⟩ : MethodName) prog_7_method_7_code 2 (some .boolean)) ∈ BIG := big_in 281 rfl rfl
theorem k_282 : (Cond.methodLink "ModeKeeperLaw" 35 (⟨"ModeKeeperModel", "put", "(I)I"⟩ : MethodName)) ∈ BIG := big_in 282 (by decide +kernel) rfl
theorem k_283 : (Cond.instanceMethod (⟨"ModeKeeperModel", "put", "(I)I"⟩ : MethodName)) ∈ BIG := big_in 283 (by decide +kernel) rfl
theorem k_284 : (Cond.selects "ModeKeeperModel" (⟨"ModeKeeperModel", "put", "(I)I"⟩ : MethodName) (⟨"ModeKeeperModel", "put", "(I)I"⟩ : MethodName)) ∈ BIG := big_in 284 (by decide +kernel) rfl
theorem k_285 : (Cond.code (⟨"ModeKeeperModel", "put", "(I)I"⟩ : MethodName) prog_7_method_10_code 2 (some .int)) ∈ BIG := big_in 285 rfl rfl
theorem k_286 : (Cond.methodLink "ModeKeeperLaw" 39 (⟨"ModeKeeperModel", "form", "(II)I"⟩ : MethodName)) ∈ BIG := big_in 286 (by decide +kernel) rfl
theorem k_287 : (Cond.instanceMethod (⟨"ModeKeeperModel", "form", "(II)I"⟩ : MethodName)) ∈ BIG := big_in 287 (by decide +kernel) rfl
theorem k_288 : (Cond.selects "ModeKeeperModel" (⟨"ModeKeeperModel", "form", "(II)I"⟩ : MethodName) (⟨"ModeKeeperModel", "form", "(II)I"⟩ : MethodName)) ∈ BIG := big_in 288 (by decide +kernel) rfl
theorem k_289 : (Cond.code (⟨"ModeKeeperModel", "form", "(II)I"⟩ : MethodName) prog_7_method_11_code 5 (some .int)) ∈ BIG := big_in 289 rfl rfl
theorem k_290 : (Cond.methodLink "ModeKeeperModel" 53 (⟨"ModeKeeperModel", "forms", "()I"⟩ : MethodName)) ∈ BIG := big_in 290 (by decide +kernel) rfl
theorem k_291 : (Cond.privateMethod (⟨"ModeKeeperModel", "forms", "()I"⟩ : MethodName)) ∈ lw_tbl := List.mem_of_getElem? (i := 291) (by decide +kernel)
theorem k_292 : (Cond.instanceMethod (⟨"ModeKeeperModel", "forms", "()I"⟩ : MethodName)) ∈ BIG := big_in 292 (by decide +kernel) rfl
theorem k_293 : (Cond.code (⟨"ModeKeeperModel", "forms", "()I"⟩ : MethodName) prog_7_method_9_code 3 (some .int)) ∈ BIG := big_in 293 rfl rfl
theorem k_294 : (Cond.methodLink "ModeKeeperLaw" 43 (⟨"ModeKeeperModel", "remove", "(I)I"⟩ : MethodName)) ∈ BIG := big_in 294 (by decide +kernel) rfl
theorem k_295 : (Cond.instanceMethod (⟨"ModeKeeperModel", "remove", "(I)I"⟩ : MethodName)) ∈ BIG := big_in 295 (by decide +kernel) rfl
theorem k_296 : (Cond.selects "ModeKeeperModel" (⟨"ModeKeeperModel", "remove", "(I)I"⟩ : MethodName) (⟨"ModeKeeperModel", "remove", "(I)I"⟩ : MethodName)) ∈ BIG := big_in 296 (by decide +kernel) rfl
theorem k_297 : (Cond.code (⟨"ModeKeeperModel", "remove", "(I)I"⟩ : MethodName) prog_7_method_12_code 2 (some .int)) ∈ BIG := big_in 297 rfl rfl
theorem k_298 : (Cond.methodLink "ModeKeeperModel" 57 (⟨"ModeKeeperModel", "isThere", "(I)Z"⟩ : MethodName)) ∈ BIG := big_in 298 (by decide +kernel) rfl
theorem k_299 : (Cond.privateMethod (⟨"ModeKeeperModel", "isThere", "(I)Z"⟩ : MethodName)) ∈ lw_tbl := List.mem_of_getElem? (i := 299) (by decide +kernel)
theorem k_300 : (Cond.instanceMethod (⟨"ModeKeeperModel", "isThere", "(I)Z"⟩ : MethodName)) ∈ BIG := big_in 300 (by decide +kernel) rfl
theorem k_301 : (Cond.code (⟨"ModeKeeperModel", "isThere", "(I)Z"⟩ : MethodName) prog_7_method_8_code 2 (some .boolean)) ∈ BIG := big_in 301 rfl rfl
theorem k_302 : (Cond.methodLink "ModeKeeperLaw" 48 (⟨"ModeKeeperModel", "enable", "(IZ)I"⟩ : MethodName)) ∈ BIG := big_in 302 (by decide +kernel) rfl
theorem k_303 : (Cond.instanceMethod (⟨"ModeKeeperModel", "enable", "(IZ)I"⟩ : MethodName)) ∈ BIG := big_in 303 (by decide +kernel) rfl
theorem k_304 : (Cond.selects "ModeKeeperModel" (⟨"ModeKeeperModel", "enable", "(IZ)I"⟩ : MethodName) (⟨"ModeKeeperModel", "enable", "(IZ)I"⟩ : MethodName)) ∈ BIG := big_in 304 (by decide +kernel) rfl
theorem k_305 : (Cond.code (⟨"ModeKeeperModel", "enable", "(IZ)I"⟩ : MethodName) prog_7_method_13_code 3 (some .int)) ∈ BIG := big_in 305 rfl rfl
theorem k_306 : (Cond.methodLink "ModeKeeperLaw" 52 (⟨"ModeKeeperModel", "due", "(II)I"⟩ : MethodName)) ∈ BIG := big_in 306 (by decide +kernel) rfl
theorem k_307 : (Cond.instanceMethod (⟨"ModeKeeperModel", "due", "(II)I"⟩ : MethodName)) ∈ BIG := big_in 307 (by decide +kernel) rfl
theorem k_308 : (Cond.selects "ModeKeeperModel" (⟨"ModeKeeperModel", "due", "(II)I"⟩ : MethodName) (⟨"ModeKeeperModel", "due", "(II)I"⟩ : MethodName)) ∈ BIG := big_in 308 (by decide +kernel) rfl
theorem k_309 : (Cond.code (⟨"ModeKeeperModel", "due", "(II)I"⟩ : MethodName) prog_7_method_14_code 5 (some .int)) ∈ BIG := big_in 309 rfl rfl
theorem k_310 : (Cond.methodLink "ModeKeeperLaw" 56 (⟨"ModeKeeperModel", "parameter", "(II)I"⟩ : MethodName)) ∈ BIG := big_in 310 (by decide +kernel) rfl
theorem k_311 : (Cond.instanceMethod (⟨"ModeKeeperModel", "parameter", "(II)I"⟩ : MethodName)) ∈ BIG := big_in 311 (by decide +kernel) rfl
theorem k_312 : (Cond.selects "ModeKeeperModel" (⟨"ModeKeeperModel", "parameter", "(II)I"⟩ : MethodName) (⟨"ModeKeeperModel", "parameter", "(II)I"⟩ : MethodName)) ∈ BIG := big_in 312 (by decide +kernel) rfl
theorem k_313 : (Cond.code (⟨"ModeKeeperModel", "parameter", "(II)I"⟩ : MethodName) prog_7_method_15_code 3 (some .int)) ∈ BIG := big_in 313 rfl rfl
theorem k_314 : (Cond.methodLink "ModeKeeperLaw" 60 (⟨"ModeKeeperModel", "value", "(I)I"⟩ : MethodName)) ∈ BIG := big_in 314 (by decide +kernel) rfl
theorem k_315 : (Cond.instanceMethod (⟨"ModeKeeperModel", "value", "(I)I"⟩ : MethodName)) ∈ BIG := big_in 315 (by decide +kernel) rfl
theorem k_316 : (Cond.selects "ModeKeeperModel" (⟨"ModeKeeperModel", "value", "(I)I"⟩ : MethodName) (⟨"ModeKeeperModel", "value", "(I)I"⟩ : MethodName)) ∈ BIG := big_in 316 (by decide +kernel) rfl
theorem k_317 : (Cond.code (⟨"ModeKeeperModel", "value", "(I)I"⟩ : MethodName) prog_7_method_16_code 2 (some .int)) ∈ BIG := big_in 317 rfl rfl
theorem k_318 : (Cond.methodLink "ModeKeeperLaw" 64 (⟨"ModeKeeperModel", "about", "(II)I"⟩ : MethodName)) ∈ BIG := big_in 318 (by decide +kernel) rfl
theorem k_319 : (Cond.instanceMethod (⟨"ModeKeeperModel", "about", "(II)I"⟩ : MethodName)) ∈ BIG := big_in 319 (by decide +kernel) rfl
theorem k_320 : (Cond.selects "ModeKeeperModel" (⟨"ModeKeeperModel", "about", "(II)I"⟩ : MethodName) (⟨"ModeKeeperModel", "about", "(II)I"⟩ : MethodName)) ∈ BIG := big_in 320 (by decide +kernel) rfl
theorem k_321 : (Cond.code (⟨"ModeKeeperModel", "about", "(II)I"⟩ : MethodName) prog_7_method_17_code 3 (some .int)) ∈ BIG := big_in 321 rfl rfl
theorem k_arrnat : Cond.native arraycopyName ∈ BIG := k_134
theorem k_arrstat : Cond.static arraycopyName ∈ BIG := k_133
theorem k_objinst : Cond.instanceMethod objectInit ∈ BIG := k_17
theorem k_objcode : Cond.code objectInit ⟨#[0xb1]⟩ 1 none ∈ BIG := k_18
theorem i_MK : ∀ w ∈ u_ws "ModeKeeper" F_MK 5, w ∈ BIG := by decide +kernel
theorem i_Co : ∀ w ∈ u_ws "ModeKeeper$Counter" F_Co 1, w ∈ BIG := by decide +kernel
theorem i_Mo : ∀ w ∈ u_ws "ModeKeeper$Modes" F_Mo 6, w ∈ BIG := by decide +kernel
theorem i_Fo : ∀ w ∈ u_ws "ModeKeeper$Forms" F_Fo 5, w ∈ BIG := by decide +kernel
theorem i_Mm : ∀ w ∈ u_ws "ModeKeeperModel" F_Mm 12, w ∈ BIG := by decide +kernel
theorem cls_all {P : vw_C → Prop} (h0 : P ("ModeKeeper", F_MK, 5)) (h1 : P ("ModeKeeper$Counter", F_Co, 1)) (h2 : P ("ModeKeeper$Modes", F_Mo, 6)) (h3 : P ("ModeKeeper$Forms", F_Fo, 5)) (h4 : P ("ModeKeeperModel", F_Mm, 12)) {ci : Nat} {q : vw_C} (h : classes[ci]? = some q) : P q := by
  match ci, h with
  | 0, h => cases h; exact h0
  | 1, h => cases h; exact h1
  | 2, h => cases h; exact h2
  | 3, h => cases h; exact h3
  | 4, h => cases h; exact h4
  | k + 5, h => simp [classes] at h
theorem cls_in {ci : Nat} {C : String} {T : u_T} {N : Nat} (h : classes[ci]? = some (C, T, N)) : ∀ w ∈ u_ws C T N, w ∈ BIG :=
  cls_all (P := fun q => ∀ w ∈ u_ws q.1 q.2.1 q.2.2, w ∈ BIG) i_MK i_Co i_Mo i_Fo i_Mm h
def tyF (T : u_T) (k : Nat) : FieldType := (parseFieldDescriptor (T k).2.2.1).getD .int
theorem cls_ty {ci : Nat} {C : String} {T : u_T} {N : Nat} (h : classes[ci]? = some (C, T, N)) : ∀ k, k < N → parseFieldDescriptor (T k).2.2.1 = some (tyF T k) :=
  cls_all (P := fun q => ∀ k, k < q.2.2 → parseFieldDescriptor (q.2.1 k).2.2.1 = some (tyF q.2.1 k)) (by decide +kernel) (by decide +kernel) (by decide +kernel) (by decide +kernel) (by decide +kernel) h
theorem cls_nm {ci : Nat} {C : String} {T : u_T} {N : Nat} (h : classes[ci]? = some (C, T, N)) : ∀ a, a < N → ∀ b, b < N → a ≠ b → (T a).2.1 ≠ (T b).2.1 :=
  cls_all (P := fun q => ∀ a, a < q.2.2 → ∀ b, b < q.2.2 → a ≠ b → (q.2.1 a).2.1 ≠ (q.2.1 b).2.1) (by decide +kernel) (by decide +kernel) (by decide +kernel) (by decide +kernel) (by decide +kernel) h
/-- the numbers of the classes and of their slots; the classes int[], boolean[], byte[] -/
abbrev GG : Type := va_G × ClassId × ClassId × ClassId
abbrev Tys (X : GG) : List (ClassId × FieldType) := [(X.2.1, .int), (X.2.2.1, .boolean), (X.2.2.2, .byte)]
def nfl : List (Nat × String × String × String) := [(91, "ModeKeeper$Counter", "changes", "I"), (79, "ModeKeeper$Modes", "actuators", "[I"), (82, "ModeKeeper$Modes", "mode", "I"), (85, "ModeKeeper$Modes", "alarmed", "Z"), (89, "ModeKeeper$Modes", "alarm", "I"), (97, "ModeKeeper$Forms", "every", "[I"), (100, "ModeKeeper$Forms", "on", "[Z"), (72, "ModeKeeper$Forms", "sizes", "[I"), (94, "ModeKeeper$Forms", "count", "I")]
def nml : List (Nat × MethodName) := [(9, ⟨"ModeKeeper$Counter", "<init>", "()V"⟩), (27, ⟨"ModeKeeper$Forms", "<init>", "()V"⟩)]
def y_lis : MethodName := ⟨"ModeKeeper$Listener", "changed", "(I)V"⟩
def y_chg : MethodName := ⟨"ModeKeeper$Counter", "changed", "(I)V"⟩
/-- what the tables say that isn't steady: the interface's call, the nest mates' members -/
def NX (U : State) : Prop := va_Fw "ModeKeeper$Counter" y_lis y_chg U ∧ (∀ q ∈ nfl, va_Nw (.fieldLinkNest "ModeKeeper" q.1 q.2.1 q.2.2.1 q.2.2.2 "ModeKeeper") U) ∧ (∀ q ∈ nml, va_Nw (.methodLinkNest "ModeKeeper" q.1 q.2 "ModeKeeper") U)
def KK (X : GG) (U : State) : Prop := va_K X.1 classes (Tys X) U ∧ NX U
theorem KK.warm {X : GG} {s U : State} (hW : s.WarmedH U.vm) (h : KK X s) : KK X U :=
  ⟨va_K.moved hW.alike h.1, va_Fw.moved (by decide +kernel) hW.alike h.2.1, fun q hq => va_Nw.warmF hW (h.2.2.1 q hq), fun q hq => va_Nw.warmM hW (h.2.2.2 q hq)⟩
theorem KK.calling {X : GG} {U : State} {g : JFrame} {mk : MethodId} {a : Array Value} (h : KK X U) : KK X (U.calling g mk a) :=
  ⟨va_K.moved (u := U) (U := U.calling g mk a) (Vm.Alike.refl U.vm) h.1, va_Fw.moved (u := U) (U := U.calling g mk a) (by decide +kernel) (Vm.Alike.refl U.vm) h.2.1, fun q hq => va_Nw.same (u := U) (U := U.calling g mk a) rfl rfl (h.2.2.1 q hq), fun q hq => va_Nw.same (u := U) (U := U.calling g mk a) rfl rfl (h.2.2.2 q hq)⟩
/-- the world: cells ws in the heap H, apart, all in A; since H0 nothing outside A has changed; new cells are in A -/
def Wd (X : GG) (A : Nat → Prop) (H0 : Heap) (ws : va_W) (H : Heap) (locs : List Loc) : Prop := va_P X.1 classes ws H ∧ va_D A ws ∧ va_S A H0 H locs ∧ ∀ q, H0.size ≤ q → A q
/-- what stays the same all through a method -/
def Cx (p : Program) (s : State) (m : MethodId) (args : Array Value) (meth : Method) (c : Code) (own : String) (cc : ByteArray) (nL : Nat) (ret : Option FieldType) (X : GG) : Prop :=
  p.tables.exec = Jvm.exec ∧ c.code = cc ∧ c.maxLocals = nL ∧ s.vm.findClass own = some m.cls ∧ (∀ w ∈ BIG, w.before args s = true) ∧ KK X s ∧ meth.sig.returnType = ret ∧ meth.locks = false
def Qx {S : Type} (X : GG) (rv : Option Value) (W1 : S → va_W) (A : Nat → Prop) : Array Value → State → Outcome → State → Prop := fun _ st oc t => (oc = .returned rv ∧ ∃ u : S, va_P X.1 classes (W1 u) t.heap ∧ va_D A (W1 u)) ∧ va_F A st t
def Fin' {S : Type} (X : GG) (below : List Frame) (args : Array Value) (s : State) (A : Nat → Prop) (rv : Option Value) (W1 : S → va_W) (mc ms : Nat) : State → Prop := MQ below (Qx X rv W1 A) args s mc ms A
def Pk (X : GG) (av : List Value) (W0 : va_W) (sz : Nat) : Array Value → State → Prop := va_Pc av (fun U => U.heap.size = sz ∧ va_P X.1 classes W0 U.heap ∧ KK X U ∧ va_D (fun _ => True) W0)
/-- A CONTRACT: from the world W0 the method y with arguments av answers rv; behind it the world is W1 u for some u -/
def Ct {S : Type} (l : Launch) (y : MethodName) (cc : ByteArray) (nL : Nat) (ret : Option FieldType) (rm : Room) (X : GG) (av : List Value) (W0 : va_W) (rv : Option Value) (W1 : S → va_W) : Prop :=
  ∀ sz : Nat, Met l y (.code y cc nL ret :: BIG) rm (Pk X av W0 sz) (Qx X rv W1 (va_A W0 sz)) rm.cells rm.slots (va_A W0 sz)
theorem Pk.blind {X : GG} {av : List Value} {W0 : va_W} {sz : Nat} : FrameBlind (Pk X av W0 sz) := fun a U g mk q => by
  obtain ⟨q0, q1, qP, qK, qD⟩ := q
  exact ⟨q0, q1, qP, qK.calling, qD⟩
theorem fm_of_map {α β : Type} {f : α → Option β} : ∀ {is : List α} {w : List β}, is.map f = w.map some → is.filterMap f = w
  | [], [], _ => rfl
  | [], _ :: _, h => by simp at h
  | _ :: _, [], h => by simp at h
  | i :: is, x :: w, h => by
    simp only [List.map_cons, List.cons.injEq] at h
    rw [List.filterMap_cons, h.1]
    simp only
    rw [fm_of_map h.2]
theorem gI {y : MethodName} {b : ByteArray} {n : Nat} {r : Option FieldType} (h : Cond.code y b n r ∈ BIG) : GoodIn BIG (.code y b n r :: BIG) := fun w hw => by
  have h1 : w ∈ BIG := by
    rcases List.mem_cons.mp hw with rfl | h2
    · exact h
    · exact h2
  exact ⟨h1, good_of_word (big_good w h1)⟩
theorem gV {y : MethodName} {b : ByteArray} {n : Nat} {r : Option FieldType} {own C : String} {index : Nat} (h : Cond.code y b n r ∈ BIG) (h1 : Cond.methodLink own index y ∈ BIG) (h2 : Cond.instanceMethod y ∈ BIG) (h3 : Cond.selects C y y ∈ BIG) (h4 : Cond.initialized C ∈ BIG) : GoodIn BIG (wsV own index C y (.code y b n r :: BIG)) := fun w hw => by
  have h9 : w ∈ BIG := by
    simp only [wsV, List.mem_append, List.mem_cons, List.not_mem_nil, or_false] at hw
    rcases hw with (rfl | rfl | rfl | rfl) | rfl | h5 <;> assumption
  exact ⟨h9, good_of_word (big_good w h9)⟩
theorem gF {x y : MethodName} {b : ByteArray} {n : Nat} {r : Option FieldType} {own C : String} {index : Nat} (h : Cond.code y b n r ∈ BIG) (h1 : Cond.methodLink own index x ∈ BIG) (h2 : Cond.instanceMethod y ∈ BIG) (h3 : Cond.selects C x y ∈ BIG) (h4 : Cond.initialized y.cls ∈ BIG) : GoodIn BIG (va_wsF own index C x y (.code y b n r :: BIG)) := fun w hw => by
  have h9 : w ∈ BIG := by
    simp only [va_wsF, List.mem_append, List.mem_cons, List.not_mem_nil, or_false] at hw
    rcases hw with (rfl | rfl | rfl | rfl) | rfl | h5 <;> assumption
  exact ⟨h9, good_of_word (big_good w h9)⟩
theorem va_RA_inj {U : State} {c1 c2 : ClassId} {ty : FieldType} (h1 : va_RA U c1 ty) (h2 : va_RA U c2 ty) : c1 = c2 := by
  cases ty with
  | object C =>
    obtain ⟨_, _, _, _, _, g1⟩ := h1
    obtain ⟨_, _, _, _, _, g2⟩ := h2
    exact Option.some.inj (g1.symm.trans g2)
  | _ => exact Option.some.inj (Eq.trans (Eq.symm h1) h2)
section CTW
variable {p : Program} {l : Launch} {e : Env} {R : Room} {s : State} {m : MethodId} {args : Array Value} {below : List Frame} {meth : Method} {c : Code} {H H0 : Heap} {locs : List Loc} {cells slots : Nat} {Q : State → Prop} {cc : ByteArray} {pc nL : Nat} {ret : Option FieldType} {own : String} {ls : Array Slot} {rest : List Value} {X : GG} {A : Nat → Prop} {ws : va_W} {a : Nat}
/-- a method's entry -/
theorem ct_enter {S : Type} {y : MethodName} {rm : Room} {av : List Value} {W0 : va_W} {rv : Option Value} {W1 : S → va_W} (hy : plainName y.cls = true) (hav : (lg_sl av).length ≤ nL)
    (body : ∀ (p : Program) (e : Env) (s : State) (m : MethodId) (args : Array Value) (below : List Frame) (meth : Method) (c : Code) (A : Nat → Prop) (ls : Array Slot), p.tables.exec = Jvm.exec → c.code = cc → Cx p s m args meth c y.cls cc nL ret X → meth.name = y.name → Wd X A s.heap W0 s.heap [] → lv_has ls nL (lv_args 0 av) →
      W p l e rm s m args below meth c s.heap [] 0 0 (Fin' X below args s A rv W1 rm.cells rm.slots) (F0 m 0 ls [])) : Ct l y cc nL ret rm X av W0 rv W1 := by
  intro sz
  refine Met.ofW (cc := cc) (maxL := nL) (ret := ret) hy rfl ?_
  intro p e s m args below meth c s₁ B hml hv
  obtain ⟨rfl, hsz, hP, hK, hD0⟩ := hv
  have hts := atoms_spec (ws := .code y cc nL ret :: BIG) B.pre
  have hown : s.vm.findClass y.cls = some m.cls := findClass_of_methodNamed B.named
  have hin : meth.name = y.name := (name_of_methodNamed B.named B.method).1
  subst hsz
  have hl := lv_entry av (n := nL) hav
  rw [lg_entry_eq]
  exact body p e s m _ below meth c (va_A W0 s.heap.size) _ B.exec B.bytes ⟨B.exec, B.bytes, hml, hown, fun w hw => hts w (List.mem_cons_of_mem _ hw), hK, B.returns, B.notSynchronized⟩ hin ⟨hP, hD0.self, va_S.rf, fun q h => Or.inr h⟩ hl
theorem ct_get (hC : Cx p s m args meth c own cc nL ret X) (hw : Wd X A H0 ws H locs) (q0 k : Nat) {ci index N : Nat} {fs : List Value} {C : String} {T : u_T} {v : Value} (he : ws[q0]? = some (a, .inr (ci, fs))) (hc : classes[ci]? = some (C, T, N)) (hk : k < N) (hl : Cond.fieldLink own index (T k).1 (T k).2.1 (T k).2.2.1 ∈ BIG) (hv : fs[k]? = some v) (hdg : decode cc pc = .ok (.getfield index, 3))
    (kk : W p l e R s m args below meth c H locs cells slots Q (F0 m (pc + 3) ls (v :: rest))) : W p l e R s m args below meth c H locs cells slots Q (F0 m pc ls (.ref a :: rest)) :=
  va_get (D := X.1) hC.1 hC.2.1 hC.2.2.2.2.1 (cls_in hc) hC.2.2.2.1 hC.2.2.2.2.2.1.1 hw.1 q0 he hc k hk (hC.2.2.2.2.1 _ hl) (fun _ h => h) hv hdg kk
theorem ct_getN (hC : Cx p s m args meth c "ModeKeeper" cc nL ret X) (hw : Wd X A H0 ws H locs) (q0 k : Nat) {ci index N : Nat} {fs : List Value} {C : String} {T : u_T} {v : Value} (he : ws[q0]? = some (a, .inr (ci, fs))) (hc : classes[ci]? = some (C, T, N)) (hk : k < N) (hl : (index, (T k).1, (T k).2.1, (T k).2.2.1) ∈ nfl) (hv : fs[k]? = some v) (hdg : decode cc pc = .ok (.getfield index, 3))
    (kk : W p l e R s m args below meth c H locs cells slots Q (F0 m (pc + 3) ls (v :: rest))) : W p l e R s m args below meth c H locs cells slots Q (F0 m pc ls (.ref a :: rest)) :=
  va_getN (D := X.1) (host := "ModeKeeper") hC.1 hC.2.1 hC.2.2.2.2.1 (cls_in hc) hC.2.2.2.1 hC.2.2.2.2.2.1.1 hw.1 q0 he hc k hk (va_Nw.use rfl (hC.2.2.2.2.2.1.2.2.1 _ hl)) (fun _ h => h) hv hdg kk
theorem ct_put (hC : Cx p s m args meth c own cc nL ret X) (hw : Wd X A H0 ws H locs) (q0 k : Nat) {ci index N : Nat} {fs : List Value} {C : String} {T : u_T} {v : Value} {ty : FieldType} {ws' : va_W} (he : ws[q0]? = some (a, .inr (ci, fs))) (hc : classes[ci]? = some (C, T, N)) (hk : k < N) (hl : Cond.fieldLink own index (T k).1 (T k).2.1 (T k).2.2.1 ∈ BIG) (hfin : (T k).2.2.2 = false) (hd : parseFieldDescriptor (T k).2.2.1 = some ty) (hn : narrow ty v = v) (hfit : fits ty v = true) (hlen : k < fs.length) (hws : ws.set q0 (a, .inr (ci, fs.set k v)) = ws') (hdg : decode cc pc = .ok (.putfield index, 3))
    (kk : ∀ (H1 : Heap) (locs1 : List Loc), Wd X A H0 ws' H1 locs1 → W p l e R s m args below meth c H1 locs1 cells slots Q (F0 m (pc + 3) ls rest)) : W p l e R s m args below meth c H locs cells slots Q (F0 m pc ls (v :: .ref a :: rest)) := by
  subst hws
  exact va_put (D := X.1) hC.1 hC.2.1 hC.2.2.2.2.1 (cls_in hc) (tyF T) (cls_ty hc) (cls_nm hc) hC.2.2.2.1 hC.2.2.2.2.2.1.1 hw.1 hw.2.1 hw.2.2.1 q0 he hc k hk (hC.2.2.2.2.1 _ hl) (fun _ h => h) hfin hd hn hfit hlen hdg (fun H1 locs1 hP hD hS => kk H1 locs1 ⟨hP, hD, hS, hw.2.2.2⟩)
theorem ct_putF (hC : Cx p s m args meth c own cc nL ret X) (hin : meth.name = "<init>") (hw : Wd X A H0 ws H locs) (q0 k : Nat) {ci index N : Nat} {fs : List Value} {C : String} {T : u_T} {v : Value} {ty : FieldType} {ws' : va_W} (he : ws[q0]? = some (a, .inr (ci, fs))) (hc : classes[ci]? = some (C, T, N)) (hk : k < N) (hl : Cond.fieldLink own index (T k).1 (T k).2.1 (T k).2.2.1 ∈ BIG) (hfin : (T k).2.2.2 = true) (hdecl : (T k).1 = own) (hd : parseFieldDescriptor (T k).2.2.1 = some ty) (hn : narrow ty v = v) (hfit : fits ty v = true) (hlen : k < fs.length) (hws : ws.set q0 (a, .inr (ci, fs.set k v)) = ws') (hdg : decode cc pc = .ok (.putfield index, 3))
    (kk : ∀ (H1 : Heap) (locs1 : List Loc), Wd X A H0 ws' H1 locs1 → W p l e R s m args below meth c H1 locs1 cells slots Q (F0 m (pc + 3) ls rest)) : W p l e R s m args below meth c H locs cells slots Q (F0 m pc ls (v :: .ref a :: rest)) := by
  subst hws
  exact va_putF (D := X.1) hC.1 hC.2.1 hC.2.2.2.2.1 (cls_in hc) (tyF T) (cls_ty hc) (cls_nm hc) hC.2.2.2.1 hC.2.2.2.2.2.1.1 hw.1 hw.2.1 hw.2.2.1 q0 he hc k hk (hC.2.2.2.2.1 _ hl) (fun _ h => h) hfin hin hdecl hd hn hfit hlen hdg (fun H1 locs1 hP hD hS => kk H1 locs1 ⟨hP, hD, hS, hw.2.2.2⟩)
theorem ct_iald (hC : Cx p s m args meth c own cc nL ret X) (hw : Wd X A H0 ws H locs) (q0 : Nat) {n : Nat} {f : Nat → Int32} (ha : ws[q0]? = some (a, .inl (X.2.1, n, .inl f))) {i : Int32} (hin : vp_in i n) (hdg : decode cc pc = .ok (.iaload, 1))
    (kk : W p l e R s m args below meth c H locs cells slots Q (F0 m (pc + 1) ls (.int (f i.toNatClampNeg) :: rest))) : W p l e R s m args below meth c H locs cells slots Q (F0 m pc ls (.int i :: .ref a :: rest)) :=
  va_iald (D := X.1) hC.1 hC.2.1 hC.2.2.2.2.2.1.1 hw.1 q0 0 ha rfl hin hdg kk
theorem ct_zald (hC : Cx p s m args meth c own cc nL ret X) (hw : Wd X A H0 ws H locs) (q0 : Nat) {n : Nat} {f : Nat → Int32} (ha : ws[q0]? = some (a, .inl (X.2.2.1, n, .inl f))) {i : Int32} (hin : vp_in i n) (hdg : decode cc pc = .ok (.baload, 1))
    (kk : W p l e R s m args below meth c H locs cells slots Q (F0 m (pc + 1) ls (.int (f i.toNatClampNeg) :: rest))) : W p l e R s m args below meth c H locs cells slots Q (F0 m pc ls (.int i :: .ref a :: rest)) :=
  va_zald (D := X.1) hC.1 hC.2.1 hC.2.2.2.2.2.1.1 hw.1 q0 1 ha rfl hin hdg kk
theorem ct_bald (hC : Cx p s m args meth c own cc nL ret X) (hw : Wd X A H0 ws H locs) (q0 : Nat) {n : Nat} {f : Nat → Int32} (ha : ws[q0]? = some (a, .inl (X.2.2.2, n, .inl f))) {i : Int32} (hin : vp_in i n) (hdg : decode cc pc = .ok (.baload, 1))
    (kk : W p l e R s m args below meth c H locs cells slots Q (F0 m (pc + 1) ls (.int (f i.toNatClampNeg) :: rest))) : W p l e R s m args below meth c H locs cells slots Q (F0 m pc ls (.int i :: .ref a :: rest)) :=
  va_bald (D := X.1) hC.1 hC.2.1 hC.2.2.2.2.2.1.1 hw.1 q0 2 ha rfl hin hdg kk
theorem ct_iast (hC : Cx p s m args meth c own cc nL ret X) (hw : Wd X A H0 ws H locs) (q0 : Nat) {n : Nat} {f : Nat → Int32} {ws' : va_W} (ha : ws[q0]? = some (a, .inl (X.2.1, n, .inl f))) {i x : Int32} (hin : vp_in i n) (hws : ws.set q0 (a, .inl (X.2.1, n, .inl (upd f i.toNatClampNeg x))) = ws') (hdg : decode cc pc = .ok (.iastore, 1))
    (kk : ∀ (H1 : Heap) (locs1 : List Loc), Wd X A H0 ws' H1 locs1 → W p l e R s m args below meth c H1 locs1 cells slots Q (F0 m (pc + 1) ls rest)) : W p l e R s m args below meth c H locs cells slots Q (F0 m pc ls (.int x :: .int i :: .ref a :: rest)) := by
  subst hws
  exact va_iast (D := X.1) hC.1 hC.2.1 hC.2.2.2.2.2.1.1 hw.1 hw.2.1 hw.2.2.1 q0 0 ha rfl hin hdg (fun H1 locs1 hP hD hS => kk H1 locs1 ⟨hP, hD, hS, hw.2.2.2⟩)
theorem ct_zast (hC : Cx p s m args meth c own cc nL ret X) (hw : Wd X A H0 ws H locs) (q0 : Nat) {n : Nat} {f : Nat → Int32} {ws' : va_W} (ha : ws[q0]? = some (a, .inl (X.2.2.1, n, .inl f))) {i x : Int32} (hin : vp_in i n) (hws : ws.set q0 (a, .inl (X.2.2.1, n, .inl (upd f i.toNatClampNeg (vp_nar .boolean x)))) = ws') (hdg : decode cc pc = .ok (.bastore, 1))
    (kk : ∀ (H1 : Heap) (locs1 : List Loc), Wd X A H0 ws' H1 locs1 → W p l e R s m args below meth c H1 locs1 cells slots Q (F0 m (pc + 1) ls rest)) : W p l e R s m args below meth c H locs cells slots Q (F0 m pc ls (.int x :: .int i :: .ref a :: rest)) := by
  subst hws
  exact va_zast (D := X.1) hC.1 hC.2.1 hC.2.2.2.2.2.1.1 hw.1 hw.2.1 hw.2.2.1 q0 1 ha rfl hin hdg (fun H1 locs1 hP hD hS => kk H1 locs1 ⟨hP, hD, hS, hw.2.2.2⟩)
theorem ct_bast (hC : Cx p s m args meth c own cc nL ret X) (hw : Wd X A H0 ws H locs) (q0 : Nat) {n : Nat} {f : Nat → Int32} {ws' : va_W} (ha : ws[q0]? = some (a, .inl (X.2.2.2, n, .inl f))) {i x : Int32} (hin : vp_in i n) (hws : ws.set q0 (a, .inl (X.2.2.2, n, .inl (upd f i.toNatClampNeg (vp_nar .byte x)))) = ws') (hdg : decode cc pc = .ok (.bastore, 1))
    (kk : ∀ (H1 : Heap) (locs1 : List Loc), Wd X A H0 ws' H1 locs1 → W p l e R s m args below meth c H1 locs1 cells slots Q (F0 m (pc + 1) ls rest)) : W p l e R s m args below meth c H locs cells slots Q (F0 m pc ls (.int x :: .int i :: .ref a :: rest)) := by
  subst hws
  exact va_bast (D := X.1) hC.1 hC.2.1 hC.2.2.2.2.2.1.1 hw.1 hw.2.1 hw.2.2.1 q0 2 ha rfl hin hdg (fun H1 locs1 hP hD hS => kk H1 locs1 ⟨hP, hD, hS, hw.2.2.2⟩)
/-- System.arraycopy between two int (t0 = 0) or byte (t0 = 2) arrays -/
theorem ct_copy (hC : Cx p s m args meth c own cc nL ret X) (hw : Wd X A H0 ws H locs) (hls : ls.size = nL) {index : Nat} (hlink : Cond.methodLink own index arraycopyName ∈ BIG) (q0 q1 t0 : Nat) {a0 n0 n1 : Nat} {f g : Nat → Int32} {c0 : ClassId} {ty : FieldType} {ws' : va_W} (ha0 : ws[q0]? = some (a0, .inl (c0, n0, .inl f))) (ha1 : ws[q1]? = some (a, .inl (c0, n1, .inl g))) (ht : (Tys X)[t0]? = some (c0, ty)) (hprim : refKind ty = false)
    {sp dp n : Int32} (h1 : ¬ sp < 0) (h2 : ¬ dp < 0) (h3 : ¬ n < 0) (h4 : sp.toNatClampNeg + n.toNatClampNeg ≤ n0) (h5 : dp.toNatClampNeg + n.toNatClampNeg ≤ n1) (hfit : ∀ i, i < n.toNatClampNeg → fits ty (.int (f (sp.toNatClampNeg + i))) = true)
    (hframes : 1 ≤ R.frames) (hlocals : (rest.map fun v => v.category).sum + 18 ≤ R.locals) (hws : ws.set q1 (a, .inl (c0, n1, .inl (va_cpy f g sp.toNatClampNeg dp.toNatClampNeg n.toNatClampNeg))) = ws') (hdg : decode cc pc = .ok (.invokestatic index, 3))
    (kk : ∀ (H1 : Heap) (locs1 : List Loc), Wd X A H0 ws' H1 locs1 → W p l e R s m args below meth c H1 locs1 cells slots Q (F0 m (pc + 3) ls rest)) : W p l e R s m args below meth c H locs cells slots Q (F0 m pc ls (.int n :: .int dp :: .ref a :: .int sp :: .ref a0 :: rest)) := by
  subst hws
  exact va_copyi (D := X.1) hC.1 hC.2.1 (by rw [hls]; exact hC.2.2.1) hC.2.2.2.1 (hC.2.2.2.2.1 _ hlink) (hC.2.2.2.2.1 _ k_arrnat) (hC.2.2.2.2.1 _ k_arrstat) (hC.2.2.2.2.1 _ k_10) hC.2.2.2.2.2.1.1 hw.1 hw.2.1 hw.2.2.1 q0 q1 t0 t0 ha0 ha1 ht ht hprim h1 h2 h3 h4 h5 hfit hframes hlocals hdg (fun H1 locs1 hP hD hS => kk H1 locs1 ⟨hP, hD, hS, hw.2.2.2⟩)
theorem ct_newa (hC : Cx p s m args meth c own cc nL ret X) (hw : Wd X A H0 ws H locs) {atype : ArrayType} {ty : FieldType} {cA0 : ClassId} (t0 : Nat) (hty : newarray.typeOf atype = ty) (harr : Cond.arrayClass ty ∈ BIG) (ht : (Tys X)[t0]? = some (cA0, ty)) {n : Int32} {N' : Nat} {ws' : Nat → va_W} (hd : defaultValue ty = .int 0) (hn : ¬ n < 0) (hN : n.toNatClampNeg = N') (hbytes : N' * componentBytes ty ≤ 536870912) (hcells : cells + 1 ≤ R.cells) (hslots : slots + N' ≤ R.slots) (hws : ∀ q, ws ++ [(q, .inl (cA0, N', .inl (fun _ => 0)))] = ws' q) (hdg : decode cc pc = .ok (.newarray atype, 2))
    (kk : ∀ (q : Nat) (H1 : Heap), Wd X A H0 (ws' q) H1 locs → W p l e R s m args below meth c H1 locs (cells + 1) (slots + N') Q (F0 m (pc + 2) ls (.ref q :: rest))) : W p l e R s m args below meth c H locs cells slots Q (F0 m pc ls (.int n :: rest)) := by
  subst hty
  refine va_newa (D := X.1) (a0 := (N', .inl (fun _ => 0))) hC.1 hC.2.1 (hC.2.2.2.2.1 _ harr) rfl hC.2.2.2.2.2.1.1 hw.1 hw.2.1 hw.2.2.1 hw.2.2.2 (fun cA => ?_) hn hN hbytes hcells hslots hdg (fun q cA H1 hK hP hD hS => ?_)
  · rw [hd]; rfl
  · have e1 : cA = cA0 := va_RA_inj (hK.2 3 (cA, newarray.typeOf atype) rfl).2 (hC.2.2.2.2.2.1.1.2 t0 _ ht).2
    subst e1
    have hq := kk q H1
    rw [← hws q] at hq
    exact hq ⟨hP, hD, hS, hw.2.2.2⟩
theorem ct_new (hC : Cx p s m args meth c own cc nL ret X) (hw : Wd X A H0 ws H locs) (ci : Nat) {index N : Nat} {C : String} {T : u_T} {fs : List Value} {ws' : Nat → va_W} (hc : classes[ci]? = some (C, T, N)) (hcl : Cond.classLink own index C ∈ BIG) (hinst : Cond.instantiable C N ∈ BIG) (hini : Cond.initialized C ∈ BIG) (hfs : ∀ j, j < N → defaultValue (tyF T j) = vp_V fs j) (hcells : cells + 1 ≤ R.cells) (hslots : slots + N ≤ R.slots) (hws : ∀ q, ws ++ [(q, .inr (ci, fs))] = ws' q) (hdg : decode cc pc = .ok (.new index, 3))
    (kk : ∀ (q : Nat) (H1 : Heap), Wd X A H0 (ws' q) H1 locs → W p l e R s m args below meth c H1 locs (cells + 1) (slots + N) Q (F0 m (pc + 3) ls (.ref q :: rest))) : W p l e R s m args below meth c H locs cells slots Q (F0 m pc ls rest) := by
  refine va_new (D := X.1) hC.1 hC.2.1 hC.2.2.2.2.1 (cls_in hc) (tyF T) (cls_ty hc) hC.2.2.2.1 (hC.2.2.2.2.1 _ hcl) (hC.2.2.2.2.1 _ hinst) (hC.2.2.2.2.1 _ hini) hC.2.2.2.2.2.1.1 hw.1 hw.2.1 hw.2.2.1 hw.2.2.2 hc hfs hcells hslots hdg (fun q H1 hP hD hS => ?_)
  have hq := kk q H1
  rw [← hws q] at hq
  exact hq ⟨hP, hD, hS, hw.2.2.2⟩
theorem ct_objInit (hC : Cx p s m args meth c own cc nL ret X) (hls : ls.size = nL) {idx : Nat} (hlink : Cond.methodLink own idx objectInit ∈ BIG) (hd : decode cc pc = .ok (.invokespecial idx, 3)) (hframes : 1 ≤ R.frames) (hlocals : (rest.map fun v => v.category).sum + 12 ≤ R.locals)
    (kk : W p l e R s m args below meth c H locs cells slots Q (F0 m (pc + 3) ls rest)) : W p l e R s m args below meth c H locs cells slots Q (F0 m pc ls (.ref a :: rest)) :=
  W.objInit hC.1 hC.2.1 hC.2.2.2.1 (hC.2.2.2.2.1 _ hlink) (hC.2.2.2.2.1 _ k_objinst) (hC.2.2.2.2.1 _ k_objcode) rfl (by rw [hC.2.2.1]; exact hls) rfl hd hframes (by show 2 * 0 + _ + 12 ≤ _; omega) kk
theorem ct_iret {S : Type} (hC : Cx p s m args meth c own cc nL (some .int) X) (hw : Wd X A s.heap ws H locs) {F : S → va_W} {r : Int32} {z : S} {sp : Int32 × S} (he : (r, z) = sp) (ew : ws = F z) (hdg : decode cc pc = .ok (.ireturn, 1)) : W p l e R s m args below meth c H locs cells slots (Fin' X below args s A (some (.int sp.1)) (fun _ : Unit => F sp.2) cells slots) (F0 m pc ls [.int r]) := by
  subst he; subst ew
  exact W.iret (hlocks := hC.2.2.2.2.2.2.2) hC.1 hC.2.1 hC.2.2.2.2.2.2.1 (fun t ht hW => ⟨⟨rfl, (), by rw [ht]; exact hw.1, hw.2.1⟩, hw.2.2.1.F ht⟩) hw.2.2.1.2.2 hdg
theorem ct_zret {S : Type} (hC : Cx p s m args meth c own cc nL (some .boolean) X) (hw : Wd X A s.heap ws H locs) {F : S → va_W} {r : Int32} {z : S} {sp : Int32 × S} (hn : r = 0 ∨ r = 1) (he : (r, z) = sp) (ew : ws = F z) (hdg : decode cc pc = .ok (.ireturn, 1)) : W p l e R s m args below meth c H locs cells slots (Fin' X below args s A (some (.int sp.1)) (fun _ : Unit => F sp.2) cells slots) (F0 m pc ls [.int r]) := by
  subst he; subst ew
  have hn2 : narrow .boolean (.int r) = .int r := by
    rcases hn with rfl | rfl <;> rfl
  exact W.zret (hlocks := hC.2.2.2.2.2.2.2) hC.1 hC.2.1 hC.2.2.2.2.2.2.1 hn2 (fun t ht hW => ⟨⟨rfl, (), by rw [ht]; exact hw.1, hw.2.1⟩, hw.2.2.1.F ht⟩) hw.2.2.1.2.2 hdg
theorem ct_vret {S : Type} (hC : Cx p s m args meth c own cc nL none X) (hw : Wd X A s.heap ws H locs) {W1 : S → va_W} (u : S) (ew : ws = W1 u) (hdg : decode cc pc = .ok (.return_, 1)) : W p l e R s m args below meth c H locs cells slots (Fin' X below args s A none W1 cells slots) (F0 m pc ls []) := by
  subst ew
  exact W.vret (hlocks := hC.2.2.2.2.2.2.2) hC.1 hC.2.1 hC.2.2.2.2.2.2.1 (fun t ht hW => ⟨⟨rfl, u, by rw [ht]; exact hw.1, hw.2.1⟩, hw.2.2.1.F ht⟩) hw.2.2.1.2.2 hdg
/-- behind a call -/
theorem ct_after {S : Type} {W0 wr : va_W} {W1 W2 : S → va_W} {rv : Option Value} {mc ms : Nat} {st0 : List Value} {av : Array Value} (hr : va_Run p l e R s m args below meth c H locs cells slots mc ms (F0 m pc ls st0) rest (Qx X rv W1 (va_A W0 H.size) av) (va_A W0 H.size)) (hw : Wd X A H0 ws H locs) (isC isR perm : List Nat) (hC : isC.map (fun i => ws[i]?) = W0.map some) (hR : isR.map (fun i => ws[i]?) = wr.map some) (hn : va_nd isR = true) (hdis : ∀ i ∈ isR, i ∉ isC) (hpn : va_nd perm = true) (hp : ∀ u, perm.map (fun i => (wr ++ W1 u)[i]?) = (W2 u).map some)
    (kk : ∀ (u : S) (H1 : Heap) (locs1 : List Loc), Wd X A H0 (W2 u) H1 locs1 → W p l e R s m args below meth c H1 locs1 (cells + mc) (slots + ms) Q (F0 m (pc + 3) ls (rv.toList ++ rest))) : W p l e R s m args below meth c H locs cells slots Q (F0 m pc ls st0) := by
  obtain ⟨hP, hD, hS, hA⟩ := hw
  have hFc := va_free (wc := W0) hD hS hA isC hC
  intro T hT XX
  obtain ⟨v, st₀, t, T', L, h0, X', hL, e1, e2, ⟨⟨hv, u, hP1, hD1⟩, hz, hk⟩, st⟩ := hr T hT XX
  cases hv
  rw [h0] at hz hk
  have hk1 : ∀ q : Nat, q < H.size → ¬ va_A W0 H.size q → T'.heap[q]? = H[q]? := fun q h1 h2 => by rw [e1]; exact hk q h1 h2
  obtain ⟨hP2, hD2⟩ := va_join (wr := wr) (w1 := W1 u) hP hD isC isR hC hR hn hdis hk1 hFc (by rw [e1]; exact hP1) hD1
  obtain ⟨t2, a1, b1⟩ := kk u T'.heap (locs ++ L) ⟨hP2.sub perm (fm_of_map (hp u)), hD2.sub perm hpn (hp u),
    ⟨Nat.le_trans hS.1 (by rw [e1]; exact hz), fun q h1 h2 => by rw [hk1 q (Nat.lt_of_lt_of_le h1 hS.1) (fun z => h2 (hFc q z))]; exact hS.2.1 q h1 h2, fun q hq => by
      rcases List.mem_append.mp hq with h | h
      · exact hS.2.2 q h
      · exact hFc _ (hL q h)⟩, hA⟩ T' rfl X'
  exact ⟨t2, st t2 a1, b1⟩
theorem ct_after5 {S : Type} {W0 wr : va_W} {W1 W2 : S → va_W} {rv : Option Value} {mc ms : Nat} {st0 : List Value} {av : Array Value} (hr : va_Run5 p l e R s m args below meth c H locs cells slots mc ms (F0 m pc ls st0) rest (Qx X rv W1 (va_A W0 H.size) av) (va_A W0 H.size)) (hw : Wd X A H0 ws H locs) (isC isR perm : List Nat) (hC : isC.map (fun i => ws[i]?) = W0.map some) (hR : isR.map (fun i => ws[i]?) = wr.map some) (hn : va_nd isR = true) (hdis : ∀ i ∈ isR, i ∉ isC) (hpn : va_nd perm = true) (hp : ∀ u, perm.map (fun i => (wr ++ W1 u)[i]?) = (W2 u).map some)
    (kk : ∀ (u : S) (H1 : Heap) (locs1 : List Loc), Wd X A H0 (W2 u) H1 locs1 → W p l e R s m args below meth c H1 locs1 (cells + mc) (slots + ms) Q (F0 m (pc + 5) ls (rv.toList ++ rest))) : W p l e R s m args below meth c H locs cells slots Q (F0 m pc ls st0) := by
  obtain ⟨hP, hD, hS, hA⟩ := hw
  have hFc := va_free (wc := W0) hD hS hA isC hC
  intro T hT XX
  obtain ⟨v, st₀, t, T', L, h0, X', hL, e1, e2, ⟨⟨hv, u, hP1, hD1⟩, hz, hk⟩, st⟩ := hr T hT XX
  cases hv
  rw [h0] at hz hk
  have hk1 : ∀ q : Nat, q < H.size → ¬ va_A W0 H.size q → T'.heap[q]? = H[q]? := fun q h1 h2 => by rw [e1]; exact hk q h1 h2
  obtain ⟨hP2, hD2⟩ := va_join (wr := wr) (w1 := W1 u) hP hD isC isR hC hR hn hdis hk1 hFc (by rw [e1]; exact hP1) hD1
  obtain ⟨t2, a1, b1⟩ := kk u T'.heap (locs ++ L) ⟨hP2.sub perm (fm_of_map (hp u)), hD2.sub perm hpn (hp u),
    ⟨Nat.le_trans hS.1 (by rw [e1]; exact hz), fun q h1 h2 => by rw [hk1 q (Nat.lt_of_lt_of_le h1 hS.1) (fun z => h2 (hFc q z))]; exact hS.2.1 q h1 h2, fun q hq => by
      rcases List.mem_append.mp hq with h | h
      · exact hS.2.2 q h
      · exact hFc _ (hL q h)⟩, hA⟩ T' rfl X'
  exact ⟨t2, st t2 a1, b1⟩
/-- invokevirtual of a method of ours, by its contract: W0 the callee's cells (places isC of ws), wr the rest (places isR); W2 the world behind it -/
theorem ct_callV {S : Type} {y : MethodName} {bytes : ByteArray} {maxL : Nat} {rt : Option FieldType} {rm : Room} {b index n ci : Nat} {fs As st0 : List Value} {W0 wr : va_W} {rv : Option Value} {W1 W2 : S → va_W} {C : String} {T : u_T} {N : Nat} (hC : Cx p s m args meth c own cc nL ret X) (hw : Wd X A H0 ws H locs) (hls : ls.size = nL) (hM : Ct l y bytes maxL rt rm X (.ref b :: As) W0 rv W1)
    (hcode : Cond.code y bytes maxL rt ∈ BIG) (hlink : Cond.methodLink own index y ∈ BIG) (hinst : Cond.instanceMethod y ∈ BIG) (hsel : Cond.selects C y y ∈ BIG) (hini : Cond.initialized C ∈ BIG)
    (isC isR perm : List Nat) (hcc : classes[ci]? = some (C, T, N)) (hrec : W0[0]? = some (b, .inr (ci, fs))) (hsC : isC.map (fun i => ws[i]?) = W0.map some) (hsR : isR.map (fun i => ws[i]?) = wr.map some) (hnC : va_nd isC = true) (hn : va_nd isR = true) (hdis : ∀ i ∈ isR, i ∉ isC) (hpn : va_nd perm = true) (hp : ∀ u, perm.map (fun i => (wr ++ W1 u)[i]?) = (W2 u).map some)
    (hd : y.cls = C ∧ y.cls ≠ "java/lang/invoke/MethodHandle" ∧ y.cls ≠ "java/lang/invoke/VarHandle" ∧ (parseMethodDescriptor y.desc).map (fun d => d.parameters.length) = some n) (hR : rm.frames + 1 ≤ R.frames ∧ 8 + (maxL + 11) + rm.locals ≤ R.locals) (hlen : As.length = n) (hrm : (rest.map fun v => v.category).sum ≤ 8) (hf : cells + rm.cells ≤ R.cells ∧ slots + rm.slots ≤ R.slots)
    (hst : st0 = As.reverse ++ .ref b :: rest) (hdg : decode cc pc = .ok (.invokevirtual index, 3))
    (kk : ∀ (u : S) (H1 : Heap) (locs1 : List Loc), Wd X A H0 (W2 u) H1 locs1 → W p l e R s m args below meth c H1 locs1 (cells + rm.cells) (slots + rm.slots) Q (F0 m (pc + 3) ls (rv.toList ++ rest))) : W p l e R s m args below meth c H locs cells slots Q (F0 m pc ls st0) := by
  subst hst
  have hPc := hw.1.sub (ws' := W0) isC (fm_of_map hsC)
  exact ct_after (va_runV (As := As) (rest := rest) ⟨hC.1, hC.2.1, hC.2.2.1, hC.2.2.2.1, hC.2.2.2.2.1⟩ (hM H.size) (cwV n hC.2.2.2.2.1 (gV hcode hlink hinst hsel hini) rfl rfl rfl hd hR) ⟨Pk.blind, va_recv hC.2.2.2.2.2.1.1 hPc hcc hrec, fun U hU hW => ⟨rfl, by rw [hU], by rw [hU]; exact hPc, hC.2.2.2.2.2.1.warm hW, (hw.2.1.sub isC hnC hsC).weaken (fun _ _ _ _ => trivial)⟩⟩ rfl hlen hls rfl (lv_room hrm) hdg hf) hw isC isR perm hsC hsR hn hdis hpn hp kk
/-- invokespecial of a constructor of ours -/
theorem ct_callI {S : Type} {y : MethodName} {bytes : ByteArray} {maxL : Nat} {rm : Room} {b index n : Nat} {As st0 : List Value} {W0 wr : va_W} {W1 W2 : S → va_W} (hC : Cx p s m args meth c own cc nL ret X) (hw : Wd X A H0 ws H locs) (hls : ls.size = nL) (hM : Ct l y bytes maxL none rm X (.ref b :: As) W0 none W1)
    (hcode : Cond.code y bytes maxL none ∈ BIG) (hlink : Cond.methodLink own index y ∈ BIG) (hinst : Cond.instanceMethod y ∈ BIG) (hini : Cond.initialized y.cls ∈ BIG)
    (isC isR perm : List Nat) (hsC : isC.map (fun i => ws[i]?) = W0.map some) (hsR : isR.map (fun i => ws[i]?) = wr.map some) (hnC : va_nd isC = true) (hn : va_nd isR = true) (hdis : ∀ i ∈ isR, i ∉ isC) (hpn : va_nd perm = true) (hp : ∀ u, perm.map (fun i => (wr ++ W1 u)[i]?) = (W2 u).map some) (hy1 : y.name = "<init>")
    (hd : y.cls ≠ "java/lang/invoke/MethodHandle" ∧ y.cls ≠ "java/lang/invoke/VarHandle" ∧ (parseMethodDescriptor y.desc).map (fun d => d.parameters.length) = some n) (hR : rm.frames + 1 ≤ R.frames ∧ 8 + (maxL + 11) + rm.locals ≤ R.locals) (hlen : As.length = n) (hrm : (rest.map fun v => v.category).sum ≤ 8) (hf : cells + rm.cells ≤ R.cells ∧ slots + rm.slots ≤ R.slots)
    (hst : st0 = As.reverse ++ .ref b :: rest) (hdg : decode cc pc = .ok (.invokespecial index, 3))
    (kk : ∀ (u : S) (H1 : Heap) (locs1 : List Loc), Wd X A H0 (W2 u) H1 locs1 → W p l e R s m args below meth c H1 locs1 (cells + rm.cells) (slots + rm.slots) Q (F0 m (pc + 3) ls rest)) : W p l e R s m args below meth c H locs cells slots Q (F0 m pc ls st0) := by
  subst hst
  have hPc := hw.1.sub (ws' := W0) isC (fm_of_map hsC)
  exact ct_after (va_runI (As := As) (rest := rest) ⟨hC.1, hC.2.1, hC.2.2.1, hC.2.2.2.1, hC.2.2.2.2.1⟩ (hM H.size) (cwI n hC.2.2.2.2.1 (gI hcode) rfl rfl rfl (hC.2.2.2.2.1 _ hini) (hC.2.2.2.2.1 _ hlink) (hC.2.2.2.2.1 _ hinst) hy1 hd hR) ⟨Pk.blind, fun U hU hW => ⟨rfl, by rw [hU], by rw [hU]; exact hPc, hC.2.2.2.2.2.1.warm hW, (hw.2.1.sub isC hnC hsC).weaken (fun _ _ _ _ => trivial)⟩⟩ rfl hlen hls rfl (lv_room hrm) hdg hf) hw isC isR perm hsC hsR hn hdis hpn hp kk
/-- .. of a nest mate's private constructor -/
theorem ct_callIN {S : Type} {y : MethodName} {bytes : ByteArray} {maxL : Nat} {rm : Room} {b index n : Nat} {As st0 : List Value} {W0 wr : va_W} {W1 W2 : S → va_W} (hC : Cx p s m args meth c "ModeKeeper" cc nL ret X) (hw : Wd X A H0 ws H locs) (hls : ls.size = nL) (hM : Ct l y bytes maxL none rm X (.ref b :: As) W0 none W1)
    (hcode : Cond.code y bytes maxL none ∈ BIG) (hlink : (index, y) ∈ nml) (hinst : Cond.instanceMethod y ∈ BIG) (hini : Cond.initialized y.cls ∈ BIG)
    (isC isR perm : List Nat) (hsC : isC.map (fun i => ws[i]?) = W0.map some) (hsR : isR.map (fun i => ws[i]?) = wr.map some) (hnC : va_nd isC = true) (hn : va_nd isR = true) (hdis : ∀ i ∈ isR, i ∉ isC) (hpn : va_nd perm = true) (hp : ∀ u, perm.map (fun i => (wr ++ W1 u)[i]?) = (W2 u).map some) (hy1 : y.name = "<init>")
    (hd : y.cls ≠ "java/lang/invoke/MethodHandle" ∧ y.cls ≠ "java/lang/invoke/VarHandle" ∧ (parseMethodDescriptor y.desc).map (fun d => d.parameters.length) = some n) (hR : rm.frames + 1 ≤ R.frames ∧ 8 + (maxL + 11) + rm.locals ≤ R.locals) (hlen : As.length = n) (hrm : (rest.map fun v => v.category).sum ≤ 8) (hf : cells + rm.cells ≤ R.cells ∧ slots + rm.slots ≤ R.slots)
    (hst : st0 = As.reverse ++ .ref b :: rest) (hdg : decode cc pc = .ok (.invokespecial index, 3))
    (kk : ∀ (u : S) (H1 : Heap) (locs1 : List Loc), Wd X A H0 (W2 u) H1 locs1 → W p l e R s m args below meth c H1 locs1 (cells + rm.cells) (slots + rm.slots) Q (F0 m (pc + 3) ls rest)) : W p l e R s m args below meth c H locs cells slots Q (F0 m pc ls st0) := by
  subst hst
  have hPc := hw.1.sub (ws' := W0) isC (fm_of_map hsC)
  exact ct_after (va_runIN (As := As) (rest := rest) ⟨hC.1, hC.2.1, hC.2.2.1, hC.2.2.2.1, hC.2.2.2.2.1⟩ (hM H.size) ⟨va_cnB n hC.2.2.2.2.1 (gI hcode) rfl rfl rfl (hC.2.2.2.2.2.1.2.2.2 (index, y) hlink) (hC.2.2.2.2.1 _ hini) hd hR, hy1, hC.2.2.2.2.1 _ hinst⟩ ⟨Pk.blind, fun U hU hW => ⟨rfl, by rw [hU], by rw [hU]; exact hPc, hC.2.2.2.2.2.1.warm hW, (hw.2.1.sub isC hnC hsC).weaken (fun _ _ _ _ => trivial)⟩⟩ rfl hlen hls rfl (lv_room hrm) hdg hf) hw isC isR perm hsC hsR hn hdis hpn hp kk
/-- the one call through the interface -/
theorem ct_callF {S : Type} {bytes : ByteArray} {maxL : Nat} {rt : Option FieldType} {rm : Room} {b index n ci count : Nat} {fs As st0 : List Value} {W0 wr : va_W} {rv : Option Value} {W1 W2 : S → va_W} {T : u_T} {N : Nat} (hC : Cx p s m args meth c own cc nL ret X) (hw : Wd X A H0 ws H locs) (hls : ls.size = nL) (hM : Ct l y_chg bytes maxL rt rm X (.ref b :: As) W0 rv W1)
    (hcode : Cond.code y_chg bytes maxL rt ∈ BIG) (hlink : Cond.methodLink own index y_lis ∈ BIG) (hinst : Cond.instanceMethod y_chg ∈ BIG) (hsel : Cond.selects "ModeKeeper$Counter" y_lis y_chg ∈ BIG) (hini : Cond.initialized y_chg.cls ∈ BIG)
    (isC isR perm : List Nat) (hcc : classes[ci]? = some ("ModeKeeper$Counter", T, N)) (hrec : W0[0]? = some (b, .inr (ci, fs))) (hsC : isC.map (fun i => ws[i]?) = W0.map some) (hsR : isR.map (fun i => ws[i]?) = wr.map some) (hnC : va_nd isC = true) (hn : va_nd isR = true) (hdis : ∀ i ∈ isR, i ∉ isC) (hpn : va_nd perm = true) (hp : ∀ u, perm.map (fun i => (wr ++ W1 u)[i]?) = (W2 u).map some)
    (hd : y_lis.cls ≠ "java/lang/invoke/MethodHandle" ∧ y_lis.cls ≠ "java/lang/invoke/VarHandle" ∧ (parseMethodDescriptor y_lis.desc).map (fun d => d.parameters.length) = some n) (hR : rm.frames + 1 ≤ R.frames ∧ 8 + (maxL + 11) + rm.locals ≤ R.locals) (hlen : As.length = n) (hrm : (rest.map fun v => v.category).sum ≤ 8) (hf : cells + rm.cells ≤ R.cells ∧ slots + rm.slots ≤ R.slots)
    (hst : st0 = As.reverse ++ .ref b :: rest) (hdg : decode cc pc = .ok (.invokeinterface index count, 5))
    (kk : ∀ (u : S) (H1 : Heap) (locs1 : List Loc), Wd X A H0 (W2 u) H1 locs1 → W p l e R s m args below meth c H1 locs1 (cells + rm.cells) (slots + rm.slots) Q (F0 m (pc + 5) ls (rv.toList ++ rest))) : W p l e R s m args below meth c H locs cells slots Q (F0 m pc ls st0) := by
  subst hst
  have hPc := hw.1.sub (ws' := W0) isC (fm_of_map hsC)
  exact ct_after5 (va_runF (x := y_lis) (As := As) (rest := rest) (hC.2.2.2.2.2.1.1.1 ci _ hcc).2 ⟨hC.1, hC.2.1, hC.2.2.1, hC.2.2.2.1, hC.2.2.2.2.1⟩ (hM H.size) (va_cwF n hC.2.2.2.2.1 (gF hcode hlink hinst hsel hini) rfl rfl rfl hC.2.2.2.2.2.1.2.1 hd hR) ⟨Pk.blind, va_recv hC.2.2.2.2.2.1.1 hPc hcc hrec, fun U hU hW => ⟨rfl, by rw [hU], by rw [hU]; exact hPc, hC.2.2.2.2.2.1.warm hW, (hw.2.1.sub isC hnC hsC).weaken (fun _ _ _ _ => trivial)⟩⟩ rfl hlen hls rfl (lv_room hrm) hdg hf) hw isC isR perm hsC hsR hn hdis hpn hp kk
end CTW
end
section
abbrev b_MK_init : ByteArray := prog_1_method_1_code
def y_MK_init : MethodName := ⟨"ModeKeeper", "<init>", "()V"⟩
abbrev b_Co_init : ByteArray := prog_2_method_1_code
def y_Co_init : MethodName := ⟨"ModeKeeper$Counter", "<init>", "()V"⟩
abbrev b_Mo_init : ByteArray := prog_5_method_1_code
def y_Mo_init : MethodName := ⟨"ModeKeeper$Modes", "<init>", "(LModeKeeper$Listener;)V"⟩
abbrev b_Fo_init : ByteArray := prog_3_method_1_code
def y_Fo_init : MethodName := ⟨"ModeKeeper$Forms", "<init>", "()V"⟩
abbrev b_MK_move : ByteArray := prog_1_method_2_code
def y_MK_move : MethodName := ⟨"ModeKeeper", "move", "(II)I"⟩
abbrev b_Mo_move : ByteArray := prog_5_method_2_code
def y_Mo_move : MethodName := ⟨"ModeKeeper$Modes", "move", "(II)I"⟩
abbrev b_Mo_moving : ByteArray := prog_5_method_3_code
def y_Mo_moving : MethodName := ⟨"ModeKeeper$Modes", "moving", "(I)I"⟩
abbrev b_MK_enter : ByteArray := prog_1_method_3_code
def y_MK_enter : MethodName := ⟨"ModeKeeper", "enter", "(I)I"⟩
abbrev b_Mo_enter : ByteArray := prog_5_method_5_code
def y_Mo_enter : MethodName := ⟨"ModeKeeper$Modes", "enter", "(I)I"⟩
abbrev b_Mo_entering : ByteArray := prog_5_method_4_code
def y_Mo_entering : MethodName := ⟨"ModeKeeper$Modes", "entering", "(I)I"⟩
abbrev b_Mo_become : ByteArray := prog_5_method_6_code
def y_Mo_become : MethodName := ⟨"ModeKeeper$Modes", "become", "(I)V"⟩
abbrev b_Co_changed : ByteArray := prog_2_method_2_code
abbrev y_Co_changed : MethodName := y_chg
abbrev b_MK_alarm : ByteArray := prog_1_method_4_code
def y_MK_alarm : MethodName := ⟨"ModeKeeper", "alarm", "(I)Z"⟩
abbrev b_Mo_alarm : ByteArray := prog_5_method_7_code
def y_Mo_alarm : MethodName := ⟨"ModeKeeper$Modes", "alarm", "(I)Z"⟩
abbrev b_MK_look : ByteArray := prog_1_method_5_code
def y_MK_look : MethodName := ⟨"ModeKeeper", "look", "(I)Z"⟩
abbrev b_Mo_look : ByteArray := prog_5_method_8_code
def y_Mo_look : MethodName := ⟨"ModeKeeper$Modes", "look", "(I)Z"⟩
abbrev b_MK_put : ByteArray := prog_1_method_6_code
def y_MK_put : MethodName := ⟨"ModeKeeper", "put", "(I)I"⟩
abbrev b_MK_form : ByteArray := prog_1_method_7_code
def y_MK_form : MethodName := ⟨"ModeKeeper", "form", "(II)I"⟩
abbrev b_Fo_add : ByteArray := prog_3_method_3_code
def y_Fo_add : MethodName := ⟨"ModeKeeper$Forms", "add", "(II[BII)I"⟩
abbrev b_MK_remove : ByteArray := prog_1_method_8_code
def y_MK_remove : MethodName := ⟨"ModeKeeper", "remove", "(I)I"⟩
abbrev b_Fo_remove : ByteArray := prog_3_method_4_code
def y_Fo_remove : MethodName := ⟨"ModeKeeper$Forms", "remove", "(I)I"⟩
abbrev b_Fo_is : ByteArray := prog_3_method_2_code
def y_Fo_is : MethodName := ⟨"ModeKeeper$Forms", "is", "(I)Z"⟩
abbrev b_MK_enable : ByteArray := prog_1_method_9_code
def y_MK_enable : MethodName := ⟨"ModeKeeper", "enable", "(IZ)I"⟩
abbrev b_Fo_enable : ByteArray := prog_3_method_5_code
def y_Fo_enable : MethodName := ⟨"ModeKeeper$Forms", "enable", "(IZ)I"⟩
abbrev b_MK_due : ByteArray := prog_1_method_10_code
def y_MK_due : MethodName := ⟨"ModeKeeper", "due", "(II)I"⟩
abbrev b_Fo_due : ByteArray := prog_3_method_6_code
def y_Fo_due : MethodName := ⟨"ModeKeeper$Forms", "due", "(II)I"⟩
abbrev b_MK_parameter : ByteArray := prog_1_method_11_code
def y_MK_parameter : MethodName := ⟨"ModeKeeper", "parameter", "(II)I"⟩
abbrev b_Fo_parameter : ByteArray := prog_3_method_7_code
def y_Fo_parameter : MethodName := ⟨"ModeKeeper$Forms", "parameter", "(II)I"⟩
abbrev b_MK_value : ByteArray := prog_1_method_12_code
def y_MK_value : MethodName := ⟨"ModeKeeper", "value", "(I)I"⟩
abbrev b_MK_about : ByteArray := prog_1_method_13_code
def y_MK_about : MethodName := ⟨"ModeKeeper", "about", "(II)I"⟩
abbrev b_Mm_init : ByteArray := prog_7_method_1_code
def y_Mm_init : MethodName := ⟨"ModeKeeperModel", "<init>", "()V"⟩
abbrev b_Mm_move : ByteArray := prog_7_method_3_code
def y_Mm_move : MethodName := ⟨"ModeKeeperModel", "move", "(II)I"⟩
abbrev b_Mm_enter : ByteArray := prog_7_method_5_code
def y_Mm_enter : MethodName := ⟨"ModeKeeperModel", "enter", "(I)I"⟩
abbrev b_Mm_becomes : ByteArray := prog_7_method_4_code
def y_Mm_becomes : MethodName := ⟨"ModeKeeperModel", "becomes", "(I)Z"⟩
abbrev b_Mm_alarm : ByteArray := prog_7_method_6_code
def y_Mm_alarm : MethodName := ⟨"ModeKeeperModel", "alarm", "(I)Z"⟩
abbrev b_Mm_look : ByteArray := prog_7_method_7_code
def y_Mm_look : MethodName := ⟨"ModeKeeperModel", "look", "(I)Z"⟩
abbrev b_Mm_put : ByteArray := prog_7_method_10_code
def y_Mm_put : MethodName := ⟨"ModeKeeperModel", "put", "(I)I"⟩
abbrev b_Mm_form : ByteArray := prog_7_method_11_code
def y_Mm_form : MethodName := ⟨"ModeKeeperModel", "form", "(II)I"⟩
abbrev b_Mm_forms : ByteArray := prog_7_method_9_code
def y_Mm_forms : MethodName := ⟨"ModeKeeperModel", "forms", "()I"⟩
abbrev b_Mm_remove : ByteArray := prog_7_method_12_code
def y_Mm_remove : MethodName := ⟨"ModeKeeperModel", "remove", "(I)I"⟩
abbrev b_Mm_isThere : ByteArray := prog_7_method_8_code
def y_Mm_isThere : MethodName := ⟨"ModeKeeperModel", "isThere", "(I)Z"⟩
abbrev b_Mm_enable : ByteArray := prog_7_method_13_code
def y_Mm_enable : MethodName := ⟨"ModeKeeperModel", "enable", "(IZ)I"⟩
abbrev b_Mm_due : ByteArray := prog_7_method_14_code
def y_Mm_due : MethodName := ⟨"ModeKeeperModel", "due", "(II)I"⟩
abbrev b_Mm_parameter : ByteArray := prog_7_method_15_code
def y_Mm_parameter : MethodName := ⟨"ModeKeeperModel", "parameter", "(II)I"⟩
abbrev b_Mm_value : ByteArray := prog_7_method_16_code
def y_Mm_value : MethodName := ⟨"ModeKeeperModel", "value", "(I)I"⟩
abbrev b_Mm_about : ByteArray := prog_7_method_17_code
def y_Mm_about : MethodName := ⟨"ModeKeeperModel", "about", "(II)I"⟩
theorem d_MK_init_0 : decode b_MK_init 0 = .ok (.aload_n 0, 1) := by decide +kernel
theorem d_MK_init_1 : decode b_MK_init 1 = .ok (.invokespecial 1, 3) := by decide +kernel
theorem d_MK_init_4 : decode b_MK_init 4 = .ok (.aload_n 0, 1) := by decide +kernel
theorem d_MK_init_5 : decode b_MK_init 5 = .ok (.new 7, 3) := by decide +kernel
theorem d_MK_init_8 : decode b_MK_init 8 = .ok (.dup, 1) := by decide +kernel
theorem d_MK_init_9 : decode b_MK_init 9 = .ok (.invokespecial 9, 3) := by decide +kernel
theorem d_MK_init_12 : decode b_MK_init 12 = .ok (.putfield 10, 3) := by decide +kernel
theorem d_MK_init_15 : decode b_MK_init 15 = .ok (.aload_n 0, 1) := by decide +kernel
theorem d_MK_init_16 : decode b_MK_init 16 = .ok (.new 16, 3) := by decide +kernel
theorem d_MK_init_19 : decode b_MK_init 19 = .ok (.dup, 1) := by decide +kernel
theorem d_MK_init_20 : decode b_MK_init 20 = .ok (.aload_n 0, 1) := by decide +kernel
theorem d_MK_init_21 : decode b_MK_init 21 = .ok (.getfield 10, 3) := by decide +kernel
theorem d_MK_init_24 : decode b_MK_init 24 = .ok (.invokespecial 18, 3) := by decide +kernel
theorem d_MK_init_27 : decode b_MK_init 27 = .ok (.putfield 21, 3) := by decide +kernel
theorem d_MK_init_30 : decode b_MK_init 30 = .ok (.aload_n 0, 1) := by decide +kernel
theorem d_MK_init_31 : decode b_MK_init 31 = .ok (.new 25, 3) := by decide +kernel
theorem d_MK_init_34 : decode b_MK_init 34 = .ok (.dup, 1) := by decide +kernel
theorem d_MK_init_35 : decode b_MK_init 35 = .ok (.invokespecial 27, 3) := by decide +kernel
theorem d_MK_init_38 : decode b_MK_init 38 = .ok (.putfield 28, 3) := by decide +kernel
theorem d_MK_init_41 : decode b_MK_init 41 = .ok (.aload_n 0, 1) := by decide +kernel
theorem d_MK_init_42 : decode b_MK_init 42 = .ok (.bipush 8, 2) := by decide +kernel
theorem d_MK_init_44 : decode b_MK_init 44 = .ok (.newarray .byte, 2) := by decide +kernel
theorem d_MK_init_46 : decode b_MK_init 46 = .ok (.putfield 32, 3) := by decide +kernel
theorem d_MK_init_49 : decode b_MK_init 49 = .ok (.return_, 1) := by decide +kernel
theorem d_Co_init_0 : decode b_Co_init 0 = .ok (.aload_n 0, 1) := by decide +kernel
theorem d_Co_init_1 : decode b_Co_init 1 = .ok (.invokespecial 1, 3) := by decide +kernel
theorem d_Co_init_4 : decode b_Co_init 4 = .ok (.return_, 1) := by decide +kernel
theorem d_Mo_init_0 : decode b_Mo_init 0 = .ok (.aload_n 0, 1) := by decide +kernel
theorem d_Mo_init_1 : decode b_Mo_init 1 = .ok (.invokespecial 3, 3) := by decide +kernel
theorem d_Mo_init_4 : decode b_Mo_init 4 = .ok (.aload_n 0, 1) := by decide +kernel
theorem d_Mo_init_5 : decode b_Mo_init 5 = .ok (.bipush 8, 2) := by decide +kernel
theorem d_Mo_init_7 : decode b_Mo_init 7 = .ok (.newarray .int, 2) := by decide +kernel
theorem d_Mo_init_9 : decode b_Mo_init 9 = .ok (.dup, 1) := by decide +kernel
theorem d_Mo_init_10 : decode b_Mo_init 10 = .ok (.iconst 0, 1) := by decide +kernel
theorem d_Mo_init_11 : decode b_Mo_init 11 = .ok (.iconst 0, 1) := by decide +kernel
theorem d_Mo_init_12 : decode b_Mo_init 12 = .ok (.iastore, 1) := by decide +kernel
theorem d_Mo_init_13 : decode b_Mo_init 13 = .ok (.dup, 1) := by decide +kernel
theorem d_Mo_init_14 : decode b_Mo_init 14 = .ok (.iconst 1, 1) := by decide +kernel
theorem d_Mo_init_15 : decode b_Mo_init 15 = .ok (.iconst 0, 1) := by decide +kernel
theorem d_Mo_init_16 : decode b_Mo_init 16 = .ok (.iastore, 1) := by decide +kernel
theorem d_Mo_init_17 : decode b_Mo_init 17 = .ok (.dup, 1) := by decide +kernel
theorem d_Mo_init_18 : decode b_Mo_init 18 = .ok (.iconst 2, 1) := by decide +kernel
theorem d_Mo_init_19 : decode b_Mo_init 19 = .ok (.iconst 0, 1) := by decide +kernel
theorem d_Mo_init_20 : decode b_Mo_init 20 = .ok (.iastore, 1) := by decide +kernel
theorem d_Mo_init_21 : decode b_Mo_init 21 = .ok (.dup, 1) := by decide +kernel
theorem d_Mo_init_22 : decode b_Mo_init 22 = .ok (.iconst 3, 1) := by decide +kernel
theorem d_Mo_init_23 : decode b_Mo_init 23 = .ok (.iconst 0, 1) := by decide +kernel
theorem d_Mo_init_24 : decode b_Mo_init 24 = .ok (.iastore, 1) := by decide +kernel
theorem d_Mo_init_25 : decode b_Mo_init 25 = .ok (.dup, 1) := by decide +kernel
theorem d_Mo_init_26 : decode b_Mo_init 26 = .ok (.iconst 4, 1) := by decide +kernel
theorem d_Mo_init_27 : decode b_Mo_init 27 = .ok (.bipush 50, 2) := by decide +kernel
theorem d_Mo_init_29 : decode b_Mo_init 29 = .ok (.iastore, 1) := by decide +kernel
theorem d_Mo_init_30 : decode b_Mo_init 30 = .ok (.dup, 1) := by decide +kernel
theorem d_Mo_init_31 : decode b_Mo_init 31 = .ok (.iconst 5, 1) := by decide +kernel
theorem d_Mo_init_32 : decode b_Mo_init 32 = .ok (.bipush 50, 2) := by decide +kernel
theorem d_Mo_init_34 : decode b_Mo_init 34 = .ok (.iastore, 1) := by decide +kernel
theorem d_Mo_init_35 : decode b_Mo_init 35 = .ok (.dup, 1) := by decide +kernel
theorem d_Mo_init_36 : decode b_Mo_init 36 = .ok (.bipush 6, 2) := by decide +kernel
theorem d_Mo_init_38 : decode b_Mo_init 38 = .ok (.bipush 100, 2) := by decide +kernel
theorem d_Mo_init_40 : decode b_Mo_init 40 = .ok (.iastore, 1) := by decide +kernel
theorem d_Mo_init_41 : decode b_Mo_init 41 = .ok (.dup, 1) := by decide +kernel
theorem d_Mo_init_42 : decode b_Mo_init 42 = .ok (.bipush 7, 2) := by decide +kernel
theorem d_Mo_init_44 : decode b_Mo_init 44 = .ok (.iconst 1, 1) := by decide +kernel
theorem d_Mo_init_45 : decode b_Mo_init 45 = .ok (.iastore, 1) := by decide +kernel
theorem d_Mo_init_46 : decode b_Mo_init 46 = .ok (.putfield 9, 3) := by decide +kernel
theorem d_Mo_init_49 : decode b_Mo_init 49 = .ok (.aload_n 0, 1) := by decide +kernel
theorem d_Mo_init_50 : decode b_Mo_init 50 = .ok (.bipush 8, 2) := by decide +kernel
theorem d_Mo_init_52 : decode b_Mo_init 52 = .ok (.newarray .int, 2) := by decide +kernel
theorem d_Mo_init_54 : decode b_Mo_init 54 = .ok (.putfield 15, 3) := by decide +kernel
theorem d_Mo_init_57 : decode b_Mo_init 57 = .ok (.aload_n 0, 1) := by decide +kernel
theorem d_Mo_init_58 : decode b_Mo_init 58 = .ok (.iconst 1, 1) := by decide +kernel
theorem d_Mo_init_59 : decode b_Mo_init 59 = .ok (.putfield 18, 3) := by decide +kernel
theorem d_Mo_init_62 : decode b_Mo_init 62 = .ok (.aload_n 0, 1) := by decide +kernel
theorem d_Mo_init_63 : decode b_Mo_init 63 = .ok (.aload_n 1, 1) := by decide +kernel
theorem d_Mo_init_64 : decode b_Mo_init 64 = .ok (.putfield 22, 3) := by decide +kernel
theorem d_Mo_init_67 : decode b_Mo_init 67 = .ok (.return_, 1) := by decide +kernel
theorem d_Fo_init_0 : decode b_Fo_init 0 = .ok (.aload_n 0, 1) := by decide +kernel
theorem d_Fo_init_1 : decode b_Fo_init 1 = .ok (.invokespecial 3, 3) := by decide +kernel
theorem d_Fo_init_4 : decode b_Fo_init 4 = .ok (.aload_n 0, 1) := by decide +kernel
theorem d_Fo_init_5 : decode b_Fo_init 5 = .ok (.sipush 256, 3) := by decide +kernel
theorem d_Fo_init_8 : decode b_Fo_init 8 = .ok (.newarray .int, 2) := by decide +kernel
theorem d_Fo_init_10 : decode b_Fo_init 10 = .ok (.putfield 11, 3) := by decide +kernel
theorem d_Fo_init_13 : decode b_Fo_init 13 = .ok (.aload_n 0, 1) := by decide +kernel
theorem d_Fo_init_14 : decode b_Fo_init 14 = .ok (.sipush 256, 3) := by decide +kernel
theorem d_Fo_init_17 : decode b_Fo_init 17 = .ok (.newarray .boolean, 2) := by decide +kernel
theorem d_Fo_init_19 : decode b_Fo_init 19 = .ok (.putfield 15, 3) := by decide +kernel
theorem d_Fo_init_22 : decode b_Fo_init 22 = .ok (.aload_n 0, 1) := by decide +kernel
theorem d_Fo_init_23 : decode b_Fo_init 23 = .ok (.sipush 2048, 3) := by decide +kernel
theorem d_Fo_init_26 : decode b_Fo_init 26 = .ok (.newarray .byte, 2) := by decide +kernel
theorem d_Fo_init_28 : decode b_Fo_init 28 = .ok (.putfield 19, 3) := by decide +kernel
theorem d_Fo_init_31 : decode b_Fo_init 31 = .ok (.aload_n 0, 1) := by decide +kernel
theorem d_Fo_init_32 : decode b_Fo_init 32 = .ok (.sipush 256, 3) := by decide +kernel
theorem d_Fo_init_35 : decode b_Fo_init 35 = .ok (.newarray .int, 2) := by decide +kernel
theorem d_Fo_init_37 : decode b_Fo_init 37 = .ok (.putfield 23, 3) := by decide +kernel
theorem d_Fo_init_40 : decode b_Fo_init 40 = .ok (.return_, 1) := by decide +kernel
theorem d_MK_move_0 : decode b_MK_move 0 = .ok (.aload_n 0, 1) := by decide +kernel
theorem d_MK_move_1 : decode b_MK_move 1 = .ok (.getfield 21, 3) := by decide +kernel
theorem d_MK_move_4 : decode b_MK_move 4 = .ok (.iload_n 1, 1) := by decide +kernel
theorem d_MK_move_5 : decode b_MK_move 5 = .ok (.iload_n 2, 1) := by decide +kernel
theorem d_MK_move_6 : decode b_MK_move 6 = .ok (.invokevirtual 36, 3) := by decide +kernel
theorem d_MK_move_9 : decode b_MK_move 9 = .ok (.ireturn, 1) := by decide +kernel
theorem d_Mo_move_0 : decode b_Mo_move 0 = .ok (.aload_n 0, 1) := by decide +kernel
theorem d_Mo_move_1 : decode b_Mo_move 1 = .ok (.iload_n 1, 1) := by decide +kernel
theorem d_Mo_move_2 : decode b_Mo_move 2 = .ok (.invokevirtual 26, 3) := by decide +kernel
theorem d_Mo_move_5 : decode b_Mo_move 5 = .ok (.istore_n 3, 1) := by decide +kernel
theorem d_Mo_move_6 : decode b_Mo_move 6 = .ok (.iload_n 3, 1) := by decide +kernel
theorem d_Mo_move_7 : decode b_Mo_move 7 = .ok (.ifCond .ne 10, 3) := by decide +kernel
theorem d_Mo_move_10 : decode b_Mo_move 10 = .ok (.aload_n 0, 1) := by decide +kernel
theorem d_Mo_move_11 : decode b_Mo_move 11 = .ok (.getfield 15, 3) := by decide +kernel
theorem d_Mo_move_14 : decode b_Mo_move 14 = .ok (.iload_n 1, 1) := by decide +kernel
theorem d_Mo_move_15 : decode b_Mo_move 15 = .ok (.iload_n 2, 1) := by decide +kernel
theorem d_Mo_move_16 : decode b_Mo_move 16 = .ok (.iastore, 1) := by decide +kernel
theorem d_Mo_move_17 : decode b_Mo_move 17 = .ok (.iload_n 3, 1) := by decide +kernel
theorem d_Mo_move_18 : decode b_Mo_move 18 = .ok (.ireturn, 1) := by decide +kernel
theorem d_Mo_moving_0 : decode b_Mo_moving 0 = .ok (.iload_n 1, 1) := by decide +kernel
theorem d_Mo_moving_1 : decode b_Mo_moving 1 = .ok (.ifCond .lt 9, 3) := by decide +kernel
theorem d_Mo_moving_4 : decode b_Mo_moving 4 = .ok (.iload_n 1, 1) := by decide +kernel
theorem d_Mo_moving_5 : decode b_Mo_moving 5 = .ok (.bipush 8, 2) := by decide +kernel
theorem d_Mo_moving_7 : decode b_Mo_moving 7 = .ok (.if_icmp .lt 8, 3) := by decide +kernel
theorem d_Mo_moving_10 : decode b_Mo_moving 10 = .ok (.bipush 18, 2) := by decide +kernel
theorem d_Mo_moving_12 : decode b_Mo_moving 12 = .ok (.goto 16, 3) := by decide +kernel
theorem d_Mo_moving_15 : decode b_Mo_moving 15 = .ok (.aload_n 0, 1) := by decide +kernel
theorem d_Mo_moving_16 : decode b_Mo_moving 16 = .ok (.getfield 18, 3) := by decide +kernel
theorem d_Mo_moving_19 : decode b_Mo_moving 19 = .ok (.ifCond .ne 8, 3) := by decide +kernel
theorem d_Mo_moving_22 : decode b_Mo_moving 22 = .ok (.bipush 19, 2) := by decide +kernel
theorem d_Mo_moving_24 : decode b_Mo_moving 24 = .ok (.goto 4, 3) := by decide +kernel
theorem d_Mo_moving_27 : decode b_Mo_moving 27 = .ok (.iconst 0, 1) := by decide +kernel
theorem d_Mo_moving_28 : decode b_Mo_moving 28 = .ok (.ireturn, 1) := by decide +kernel
theorem d_MK_enter_0 : decode b_MK_enter 0 = .ok (.aload_n 0, 1) := by decide +kernel
theorem d_MK_enter_1 : decode b_MK_enter 1 = .ok (.getfield 21, 3) := by decide +kernel
theorem d_MK_enter_4 : decode b_MK_enter 4 = .ok (.iload_n 1, 1) := by decide +kernel
theorem d_MK_enter_5 : decode b_MK_enter 5 = .ok (.invokevirtual 40, 3) := by decide +kernel
theorem d_MK_enter_8 : decode b_MK_enter 8 = .ok (.ireturn, 1) := by decide +kernel
theorem d_Mo_enter_0 : decode b_Mo_enter 0 = .ok (.aload_n 0, 1) := by decide +kernel
theorem d_Mo_enter_1 : decode b_Mo_enter 1 = .ok (.iload_n 1, 1) := by decide +kernel
theorem d_Mo_enter_2 : decode b_Mo_enter 2 = .ok (.invokevirtual 30, 3) := by decide +kernel
theorem d_Mo_enter_5 : decode b_Mo_enter 5 = .ok (.istore_n 2, 1) := by decide +kernel
theorem d_Mo_enter_6 : decode b_Mo_enter 6 = .ok (.iload_n 2, 1) := by decide +kernel
theorem d_Mo_enter_7 : decode b_Mo_enter 7 = .ok (.ifCond .ne 8, 3) := by decide +kernel
theorem d_Mo_enter_10 : decode b_Mo_enter 10 = .ok (.aload_n 0, 1) := by decide +kernel
theorem d_Mo_enter_11 : decode b_Mo_enter 11 = .ok (.iload_n 1, 1) := by decide +kernel
theorem d_Mo_enter_12 : decode b_Mo_enter 12 = .ok (.invokevirtual 33, 3) := by decide +kernel
theorem d_Mo_enter_15 : decode b_Mo_enter 15 = .ok (.iload_n 2, 1) := by decide +kernel
theorem d_Mo_enter_16 : decode b_Mo_enter 16 = .ok (.ireturn, 1) := by decide +kernel
theorem d_Mo_entering_0 : decode b_Mo_entering 0 = .ok (.iload_n 1, 1) := by decide +kernel
theorem d_Mo_entering_1 : decode b_Mo_entering 1 = .ok (.ifCond .lt 8, 3) := by decide +kernel
theorem d_Mo_entering_4 : decode b_Mo_entering 4 = .ok (.iload_n 1, 1) := by decide +kernel
theorem d_Mo_entering_5 : decode b_Mo_entering 5 = .ok (.iconst 2, 1) := by decide +kernel
theorem d_Mo_entering_6 : decode b_Mo_entering 6 = .ok (.if_icmp .le 8, 3) := by decide +kernel
theorem d_Mo_entering_9 : decode b_Mo_entering 9 = .ok (.bipush 18, 2) := by decide +kernel
theorem d_Mo_entering_11 : decode b_Mo_entering 11 = .ok (.goto 21, 3) := by decide +kernel
theorem d_Mo_entering_14 : decode b_Mo_entering 14 = .ok (.aload_n 0, 1) := by decide +kernel
theorem d_Mo_entering_15 : decode b_Mo_entering 15 = .ok (.getfield 18, 3) := by decide +kernel
theorem d_Mo_entering_18 : decode b_Mo_entering 18 = .ok (.ifCond .ne 13, 3) := by decide +kernel
theorem d_Mo_entering_21 : decode b_Mo_entering 21 = .ok (.iload_n 1, 1) := by decide +kernel
theorem d_Mo_entering_22 : decode b_Mo_entering 22 = .ok (.iconst 2, 1) := by decide +kernel
theorem d_Mo_entering_23 : decode b_Mo_entering 23 = .ok (.if_icmp .ne 8, 3) := by decide +kernel
theorem d_Mo_entering_26 : decode b_Mo_entering 26 = .ok (.bipush 19, 2) := by decide +kernel
theorem d_Mo_entering_28 : decode b_Mo_entering 28 = .ok (.goto 4, 3) := by decide +kernel
theorem d_Mo_entering_31 : decode b_Mo_entering 31 = .ok (.iconst 0, 1) := by decide +kernel
theorem d_Mo_entering_32 : decode b_Mo_entering 32 = .ok (.ireturn, 1) := by decide +kernel
theorem d_Mo_become_0 : decode b_Mo_become 0 = .ok (.iload_n 1, 1) := by decide +kernel
theorem d_Mo_become_1 : decode b_Mo_become 1 = .ok (.aload_n 0, 1) := by decide +kernel
theorem d_Mo_become_2 : decode b_Mo_become 2 = .ok (.getfield 18, 3) := by decide +kernel
theorem d_Mo_become_5 : decode b_Mo_become 5 = .ok (.if_icmp .ne 4, 3) := by decide +kernel
theorem d_Mo_become_8 : decode b_Mo_become 8 = .ok (.return_, 1) := by decide +kernel
theorem d_Mo_become_9 : decode b_Mo_become 9 = .ok (.aload_n 0, 1) := by decide +kernel
theorem d_Mo_become_10 : decode b_Mo_become 10 = .ok (.iload_n 1, 1) := by decide +kernel
theorem d_Mo_become_11 : decode b_Mo_become 11 = .ok (.putfield 18, 3) := by decide +kernel
theorem d_Mo_become_14 : decode b_Mo_become 14 = .ok (.iload_n 1, 1) := by decide +kernel
theorem d_Mo_become_15 : decode b_Mo_become 15 = .ok (.ifCond .ne 18, 3) := by decide +kernel
theorem d_Mo_become_18 : decode b_Mo_become 18 = .ok (.aload_n 0, 1) := by decide +kernel
theorem d_Mo_become_19 : decode b_Mo_become 19 = .ok (.getfield 9, 3) := by decide +kernel
theorem d_Mo_become_22 : decode b_Mo_become 22 = .ok (.iconst 0, 1) := by decide +kernel
theorem d_Mo_become_23 : decode b_Mo_become 23 = .ok (.aload_n 0, 1) := by decide +kernel
theorem d_Mo_become_24 : decode b_Mo_become 24 = .ok (.getfield 15, 3) := by decide +kernel
theorem d_Mo_become_27 : decode b_Mo_become 27 = .ok (.iconst 0, 1) := by decide +kernel
theorem d_Mo_become_28 : decode b_Mo_become 28 = .ok (.bipush 8, 2) := by decide +kernel
theorem d_Mo_become_30 : decode b_Mo_become 30 = .ok (.invokestatic 37, 3) := by decide +kernel
theorem d_Mo_become_33 : decode b_Mo_become 33 = .ok (.aload_n 0, 1) := by decide +kernel
theorem d_Mo_become_34 : decode b_Mo_become 34 = .ok (.getfield 22, 3) := by decide +kernel
theorem d_Mo_become_37 : decode b_Mo_become 37 = .ok (.iload_n 1, 1) := by decide +kernel
theorem d_Mo_become_38 : decode b_Mo_become 38 = .ok (.invokeinterface 43 2, 5) := by decide +kernel
theorem d_Mo_become_43 : decode b_Mo_become 43 = .ok (.return_, 1) := by decide +kernel
theorem d_Co_changed_0 : decode b_Co_changed 0 = .ok (.aload_n 0, 1) := by decide +kernel
theorem d_Co_changed_1 : decode b_Co_changed 1 = .ok (.dup, 1) := by decide +kernel
theorem d_Co_changed_2 : decode b_Co_changed 2 = .ok (.getfield 7, 3) := by decide +kernel
theorem d_Co_changed_5 : decode b_Co_changed 5 = .ok (.iconst 1, 1) := by decide +kernel
theorem d_Co_changed_6 : decode b_Co_changed 6 = .ok (.iadd, 1) := by decide +kernel
theorem d_Co_changed_7 : decode b_Co_changed 7 = .ok (.putfield 7, 3) := by decide +kernel
theorem d_Co_changed_10 : decode b_Co_changed 10 = .ok (.return_, 1) := by decide +kernel
theorem d_MK_alarm_0 : decode b_MK_alarm 0 = .ok (.aload_n 0, 1) := by decide +kernel
theorem d_MK_alarm_1 : decode b_MK_alarm 1 = .ok (.getfield 21, 3) := by decide +kernel
theorem d_MK_alarm_4 : decode b_MK_alarm 4 = .ok (.iload_n 1, 1) := by decide +kernel
theorem d_MK_alarm_5 : decode b_MK_alarm 5 = .ok (.invokevirtual 44, 3) := by decide +kernel
theorem d_MK_alarm_8 : decode b_MK_alarm 8 = .ok (.ireturn, 1) := by decide +kernel
theorem d_Mo_alarm_0 : decode b_Mo_alarm 0 = .ok (.aload_n 0, 1) := by decide +kernel
theorem d_Mo_alarm_1 : decode b_Mo_alarm 1 = .ok (.getfield 48, 3) := by decide +kernel
theorem d_Mo_alarm_4 : decode b_Mo_alarm 4 = .ok (.ifCond .eq 5, 3) := by decide +kernel
theorem d_Mo_alarm_7 : decode b_Mo_alarm 7 = .ok (.iconst 0, 1) := by decide +kernel
theorem d_Mo_alarm_8 : decode b_Mo_alarm 8 = .ok (.ireturn, 1) := by decide +kernel
theorem d_Mo_alarm_9 : decode b_Mo_alarm 9 = .ok (.aload_n 0, 1) := by decide +kernel
theorem d_Mo_alarm_10 : decode b_Mo_alarm 10 = .ok (.iconst 1, 1) := by decide +kernel
theorem d_Mo_alarm_11 : decode b_Mo_alarm 11 = .ok (.putfield 48, 3) := by decide +kernel
theorem d_Mo_alarm_14 : decode b_Mo_alarm 14 = .ok (.aload_n 0, 1) := by decide +kernel
theorem d_Mo_alarm_15 : decode b_Mo_alarm 15 = .ok (.iload_n 1, 1) := by decide +kernel
theorem d_Mo_alarm_16 : decode b_Mo_alarm 16 = .ok (.putfield 52, 3) := by decide +kernel
theorem d_Mo_alarm_19 : decode b_Mo_alarm 19 = .ok (.iconst 1, 1) := by decide +kernel
theorem d_Mo_alarm_20 : decode b_Mo_alarm 20 = .ok (.ireturn, 1) := by decide +kernel
theorem d_MK_look_0 : decode b_MK_look 0 = .ok (.aload_n 0, 1) := by decide +kernel
theorem d_MK_look_1 : decode b_MK_look 1 = .ok (.getfield 21, 3) := by decide +kernel
theorem d_MK_look_4 : decode b_MK_look 4 = .ok (.iload_n 1, 1) := by decide +kernel
theorem d_MK_look_5 : decode b_MK_look 5 = .ok (.invokevirtual 48, 3) := by decide +kernel
theorem d_MK_look_8 : decode b_MK_look 8 = .ok (.ireturn, 1) := by decide +kernel
theorem d_Mo_look_0 : decode b_Mo_look 0 = .ok (.aload_n 0, 1) := by decide +kernel
theorem d_Mo_look_1 : decode b_Mo_look 1 = .ok (.getfield 48, 3) := by decide +kernel
theorem d_Mo_look_4 : decode b_Mo_look 4 = .ok (.ifCond .eq 11, 3) := by decide +kernel
theorem d_Mo_look_7 : decode b_Mo_look 7 = .ok (.aload_n 0, 1) := by decide +kernel
theorem d_Mo_look_8 : decode b_Mo_look 8 = .ok (.getfield 52, 3) := by decide +kernel
theorem d_Mo_look_11 : decode b_Mo_look 11 = .ok (.iload_n 1, 1) := by decide +kernel
theorem d_Mo_look_12 : decode b_Mo_look 12 = .ok (.if_icmp .le 5, 3) := by decide +kernel
theorem d_Mo_look_15 : decode b_Mo_look 15 = .ok (.iconst 0, 1) := by decide +kernel
theorem d_Mo_look_16 : decode b_Mo_look 16 = .ok (.ireturn, 1) := by decide +kernel
theorem d_Mo_look_17 : decode b_Mo_look 17 = .ok (.aload_n 0, 1) := by decide +kernel
theorem d_Mo_look_18 : decode b_Mo_look 18 = .ok (.iconst 0, 1) := by decide +kernel
theorem d_Mo_look_19 : decode b_Mo_look 19 = .ok (.putfield 48, 3) := by decide +kernel
theorem d_Mo_look_22 : decode b_Mo_look 22 = .ok (.aload_n 0, 1) := by decide +kernel
theorem d_Mo_look_23 : decode b_Mo_look 23 = .ok (.getfield 18, 3) := by decide +kernel
theorem d_Mo_look_26 : decode b_Mo_look 26 = .ok (.ifCond .eq 7, 3) := by decide +kernel
theorem d_Mo_look_29 : decode b_Mo_look 29 = .ok (.iconst 1, 1) := by decide +kernel
theorem d_Mo_look_30 : decode b_Mo_look 30 = .ok (.goto 4, 3) := by decide +kernel
theorem d_Mo_look_33 : decode b_Mo_look 33 = .ok (.iconst 0, 1) := by decide +kernel
theorem d_Mo_look_34 : decode b_Mo_look 34 = .ok (.istore_n 2, 1) := by decide +kernel
theorem d_Mo_look_35 : decode b_Mo_look 35 = .ok (.aload_n 0, 1) := by decide +kernel
theorem d_Mo_look_36 : decode b_Mo_look 36 = .ok (.iconst 0, 1) := by decide +kernel
theorem d_Mo_look_37 : decode b_Mo_look 37 = .ok (.invokevirtual 33, 3) := by decide +kernel
theorem d_Mo_look_40 : decode b_Mo_look 40 = .ok (.iload_n 2, 1) := by decide +kernel
theorem d_Mo_look_41 : decode b_Mo_look 41 = .ok (.ireturn, 1) := by decide +kernel
theorem d_MK_put_0 : decode b_MK_put 0 = .ok (.aload_n 0, 1) := by decide +kernel
theorem d_MK_put_1 : decode b_MK_put 1 = .ok (.getfield 51, 3) := by decide +kernel
theorem d_MK_put_4 : decode b_MK_put 4 = .ok (.bipush 8, 2) := by decide +kernel
theorem d_MK_put_6 : decode b_MK_put 6 = .ok (.if_icmp .eq 13, 3) := by decide +kernel
theorem d_MK_put_9 : decode b_MK_put 9 = .ok (.iload_n 1, 1) := by decide +kernel
theorem d_MK_put_10 : decode b_MK_put 10 = .ok (.ifCond .lt 9, 3) := by decide +kernel
theorem d_MK_put_13 : decode b_MK_put 13 = .ok (.iload_n 1, 1) := by decide +kernel
theorem d_MK_put_14 : decode b_MK_put 14 = .ok (.bipush 32, 2) := by decide +kernel
theorem d_MK_put_16 : decode b_MK_put 16 = .ok (.if_icmp .lt 5, 3) := by decide +kernel
theorem d_MK_put_19 : decode b_MK_put 19 = .ok (.iconst (-1), 1) := by decide +kernel
theorem d_MK_put_20 : decode b_MK_put 20 = .ok (.ireturn, 1) := by decide +kernel
theorem d_MK_put_21 : decode b_MK_put 21 = .ok (.aload_n 0, 1) := by decide +kernel
theorem d_MK_put_22 : decode b_MK_put 22 = .ok (.getfield 32, 3) := by decide +kernel
theorem d_MK_put_25 : decode b_MK_put 25 = .ok (.aload_n 0, 1) := by decide +kernel
theorem d_MK_put_26 : decode b_MK_put 26 = .ok (.dup, 1) := by decide +kernel
theorem d_MK_put_27 : decode b_MK_put 27 = .ok (.getfield 51, 3) := by decide +kernel
theorem d_MK_put_30 : decode b_MK_put 30 = .ok (.dup_x1, 1) := by decide +kernel
theorem d_MK_put_31 : decode b_MK_put 31 = .ok (.iconst 1, 1) := by decide +kernel
theorem d_MK_put_32 : decode b_MK_put 32 = .ok (.iadd, 1) := by decide +kernel
theorem d_MK_put_33 : decode b_MK_put 33 = .ok (.putfield 51, 3) := by decide +kernel
theorem d_MK_put_36 : decode b_MK_put 36 = .ok (.iload_n 1, 1) := by decide +kernel
theorem d_MK_put_37 : decode b_MK_put 37 = .ok (.i2b, 1) := by decide +kernel
theorem d_MK_put_38 : decode b_MK_put 38 = .ok (.bastore, 1) := by decide +kernel
theorem d_MK_put_39 : decode b_MK_put 39 = .ok (.aload_n 0, 1) := by decide +kernel
theorem d_MK_put_40 : decode b_MK_put 40 = .ok (.getfield 51, 3) := by decide +kernel
theorem d_MK_put_43 : decode b_MK_put 43 = .ok (.ireturn, 1) := by decide +kernel
theorem d_MK_form_0 : decode b_MK_form 0 = .ok (.aload_n 0, 1) := by decide +kernel
theorem d_MK_form_1 : decode b_MK_form 1 = .ok (.getfield 51, 3) := by decide +kernel
theorem d_MK_form_4 : decode b_MK_form 4 = .ok (.istore_n 3, 1) := by decide +kernel
theorem d_MK_form_5 : decode b_MK_form 5 = .ok (.aload_n 0, 1) := by decide +kernel
theorem d_MK_form_6 : decode b_MK_form 6 = .ok (.iconst 0, 1) := by decide +kernel
theorem d_MK_form_7 : decode b_MK_form 7 = .ok (.putfield 51, 3) := by decide +kernel
theorem d_MK_form_10 : decode b_MK_form 10 = .ok (.aload_n 0, 1) := by decide +kernel
theorem d_MK_form_11 : decode b_MK_form 11 = .ok (.getfield 28, 3) := by decide +kernel
theorem d_MK_form_14 : decode b_MK_form 14 = .ok (.iload_n 1, 1) := by decide +kernel
theorem d_MK_form_15 : decode b_MK_form 15 = .ok (.iload_n 2, 1) := by decide +kernel
theorem d_MK_form_16 : decode b_MK_form 16 = .ok (.aload_n 0, 1) := by decide +kernel
theorem d_MK_form_17 : decode b_MK_form 17 = .ok (.getfield 32, 3) := by decide +kernel
theorem d_MK_form_20 : decode b_MK_form 20 = .ok (.iconst 0, 1) := by decide +kernel
theorem d_MK_form_21 : decode b_MK_form 21 = .ok (.iload_n 3, 1) := by decide +kernel
theorem d_MK_form_22 : decode b_MK_form 22 = .ok (.invokevirtual 55, 3) := by decide +kernel
theorem d_MK_form_25 : decode b_MK_form 25 = .ok (.ireturn, 1) := by decide +kernel
theorem d_Fo_add_0 : decode b_Fo_add 0 = .ok (.iload 5, 2) := by decide +kernel
theorem d_Fo_add_2 : decode b_Fo_add 2 = .ok (.iconst 1, 1) := by decide +kernel
theorem d_Fo_add_3 : decode b_Fo_add 3 = .ok (.if_icmp .lt 33, 3) := by decide +kernel
theorem d_Fo_add_6 : decode b_Fo_add 6 = .ok (.iload 5, 2) := by decide +kernel
theorem d_Fo_add_8 : decode b_Fo_add 8 = .ok (.bipush 8, 2) := by decide +kernel
theorem d_Fo_add_10 : decode b_Fo_add 10 = .ok (.if_icmp .gt 26, 3) := by decide +kernel
theorem d_Fo_add_13 : decode b_Fo_add 13 = .ok (.iload_n 2, 1) := by decide +kernel
theorem d_Fo_add_14 : decode b_Fo_add 14 = .ok (.iconst 1, 1) := by decide +kernel
theorem d_Fo_add_15 : decode b_Fo_add 15 = .ok (.if_icmp .lt 21, 3) := by decide +kernel
theorem d_Fo_add_18 : decode b_Fo_add 18 = .ok (.iload_n 2, 1) := by decide +kernel
theorem d_Fo_add_19 : decode b_Fo_add 19 = .ok (.sipush 255, 3) := by decide +kernel
theorem d_Fo_add_22 : decode b_Fo_add 22 = .ok (.if_icmp .gt 14, 3) := by decide +kernel
theorem d_Fo_add_25 : decode b_Fo_add 25 = .ok (.iload_n 1, 1) := by decide +kernel
theorem d_Fo_add_26 : decode b_Fo_add 26 = .ok (.ifCond .lt 10, 3) := by decide +kernel
theorem d_Fo_add_29 : decode b_Fo_add 29 = .ok (.iload_n 1, 1) := by decide +kernel
theorem d_Fo_add_30 : decode b_Fo_add 30 = .ok (.sipush 256, 3) := by decide +kernel
theorem d_Fo_add_33 : decode b_Fo_add 33 = .ok (.if_icmp .lt 6, 3) := by decide +kernel
theorem d_Fo_add_36 : decode b_Fo_add 36 = .ok (.bipush 13, 2) := by decide +kernel
theorem d_Fo_add_38 : decode b_Fo_add 38 = .ok (.ireturn, 1) := by decide +kernel
theorem d_Fo_add_39 : decode b_Fo_add 39 = .ok (.aload_n 0, 1) := by decide +kernel
theorem d_Fo_add_40 : decode b_Fo_add 40 = .ok (.getfield 11, 3) := by decide +kernel
theorem d_Fo_add_43 : decode b_Fo_add 43 = .ok (.iload_n 1, 1) := by decide +kernel
theorem d_Fo_add_44 : decode b_Fo_add 44 = .ok (.iaload, 1) := by decide +kernel
theorem d_Fo_add_45 : decode b_Fo_add 45 = .ok (.ifCond .le 6, 3) := by decide +kernel
theorem d_Fo_add_48 : decode b_Fo_add 48 = .ok (.bipush 11, 2) := by decide +kernel
theorem d_Fo_add_50 : decode b_Fo_add 50 = .ok (.ireturn, 1) := by decide +kernel
theorem d_Fo_add_51 : decode b_Fo_add 51 = .ok (.aload_n 0, 1) := by decide +kernel
theorem d_Fo_add_52 : decode b_Fo_add 52 = .ok (.getfield 26, 3) := by decide +kernel
theorem d_Fo_add_55 : decode b_Fo_add 55 = .ok (.bipush 8, 2) := by decide +kernel
theorem d_Fo_add_57 : decode b_Fo_add 57 = .ok (.if_icmp .ne 6, 3) := by decide +kernel
theorem d_Fo_add_60 : decode b_Fo_add 60 = .ok (.bipush 12, 2) := by decide +kernel
theorem d_Fo_add_62 : decode b_Fo_add 62 = .ok (.ireturn, 1) := by decide +kernel
theorem d_Fo_add_63 : decode b_Fo_add 63 = .ok (.aload_n 3, 1) := by decide +kernel
theorem d_Fo_add_64 : decode b_Fo_add 64 = .ok (.iload 4, 2) := by decide +kernel
theorem d_Fo_add_66 : decode b_Fo_add 66 = .ok (.aload_n 0, 1) := by decide +kernel
theorem d_Fo_add_67 : decode b_Fo_add 67 = .ok (.getfield 19, 3) := by decide +kernel
theorem d_Fo_add_70 : decode b_Fo_add 70 = .ok (.bipush 8, 2) := by decide +kernel
theorem d_Fo_add_72 : decode b_Fo_add 72 = .ok (.iload_n 1, 1) := by decide +kernel
theorem d_Fo_add_73 : decode b_Fo_add 73 = .ok (.imul, 1) := by decide +kernel
theorem d_Fo_add_74 : decode b_Fo_add 74 = .ok (.iload 5, 2) := by decide +kernel
theorem d_Fo_add_76 : decode b_Fo_add 76 = .ok (.invokestatic 30, 3) := by decide +kernel
theorem d_Fo_add_79 : decode b_Fo_add 79 = .ok (.aload_n 0, 1) := by decide +kernel
theorem d_Fo_add_80 : decode b_Fo_add 80 = .ok (.getfield 23, 3) := by decide +kernel
theorem d_Fo_add_83 : decode b_Fo_add 83 = .ok (.iload_n 1, 1) := by decide +kernel
theorem d_Fo_add_84 : decode b_Fo_add 84 = .ok (.iload 5, 2) := by decide +kernel
theorem d_Fo_add_86 : decode b_Fo_add 86 = .ok (.iastore, 1) := by decide +kernel
theorem d_Fo_add_87 : decode b_Fo_add 87 = .ok (.aload_n 0, 1) := by decide +kernel
theorem d_Fo_add_88 : decode b_Fo_add 88 = .ok (.getfield 11, 3) := by decide +kernel
theorem d_Fo_add_91 : decode b_Fo_add 91 = .ok (.iload_n 1, 1) := by decide +kernel
theorem d_Fo_add_92 : decode b_Fo_add 92 = .ok (.iload_n 2, 1) := by decide +kernel
theorem d_Fo_add_93 : decode b_Fo_add 93 = .ok (.iastore, 1) := by decide +kernel
theorem d_Fo_add_94 : decode b_Fo_add 94 = .ok (.aload_n 0, 1) := by decide +kernel
theorem d_Fo_add_95 : decode b_Fo_add 95 = .ok (.getfield 15, 3) := by decide +kernel
theorem d_Fo_add_98 : decode b_Fo_add 98 = .ok (.iload_n 1, 1) := by decide +kernel
theorem d_Fo_add_99 : decode b_Fo_add 99 = .ok (.iconst 0, 1) := by decide +kernel
theorem d_Fo_add_100 : decode b_Fo_add 100 = .ok (.bastore, 1) := by decide +kernel
theorem d_Fo_add_101 : decode b_Fo_add 101 = .ok (.aload_n 0, 1) := by decide +kernel
theorem d_Fo_add_102 : decode b_Fo_add 102 = .ok (.dup, 1) := by decide +kernel
theorem d_Fo_add_103 : decode b_Fo_add 103 = .ok (.getfield 26, 3) := by decide +kernel
theorem d_Fo_add_106 : decode b_Fo_add 106 = .ok (.iconst 1, 1) := by decide +kernel
theorem d_Fo_add_107 : decode b_Fo_add 107 = .ok (.iadd, 1) := by decide +kernel
theorem d_Fo_add_108 : decode b_Fo_add 108 = .ok (.putfield 26, 3) := by decide +kernel
theorem d_Fo_add_111 : decode b_Fo_add 111 = .ok (.iconst 0, 1) := by decide +kernel
theorem d_Fo_add_112 : decode b_Fo_add 112 = .ok (.ireturn, 1) := by decide +kernel
theorem d_MK_remove_0 : decode b_MK_remove 0 = .ok (.aload_n 0, 1) := by decide +kernel
theorem d_MK_remove_1 : decode b_MK_remove 1 = .ok (.getfield 28, 3) := by decide +kernel
theorem d_MK_remove_4 : decode b_MK_remove 4 = .ok (.iload_n 1, 1) := by decide +kernel
theorem d_MK_remove_5 : decode b_MK_remove 5 = .ok (.invokevirtual 59, 3) := by decide +kernel
theorem d_MK_remove_8 : decode b_MK_remove 8 = .ok (.ireturn, 1) := by decide +kernel
theorem d_Fo_remove_0 : decode b_Fo_remove 0 = .ok (.aload_n 0, 1) := by decide +kernel
theorem d_Fo_remove_1 : decode b_Fo_remove 1 = .ok (.iload_n 1, 1) := by decide +kernel
theorem d_Fo_remove_2 : decode b_Fo_remove 2 = .ok (.invokevirtual 36, 3) := by decide +kernel
theorem d_Fo_remove_5 : decode b_Fo_remove 5 = .ok (.ifCond .ne 6, 3) := by decide +kernel
theorem d_Fo_remove_8 : decode b_Fo_remove 8 = .ok (.bipush 14, 2) := by decide +kernel
theorem d_Fo_remove_10 : decode b_Fo_remove 10 = .ok (.ireturn, 1) := by decide +kernel
theorem d_Fo_remove_11 : decode b_Fo_remove 11 = .ok (.aload_n 0, 1) := by decide +kernel
theorem d_Fo_remove_12 : decode b_Fo_remove 12 = .ok (.getfield 15, 3) := by decide +kernel
theorem d_Fo_remove_15 : decode b_Fo_remove 15 = .ok (.iload_n 1, 1) := by decide +kernel
theorem d_Fo_remove_16 : decode b_Fo_remove 16 = .ok (.baload, 1) := by decide +kernel
theorem d_Fo_remove_17 : decode b_Fo_remove 17 = .ok (.ifCond .eq 6, 3) := by decide +kernel
theorem d_Fo_remove_20 : decode b_Fo_remove 20 = .ok (.bipush 15, 2) := by decide +kernel
theorem d_Fo_remove_22 : decode b_Fo_remove 22 = .ok (.ireturn, 1) := by decide +kernel
theorem d_Fo_remove_23 : decode b_Fo_remove 23 = .ok (.aload_n 0, 1) := by decide +kernel
theorem d_Fo_remove_24 : decode b_Fo_remove 24 = .ok (.getfield 11, 3) := by decide +kernel
theorem d_Fo_remove_27 : decode b_Fo_remove 27 = .ok (.iload_n 1, 1) := by decide +kernel
theorem d_Fo_remove_28 : decode b_Fo_remove 28 = .ok (.iconst 0, 1) := by decide +kernel
theorem d_Fo_remove_29 : decode b_Fo_remove 29 = .ok (.iastore, 1) := by decide +kernel
theorem d_Fo_remove_30 : decode b_Fo_remove 30 = .ok (.aload_n 0, 1) := by decide +kernel
theorem d_Fo_remove_31 : decode b_Fo_remove 31 = .ok (.dup, 1) := by decide +kernel
theorem d_Fo_remove_32 : decode b_Fo_remove 32 = .ok (.getfield 26, 3) := by decide +kernel
theorem d_Fo_remove_35 : decode b_Fo_remove 35 = .ok (.iconst 1, 1) := by decide +kernel
theorem d_Fo_remove_36 : decode b_Fo_remove 36 = .ok (.isub, 1) := by decide +kernel
theorem d_Fo_remove_37 : decode b_Fo_remove 37 = .ok (.putfield 26, 3) := by decide +kernel
theorem d_Fo_remove_40 : decode b_Fo_remove 40 = .ok (.iconst 0, 1) := by decide +kernel
theorem d_Fo_remove_41 : decode b_Fo_remove 41 = .ok (.ireturn, 1) := by decide +kernel
theorem d_Fo_is_0 : decode b_Fo_is 0 = .ok (.iload_n 1, 1) := by decide +kernel
theorem d_Fo_is_1 : decode b_Fo_is 1 = .ok (.ifCond .lt 23, 3) := by decide +kernel
theorem d_Fo_is_4 : decode b_Fo_is 4 = .ok (.iload_n 1, 1) := by decide +kernel
theorem d_Fo_is_5 : decode b_Fo_is 5 = .ok (.sipush 256, 3) := by decide +kernel
theorem d_Fo_is_8 : decode b_Fo_is 8 = .ok (.if_icmp .ge 16, 3) := by decide +kernel
theorem d_Fo_is_11 : decode b_Fo_is 11 = .ok (.aload_n 0, 1) := by decide +kernel
theorem d_Fo_is_12 : decode b_Fo_is 12 = .ok (.getfield 11, 3) := by decide +kernel
theorem d_Fo_is_15 : decode b_Fo_is 15 = .ok (.iload_n 1, 1) := by decide +kernel
theorem d_Fo_is_16 : decode b_Fo_is 16 = .ok (.iaload, 1) := by decide +kernel
theorem d_Fo_is_17 : decode b_Fo_is 17 = .ok (.ifCond .le 7, 3) := by decide +kernel
theorem d_Fo_is_20 : decode b_Fo_is 20 = .ok (.iconst 1, 1) := by decide +kernel
theorem d_Fo_is_21 : decode b_Fo_is 21 = .ok (.goto 4, 3) := by decide +kernel
theorem d_Fo_is_24 : decode b_Fo_is 24 = .ok (.iconst 0, 1) := by decide +kernel
theorem d_Fo_is_25 : decode b_Fo_is 25 = .ok (.ireturn, 1) := by decide +kernel
theorem d_MK_enable_0 : decode b_MK_enable 0 = .ok (.aload_n 0, 1) := by decide +kernel
theorem d_MK_enable_1 : decode b_MK_enable 1 = .ok (.getfield 28, 3) := by decide +kernel
theorem d_MK_enable_4 : decode b_MK_enable 4 = .ok (.iload_n 1, 1) := by decide +kernel
theorem d_MK_enable_5 : decode b_MK_enable 5 = .ok (.iload_n 2, 1) := by decide +kernel
theorem d_MK_enable_6 : decode b_MK_enable 6 = .ok (.invokevirtual 62, 3) := by decide +kernel
theorem d_MK_enable_9 : decode b_MK_enable 9 = .ok (.ireturn, 1) := by decide +kernel
theorem d_Fo_enable_0 : decode b_Fo_enable 0 = .ok (.aload_n 0, 1) := by decide +kernel
theorem d_Fo_enable_1 : decode b_Fo_enable 1 = .ok (.iload_n 1, 1) := by decide +kernel
theorem d_Fo_enable_2 : decode b_Fo_enable 2 = .ok (.invokevirtual 36, 3) := by decide +kernel
theorem d_Fo_enable_5 : decode b_Fo_enable 5 = .ok (.ifCond .ne 6, 3) := by decide +kernel
theorem d_Fo_enable_8 : decode b_Fo_enable 8 = .ok (.bipush 14, 2) := by decide +kernel
theorem d_Fo_enable_10 : decode b_Fo_enable 10 = .ok (.ireturn, 1) := by decide +kernel
theorem d_Fo_enable_11 : decode b_Fo_enable 11 = .ok (.aload_n 0, 1) := by decide +kernel
theorem d_Fo_enable_12 : decode b_Fo_enable 12 = .ok (.getfield 15, 3) := by decide +kernel
theorem d_Fo_enable_15 : decode b_Fo_enable 15 = .ok (.iload_n 1, 1) := by decide +kernel
theorem d_Fo_enable_16 : decode b_Fo_enable 16 = .ok (.iload_n 2, 1) := by decide +kernel
theorem d_Fo_enable_17 : decode b_Fo_enable 17 = .ok (.bastore, 1) := by decide +kernel
theorem d_Fo_enable_18 : decode b_Fo_enable 18 = .ok (.iconst 0, 1) := by decide +kernel
theorem d_Fo_enable_19 : decode b_Fo_enable 19 = .ok (.ireturn, 1) := by decide +kernel
theorem d_MK_due_0 : decode b_MK_due 0 = .ok (.aload_n 0, 1) := by decide +kernel
theorem d_MK_due_1 : decode b_MK_due 1 = .ok (.getfield 28, 3) := by decide +kernel
theorem d_MK_due_4 : decode b_MK_due 4 = .ok (.iload_n 1, 1) := by decide +kernel
theorem d_MK_due_5 : decode b_MK_due 5 = .ok (.iload_n 2, 1) := by decide +kernel
theorem d_MK_due_6 : decode b_MK_due 6 = .ok (.invokevirtual 66, 3) := by decide +kernel
theorem d_MK_due_9 : decode b_MK_due 9 = .ok (.ireturn, 1) := by decide +kernel
theorem d_Fo_due_0 : decode b_Fo_due 0 = .ok (.iload_n 2, 1) := by decide +kernel
theorem d_Fo_due_1 : decode b_Fo_due 1 = .ok (.ifCond .ge 7, 3) := by decide +kernel
theorem d_Fo_due_4 : decode b_Fo_due 4 = .ok (.iconst 0, 1) := by decide +kernel
theorem d_Fo_due_5 : decode b_Fo_due 5 = .ok (.goto 4, 3) := by decide +kernel
theorem d_Fo_due_8 : decode b_Fo_due 8 = .ok (.iload_n 2, 1) := by decide +kernel
theorem d_Fo_due_9 : decode b_Fo_due 9 = .ok (.istore_n 3, 1) := by decide +kernel
theorem d_Fo_due_10 : decode b_Fo_due 10 = .ok (.iload_n 3, 1) := by decide +kernel
theorem d_Fo_due_11 : decode b_Fo_due 11 = .ok (.sipush 256, 3) := by decide +kernel
theorem d_Fo_due_14 : decode b_Fo_due 14 = .ok (.if_icmp .ge 38, 3) := by decide +kernel
theorem d_Fo_due_17 : decode b_Fo_due 17 = .ok (.aload_n 0, 1) := by decide +kernel
theorem d_Fo_due_18 : decode b_Fo_due 18 = .ok (.getfield 11, 3) := by decide +kernel
theorem d_Fo_due_21 : decode b_Fo_due 21 = .ok (.iload_n 3, 1) := by decide +kernel
theorem d_Fo_due_22 : decode b_Fo_due 22 = .ok (.iaload, 1) := by decide +kernel
theorem d_Fo_due_23 : decode b_Fo_due 23 = .ok (.ifCond .eq 23, 3) := by decide +kernel
theorem d_Fo_due_26 : decode b_Fo_due 26 = .ok (.aload_n 0, 1) := by decide +kernel
theorem d_Fo_due_27 : decode b_Fo_due 27 = .ok (.getfield 15, 3) := by decide +kernel
theorem d_Fo_due_30 : decode b_Fo_due 30 = .ok (.iload_n 3, 1) := by decide +kernel
theorem d_Fo_due_31 : decode b_Fo_due 31 = .ok (.baload, 1) := by decide +kernel
theorem d_Fo_due_32 : decode b_Fo_due 32 = .ok (.ifCond .eq 14, 3) := by decide +kernel
theorem d_Fo_due_35 : decode b_Fo_due 35 = .ok (.iload_n 1, 1) := by decide +kernel
theorem d_Fo_due_36 : decode b_Fo_due 36 = .ok (.aload_n 0, 1) := by decide +kernel
theorem d_Fo_due_37 : decode b_Fo_due 37 = .ok (.getfield 11, 3) := by decide +kernel
theorem d_Fo_due_40 : decode b_Fo_due 40 = .ok (.iload_n 3, 1) := by decide +kernel
theorem d_Fo_due_41 : decode b_Fo_due 41 = .ok (.iaload, 1) := by decide +kernel
theorem d_Fo_due_42 : decode b_Fo_due 42 = .ok (.irem, 1) := by decide +kernel
theorem d_Fo_due_43 : decode b_Fo_due 43 = .ok (.ifCond .eq 9, 3) := by decide +kernel
theorem d_Fo_due_46 : decode b_Fo_due 46 = .ok (.iinc 3 1, 3) := by decide +kernel
theorem d_Fo_due_49 : decode b_Fo_due 49 = .ok (.goto (-39), 3) := by decide +kernel
theorem d_Fo_due_52 : decode b_Fo_due 52 = .ok (.iload_n 3, 1) := by decide +kernel
theorem d_Fo_due_53 : decode b_Fo_due 53 = .ok (.sipush 256, 3) := by decide +kernel
theorem d_Fo_due_56 : decode b_Fo_due 56 = .ok (.if_icmp .ge 7, 3) := by decide +kernel
theorem d_Fo_due_59 : decode b_Fo_due 59 = .ok (.iload_n 3, 1) := by decide +kernel
theorem d_Fo_due_60 : decode b_Fo_due 60 = .ok (.goto 4, 3) := by decide +kernel
theorem d_Fo_due_63 : decode b_Fo_due 63 = .ok (.iconst (-1), 1) := by decide +kernel
theorem d_Fo_due_64 : decode b_Fo_due 64 = .ok (.ireturn, 1) := by decide +kernel
theorem d_MK_parameter_0 : decode b_MK_parameter 0 = .ok (.aload_n 0, 1) := by decide +kernel
theorem d_MK_parameter_1 : decode b_MK_parameter 1 = .ok (.getfield 28, 3) := by decide +kernel
theorem d_MK_parameter_4 : decode b_MK_parameter 4 = .ok (.iload_n 1, 1) := by decide +kernel
theorem d_MK_parameter_5 : decode b_MK_parameter 5 = .ok (.invokevirtual 69, 3) := by decide +kernel
theorem d_MK_parameter_8 : decode b_MK_parameter 8 = .ok (.ifCond .eq 21, 3) := by decide +kernel
theorem d_MK_parameter_11 : decode b_MK_parameter 11 = .ok (.iload_n 2, 1) := by decide +kernel
theorem d_MK_parameter_12 : decode b_MK_parameter 12 = .ok (.iconst (-1), 1) := by decide +kernel
theorem d_MK_parameter_13 : decode b_MK_parameter 13 = .ok (.if_icmp .lt 16, 3) := by decide +kernel
theorem d_MK_parameter_16 : decode b_MK_parameter 16 = .ok (.iload_n 2, 1) := by decide +kernel
theorem d_MK_parameter_17 : decode b_MK_parameter 17 = .ok (.aload_n 0, 1) := by decide +kernel
theorem d_MK_parameter_18 : decode b_MK_parameter 18 = .ok (.getfield 28, 3) := by decide +kernel
theorem d_MK_parameter_21 : decode b_MK_parameter 21 = .ok (.getfield 72, 3) := by decide +kernel
theorem d_MK_parameter_24 : decode b_MK_parameter 24 = .ok (.iload_n 1, 1) := by decide +kernel
theorem d_MK_parameter_25 : decode b_MK_parameter 25 = .ok (.iaload, 1) := by decide +kernel
theorem d_MK_parameter_26 : decode b_MK_parameter 26 = .ok (.if_icmp .lt 5, 3) := by decide +kernel
theorem d_MK_parameter_29 : decode b_MK_parameter 29 = .ok (.iconst (-1), 1) := by decide +kernel
theorem d_MK_parameter_30 : decode b_MK_parameter 30 = .ok (.ireturn, 1) := by decide +kernel
theorem d_MK_parameter_31 : decode b_MK_parameter 31 = .ok (.iload_n 2, 1) := by decide +kernel
theorem d_MK_parameter_32 : decode b_MK_parameter 32 = .ok (.iconst (-1), 1) := by decide +kernel
theorem d_MK_parameter_33 : decode b_MK_parameter 33 = .ok (.if_icmp .ne 15, 3) := by decide +kernel
theorem d_MK_parameter_36 : decode b_MK_parameter 36 = .ok (.aload_n 0, 1) := by decide +kernel
theorem d_MK_parameter_37 : decode b_MK_parameter 37 = .ok (.getfield 28, 3) := by decide +kernel
theorem d_MK_parameter_40 : decode b_MK_parameter 40 = .ok (.getfield 72, 3) := by decide +kernel
theorem d_MK_parameter_43 : decode b_MK_parameter 43 = .ok (.iload_n 1, 1) := by decide +kernel
theorem d_MK_parameter_44 : decode b_MK_parameter 44 = .ok (.iaload, 1) := by decide +kernel
theorem d_MK_parameter_45 : decode b_MK_parameter 45 = .ok (.goto 12, 3) := by decide +kernel
theorem d_MK_parameter_48 : decode b_MK_parameter 48 = .ok (.aload_n 0, 1) := by decide +kernel
theorem d_MK_parameter_49 : decode b_MK_parameter 49 = .ok (.getfield 28, 3) := by decide +kernel
theorem d_MK_parameter_52 : decode b_MK_parameter 52 = .ok (.iload_n 1, 1) := by decide +kernel
theorem d_MK_parameter_53 : decode b_MK_parameter 53 = .ok (.iload_n 2, 1) := by decide +kernel
theorem d_MK_parameter_54 : decode b_MK_parameter 54 = .ok (.invokevirtual 76, 3) := by decide +kernel
theorem d_MK_parameter_57 : decode b_MK_parameter 57 = .ok (.ireturn, 1) := by decide +kernel
theorem d_Fo_parameter_0 : decode b_Fo_parameter 0 = .ok (.aload_n 0, 1) := by decide +kernel
theorem d_Fo_parameter_1 : decode b_Fo_parameter 1 = .ok (.getfield 19, 3) := by decide +kernel
theorem d_Fo_parameter_4 : decode b_Fo_parameter 4 = .ok (.bipush 8, 2) := by decide +kernel
theorem d_Fo_parameter_6 : decode b_Fo_parameter 6 = .ok (.iload_n 1, 1) := by decide +kernel
theorem d_Fo_parameter_7 : decode b_Fo_parameter 7 = .ok (.imul, 1) := by decide +kernel
theorem d_Fo_parameter_8 : decode b_Fo_parameter 8 = .ok (.iload_n 2, 1) := by decide +kernel
theorem d_Fo_parameter_9 : decode b_Fo_parameter 9 = .ok (.iadd, 1) := by decide +kernel
theorem d_Fo_parameter_10 : decode b_Fo_parameter 10 = .ok (.baload, 1) := by decide +kernel
theorem d_Fo_parameter_11 : decode b_Fo_parameter 11 = .ok (.ireturn, 1) := by decide +kernel
theorem d_MK_value_0 : decode b_MK_value 0 = .ok (.iload_n 1, 1) := by decide +kernel
theorem d_MK_value_1 : decode b_MK_value 1 = .ok (.ifCond .lt 19, 3) := by decide +kernel
theorem d_MK_value_4 : decode b_MK_value 4 = .ok (.iload_n 1, 1) := by decide +kernel
theorem d_MK_value_5 : decode b_MK_value 5 = .ok (.bipush 8, 2) := by decide +kernel
theorem d_MK_value_7 : decode b_MK_value 7 = .ok (.if_icmp .ge 13, 3) := by decide +kernel
theorem d_MK_value_10 : decode b_MK_value 10 = .ok (.aload_n 0, 1) := by decide +kernel
theorem d_MK_value_11 : decode b_MK_value 11 = .ok (.getfield 21, 3) := by decide +kernel
theorem d_MK_value_14 : decode b_MK_value 14 = .ok (.getfield 79, 3) := by decide +kernel
theorem d_MK_value_17 : decode b_MK_value 17 = .ok (.iload_n 1, 1) := by decide +kernel
theorem d_MK_value_18 : decode b_MK_value 18 = .ok (.iaload, 1) := by decide +kernel
theorem d_MK_value_19 : decode b_MK_value 19 = .ok (.ireturn, 1) := by decide +kernel
theorem d_MK_value_20 : decode b_MK_value 20 = .ok (.iload_n 1, 1) := by decide +kernel
theorem d_MK_value_21 : decode b_MK_value 21 = .ok (.tableswitch 77 8 11 #[31, 39, 61, 69], 31) := by decide +kernel
theorem d_MK_value_52 : decode b_MK_value 52 = .ok (.aload_n 0, 1) := by decide +kernel
theorem d_MK_value_53 : decode b_MK_value 53 = .ok (.getfield 21, 3) := by decide +kernel
theorem d_MK_value_56 : decode b_MK_value 56 = .ok (.getfield 82, 3) := by decide +kernel
theorem d_MK_value_59 : decode b_MK_value 59 = .ok (.ireturn, 1) := by decide +kernel
theorem d_MK_value_60 : decode b_MK_value 60 = .ok (.aload_n 0, 1) := by decide +kernel
theorem d_MK_value_61 : decode b_MK_value 61 = .ok (.getfield 21, 3) := by decide +kernel
theorem d_MK_value_64 : decode b_MK_value 64 = .ok (.getfield 85, 3) := by decide +kernel
theorem d_MK_value_67 : decode b_MK_value 67 = .ok (.ifCond .eq 13, 3) := by decide +kernel
theorem d_MK_value_70 : decode b_MK_value 70 = .ok (.aload_n 0, 1) := by decide +kernel
theorem d_MK_value_71 : decode b_MK_value 71 = .ok (.getfield 21, 3) := by decide +kernel
theorem d_MK_value_74 : decode b_MK_value 74 = .ok (.getfield 89, 3) := by decide +kernel
theorem d_MK_value_77 : decode b_MK_value 77 = .ok (.goto 4, 3) := by decide +kernel
theorem d_MK_value_80 : decode b_MK_value 80 = .ok (.iconst (-1), 1) := by decide +kernel
theorem d_MK_value_81 : decode b_MK_value 81 = .ok (.ireturn, 1) := by decide +kernel
theorem d_MK_value_82 : decode b_MK_value 82 = .ok (.aload_n 0, 1) := by decide +kernel
theorem d_MK_value_83 : decode b_MK_value 83 = .ok (.getfield 10, 3) := by decide +kernel
theorem d_MK_value_86 : decode b_MK_value 86 = .ok (.getfield 91, 3) := by decide +kernel
theorem d_MK_value_89 : decode b_MK_value 89 = .ok (.ireturn, 1) := by decide +kernel
theorem d_MK_value_90 : decode b_MK_value 90 = .ok (.aload_n 0, 1) := by decide +kernel
theorem d_MK_value_91 : decode b_MK_value 91 = .ok (.getfield 28, 3) := by decide +kernel
theorem d_MK_value_94 : decode b_MK_value 94 = .ok (.getfield 94, 3) := by decide +kernel
theorem d_MK_value_97 : decode b_MK_value 97 = .ok (.ireturn, 1) := by decide +kernel
theorem d_MK_value_98 : decode b_MK_value 98 = .ok (.iconst 0, 1) := by decide +kernel
theorem d_MK_value_99 : decode b_MK_value 99 = .ok (.ireturn, 1) := by decide +kernel
theorem d_MK_about_0 : decode b_MK_about 0 = .ok (.aload_n 0, 1) := by decide +kernel
theorem d_MK_about_1 : decode b_MK_about 1 = .ok (.getfield 28, 3) := by decide +kernel
theorem d_MK_about_4 : decode b_MK_about 4 = .ok (.iload_n 1, 1) := by decide +kernel
theorem d_MK_about_5 : decode b_MK_about 5 = .ok (.invokevirtual 69, 3) := by decide +kernel
theorem d_MK_about_8 : decode b_MK_about 8 = .ok (.ifCond .ne 5, 3) := by decide +kernel
theorem d_MK_about_11 : decode b_MK_about 11 = .ok (.iconst (-1), 1) := by decide +kernel
theorem d_MK_about_12 : decode b_MK_about 12 = .ok (.ireturn, 1) := by decide +kernel
theorem d_MK_about_13 : decode b_MK_about 13 = .ok (.iload_n 2, 1) := by decide +kernel
theorem d_MK_about_14 : decode b_MK_about 14 = .ok (.ifCond .ne 15, 3) := by decide +kernel
theorem d_MK_about_17 : decode b_MK_about 17 = .ok (.aload_n 0, 1) := by decide +kernel
theorem d_MK_about_18 : decode b_MK_about 18 = .ok (.getfield 28, 3) := by decide +kernel
theorem d_MK_about_21 : decode b_MK_about 21 = .ok (.getfield 97, 3) := by decide +kernel
theorem d_MK_about_24 : decode b_MK_about 24 = .ok (.iload_n 1, 1) := by decide +kernel
theorem d_MK_about_25 : decode b_MK_about 25 = .ok (.iaload, 1) := by decide +kernel
theorem d_MK_about_26 : decode b_MK_about 26 = .ok (.goto 29, 3) := by decide +kernel
theorem d_MK_about_29 : decode b_MK_about 29 = .ok (.iload_n 2, 1) := by decide +kernel
theorem d_MK_about_30 : decode b_MK_about 30 = .ok (.iconst 1, 1) := by decide +kernel
theorem d_MK_about_31 : decode b_MK_about 31 = .ok (.if_icmp .ne 23, 3) := by decide +kernel
theorem d_MK_about_34 : decode b_MK_about 34 = .ok (.aload_n 0, 1) := by decide +kernel
theorem d_MK_about_35 : decode b_MK_about 35 = .ok (.getfield 28, 3) := by decide +kernel
theorem d_MK_about_38 : decode b_MK_about 38 = .ok (.getfield 100, 3) := by decide +kernel
theorem d_MK_about_41 : decode b_MK_about 41 = .ok (.iload_n 1, 1) := by decide +kernel
theorem d_MK_about_42 : decode b_MK_about 42 = .ok (.baload, 1) := by decide +kernel
theorem d_MK_about_43 : decode b_MK_about 43 = .ok (.ifCond .eq 7, 3) := by decide +kernel
theorem d_MK_about_46 : decode b_MK_about 46 = .ok (.iconst 1, 1) := by decide +kernel
theorem d_MK_about_47 : decode b_MK_about 47 = .ok (.goto 8, 3) := by decide +kernel
theorem d_MK_about_50 : decode b_MK_about 50 = .ok (.iconst 0, 1) := by decide +kernel
theorem d_MK_about_51 : decode b_MK_about 51 = .ok (.goto 4, 3) := by decide +kernel
theorem d_MK_about_54 : decode b_MK_about 54 = .ok (.iconst (-1), 1) := by decide +kernel
theorem d_MK_about_55 : decode b_MK_about 55 = .ok (.ireturn, 1) := by decide +kernel
end
section
theorem d_Mm_init_0 : decode b_Mm_init 0 = .ok (.aload_n 0, 1) := by decide +kernel
theorem d_Mm_init_1 : decode b_Mm_init 1 = .ok (.invokespecial 1, 3) := by decide +kernel
theorem d_Mm_init_4 : decode b_Mm_init 4 = .ok (.aload_n 0, 1) := by decide +kernel
theorem d_Mm_init_5 : decode b_Mm_init 5 = .ok (.iconst 1, 1) := by decide +kernel
theorem d_Mm_init_6 : decode b_Mm_init 6 = .ok (.putfield 7, 3) := by decide +kernel
theorem d_Mm_init_9 : decode b_Mm_init 9 = .ok (.aload_n 0, 1) := by decide +kernel
theorem d_Mm_init_10 : decode b_Mm_init 10 = .ok (.bipush 8, 2) := by decide +kernel
theorem d_Mm_init_12 : decode b_Mm_init 12 = .ok (.newarray .int, 2) := by decide +kernel
theorem d_Mm_init_14 : decode b_Mm_init 14 = .ok (.putfield 13, 3) := by decide +kernel
theorem d_Mm_init_17 : decode b_Mm_init 17 = .ok (.aload_n 0, 1) := by decide +kernel
theorem d_Mm_init_18 : decode b_Mm_init 18 = .ok (.bipush 8, 2) := by decide +kernel
theorem d_Mm_init_20 : decode b_Mm_init 20 = .ok (.newarray .int, 2) := by decide +kernel
theorem d_Mm_init_22 : decode b_Mm_init 22 = .ok (.putfield 17, 3) := by decide +kernel
theorem d_Mm_init_25 : decode b_Mm_init 25 = .ok (.aload_n 0, 1) := by decide +kernel
theorem d_Mm_init_26 : decode b_Mm_init 26 = .ok (.sipush 256, 3) := by decide +kernel
theorem d_Mm_init_29 : decode b_Mm_init 29 = .ok (.newarray .int, 2) := by decide +kernel
theorem d_Mm_init_31 : decode b_Mm_init 31 = .ok (.putfield 20, 3) := by decide +kernel
theorem d_Mm_init_34 : decode b_Mm_init 34 = .ok (.aload_n 0, 1) := by decide +kernel
theorem d_Mm_init_35 : decode b_Mm_init 35 = .ok (.sipush 256, 3) := by decide +kernel
theorem d_Mm_init_38 : decode b_Mm_init 38 = .ok (.newarray .boolean, 2) := by decide +kernel
theorem d_Mm_init_40 : decode b_Mm_init 40 = .ok (.putfield 23, 3) := by decide +kernel
theorem d_Mm_init_43 : decode b_Mm_init 43 = .ok (.aload_n 0, 1) := by decide +kernel
theorem d_Mm_init_44 : decode b_Mm_init 44 = .ok (.sipush 256, 3) := by decide +kernel
theorem d_Mm_init_47 : decode b_Mm_init 47 = .ok (.newarray .int, 2) := by decide +kernel
theorem d_Mm_init_49 : decode b_Mm_init 49 = .ok (.putfield 27, 3) := by decide +kernel
theorem d_Mm_init_52 : decode b_Mm_init 52 = .ok (.aload_n 0, 1) := by decide +kernel
theorem d_Mm_init_53 : decode b_Mm_init 53 = .ok (.sipush 2048, 3) := by decide +kernel
theorem d_Mm_init_56 : decode b_Mm_init 56 = .ok (.newarray .int, 2) := by decide +kernel
theorem d_Mm_init_58 : decode b_Mm_init 58 = .ok (.putfield 30, 3) := by decide +kernel
theorem d_Mm_init_61 : decode b_Mm_init 61 = .ok (.return_, 1) := by decide +kernel
theorem d_Mm_move_0 : decode b_Mm_move 0 = .ok (.aload_n 0, 1) := by decide +kernel
theorem d_Mm_move_1 : decode b_Mm_move 1 = .ok (.iconst 0, 1) := by decide +kernel
theorem d_Mm_move_2 : decode b_Mm_move 2 = .ok (.putfield 33, 3) := by decide +kernel
theorem d_Mm_move_5 : decode b_Mm_move 5 = .ok (.iload_n 1, 1) := by decide +kernel
theorem d_Mm_move_6 : decode b_Mm_move 6 = .ok (.ifCond .lt 9, 3) := by decide +kernel
theorem d_Mm_move_9 : decode b_Mm_move 9 = .ok (.iload_n 1, 1) := by decide +kernel
theorem d_Mm_move_10 : decode b_Mm_move 10 = .ok (.bipush 7, 2) := by decide +kernel
theorem d_Mm_move_12 : decode b_Mm_move 12 = .ok (.if_icmp .le 6, 3) := by decide +kernel
theorem d_Mm_move_15 : decode b_Mm_move 15 = .ok (.bipush 18, 2) := by decide +kernel
theorem d_Mm_move_17 : decode b_Mm_move 17 = .ok (.ireturn, 1) := by decide +kernel
theorem d_Mm_move_18 : decode b_Mm_move 18 = .ok (.aload_n 0, 1) := by decide +kernel
theorem d_Mm_move_19 : decode b_Mm_move 19 = .ok (.getfield 7, 3) := by decide +kernel
theorem d_Mm_move_22 : decode b_Mm_move 22 = .ok (.ifCond .ne 6, 3) := by decide +kernel
theorem d_Mm_move_25 : decode b_Mm_move 25 = .ok (.bipush 19, 2) := by decide +kernel
theorem d_Mm_move_27 : decode b_Mm_move 27 = .ok (.ireturn, 1) := by decide +kernel
theorem d_Mm_move_28 : decode b_Mm_move 28 = .ok (.aload_n 0, 1) := by decide +kernel
theorem d_Mm_move_29 : decode b_Mm_move 29 = .ok (.getfield 13, 3) := by decide +kernel
theorem d_Mm_move_32 : decode b_Mm_move 32 = .ok (.iload_n 1, 1) := by decide +kernel
theorem d_Mm_move_33 : decode b_Mm_move 33 = .ok (.iload_n 2, 1) := by decide +kernel
theorem d_Mm_move_34 : decode b_Mm_move 34 = .ok (.iastore, 1) := by decide +kernel
theorem d_Mm_move_35 : decode b_Mm_move 35 = .ok (.iconst 0, 1) := by decide +kernel
theorem d_Mm_move_36 : decode b_Mm_move 36 = .ok (.ireturn, 1) := by decide +kernel
theorem d_Mm_enter_0 : decode b_Mm_enter 0 = .ok (.aload_n 0, 1) := by decide +kernel
theorem d_Mm_enter_1 : decode b_Mm_enter 1 = .ok (.iconst 0, 1) := by decide +kernel
theorem d_Mm_enter_2 : decode b_Mm_enter 2 = .ok (.putfield 33, 3) := by decide +kernel
theorem d_Mm_enter_5 : decode b_Mm_enter 5 = .ok (.iload_n 1, 1) := by decide +kernel
theorem d_Mm_enter_6 : decode b_Mm_enter 6 = .ok (.ifCond .lt 8, 3) := by decide +kernel
theorem d_Mm_enter_9 : decode b_Mm_enter 9 = .ok (.iload_n 1, 1) := by decide +kernel
theorem d_Mm_enter_10 : decode b_Mm_enter 10 = .ok (.iconst 2, 1) := by decide +kernel
theorem d_Mm_enter_11 : decode b_Mm_enter 11 = .ok (.if_icmp .le 6, 3) := by decide +kernel
theorem d_Mm_enter_14 : decode b_Mm_enter 14 = .ok (.bipush 18, 2) := by decide +kernel
theorem d_Mm_enter_16 : decode b_Mm_enter 16 = .ok (.ireturn, 1) := by decide +kernel
theorem d_Mm_enter_17 : decode b_Mm_enter 17 = .ok (.aload_n 0, 1) := by decide +kernel
theorem d_Mm_enter_18 : decode b_Mm_enter 18 = .ok (.getfield 7, 3) := by decide +kernel
theorem d_Mm_enter_21 : decode b_Mm_enter 21 = .ok (.ifCond .ne 11, 3) := by decide +kernel
theorem d_Mm_enter_24 : decode b_Mm_enter 24 = .ok (.iload_n 1, 1) := by decide +kernel
theorem d_Mm_enter_25 : decode b_Mm_enter 25 = .ok (.iconst 2, 1) := by decide +kernel
theorem d_Mm_enter_26 : decode b_Mm_enter 26 = .ok (.if_icmp .ne 6, 3) := by decide +kernel
theorem d_Mm_enter_29 : decode b_Mm_enter 29 = .ok (.bipush 19, 2) := by decide +kernel
theorem d_Mm_enter_31 : decode b_Mm_enter 31 = .ok (.ireturn, 1) := by decide +kernel
theorem d_Mm_enter_32 : decode b_Mm_enter 32 = .ok (.aload_n 0, 1) := by decide +kernel
theorem d_Mm_enter_33 : decode b_Mm_enter 33 = .ok (.iload_n 1, 1) := by decide +kernel
theorem d_Mm_enter_34 : decode b_Mm_enter 34 = .ok (.invokevirtual 39, 3) := by decide +kernel
theorem d_Mm_enter_37 : decode b_Mm_enter 37 = .ok (.istore_n 2, 1) := by decide +kernel
theorem d_Mm_enter_38 : decode b_Mm_enter 38 = .ok (.iconst 0, 1) := by decide +kernel
theorem d_Mm_enter_39 : decode b_Mm_enter 39 = .ok (.ireturn, 1) := by decide +kernel
theorem d_Mm_becomes_0 : decode b_Mm_becomes 0 = .ok (.iload_n 1, 1) := by decide +kernel
theorem d_Mm_becomes_1 : decode b_Mm_becomes 1 = .ok (.aload_n 0, 1) := by decide +kernel
theorem d_Mm_becomes_2 : decode b_Mm_becomes 2 = .ok (.getfield 7, 3) := by decide +kernel
theorem d_Mm_becomes_5 : decode b_Mm_becomes 5 = .ok (.if_icmp .eq 7, 3) := by decide +kernel
theorem d_Mm_becomes_8 : decode b_Mm_becomes 8 = .ok (.iconst 1, 1) := by decide +kernel
theorem d_Mm_becomes_9 : decode b_Mm_becomes 9 = .ok (.goto 4, 3) := by decide +kernel
theorem d_Mm_becomes_12 : decode b_Mm_becomes 12 = .ok (.iconst 0, 1) := by decide +kernel
theorem d_Mm_becomes_13 : decode b_Mm_becomes 13 = .ok (.istore_n 2, 1) := by decide +kernel
theorem d_Mm_becomes_14 : decode b_Mm_becomes 14 = .ok (.aload_n 0, 1) := by decide +kernel
theorem d_Mm_becomes_15 : decode b_Mm_becomes 15 = .ok (.iload_n 1, 1) := by decide +kernel
theorem d_Mm_becomes_16 : decode b_Mm_becomes 16 = .ok (.putfield 7, 3) := by decide +kernel
theorem d_Mm_becomes_19 : decode b_Mm_becomes 19 = .ok (.aload_n 0, 1) := by decide +kernel
theorem d_Mm_becomes_20 : decode b_Mm_becomes 20 = .ok (.dup, 1) := by decide +kernel
theorem d_Mm_becomes_21 : decode b_Mm_becomes 21 = .ok (.getfield 36, 3) := by decide +kernel
theorem d_Mm_becomes_24 : decode b_Mm_becomes 24 = .ok (.iload_n 2, 1) := by decide +kernel
theorem d_Mm_becomes_25 : decode b_Mm_becomes 25 = .ok (.ifCond .eq 7, 3) := by decide +kernel
theorem d_Mm_becomes_28 : decode b_Mm_becomes 28 = .ok (.iconst 1, 1) := by decide +kernel
theorem d_Mm_becomes_29 : decode b_Mm_becomes 29 = .ok (.goto 4, 3) := by decide +kernel
theorem d_Mm_becomes_32 : decode b_Mm_becomes 32 = .ok (.iconst 0, 1) := by decide +kernel
theorem d_Mm_becomes_33 : decode b_Mm_becomes 33 = .ok (.iadd, 1) := by decide +kernel
theorem d_Mm_becomes_34 : decode b_Mm_becomes 34 = .ok (.putfield 36, 3) := by decide +kernel
theorem d_Mm_becomes_37 : decode b_Mm_becomes 37 = .ok (.iconst 0, 1) := by decide +kernel
theorem d_Mm_becomes_38 : decode b_Mm_becomes 38 = .ok (.istore_n 3, 1) := by decide +kernel
theorem d_Mm_becomes_39 : decode b_Mm_becomes 39 = .ok (.iload_n 3, 1) := by decide +kernel
theorem d_Mm_becomes_40 : decode b_Mm_becomes 40 = .ok (.bipush 8, 2) := by decide +kernel
theorem d_Mm_becomes_42 : decode b_Mm_becomes 42 = .ok (.if_icmp .ge 55, 3) := by decide +kernel
theorem d_Mm_becomes_45 : decode b_Mm_becomes 45 = .ok (.iload_n 2, 1) := by decide +kernel
theorem d_Mm_becomes_46 : decode b_Mm_becomes 46 = .ok (.ifCond .eq 51, 3) := by decide +kernel
theorem d_Mm_becomes_49 : decode b_Mm_becomes 49 = .ok (.iload_n 1, 1) := by decide +kernel
theorem d_Mm_becomes_50 : decode b_Mm_becomes 50 = .ok (.ifCond .ne 47, 3) := by decide +kernel
theorem d_Mm_becomes_53 : decode b_Mm_becomes 53 = .ok (.aload_n 0, 1) := by decide +kernel
theorem d_Mm_becomes_54 : decode b_Mm_becomes 54 = .ok (.getfield 13, 3) := by decide +kernel
theorem d_Mm_becomes_57 : decode b_Mm_becomes 57 = .ok (.iload_n 3, 1) := by decide +kernel
theorem d_Mm_becomes_58 : decode b_Mm_becomes 58 = .ok (.iload_n 3, 1) := by decide +kernel
theorem d_Mm_becomes_59 : decode b_Mm_becomes 59 = .ok (.iconst 4, 1) := by decide +kernel
theorem d_Mm_becomes_60 : decode b_Mm_becomes 60 = .ok (.if_icmp .ge 7, 3) := by decide +kernel
theorem d_Mm_becomes_63 : decode b_Mm_becomes 63 = .ok (.iconst 0, 1) := by decide +kernel
theorem d_Mm_becomes_64 : decode b_Mm_becomes 64 = .ok (.goto 26, 3) := by decide +kernel
theorem d_Mm_becomes_67 : decode b_Mm_becomes 67 = .ok (.iload_n 3, 1) := by decide +kernel
theorem d_Mm_becomes_68 : decode b_Mm_becomes 68 = .ok (.bipush 6, 2) := by decide +kernel
theorem d_Mm_becomes_70 : decode b_Mm_becomes 70 = .ok (.if_icmp .ge 8, 3) := by decide +kernel
theorem d_Mm_becomes_73 : decode b_Mm_becomes 73 = .ok (.bipush 50, 2) := by decide +kernel
theorem d_Mm_becomes_75 : decode b_Mm_becomes 75 = .ok (.goto 15, 3) := by decide +kernel
theorem d_Mm_becomes_78 : decode b_Mm_becomes 78 = .ok (.iload_n 3, 1) := by decide +kernel
theorem d_Mm_becomes_79 : decode b_Mm_becomes 79 = .ok (.bipush 6, 2) := by decide +kernel
theorem d_Mm_becomes_81 : decode b_Mm_becomes 81 = .ok (.if_icmp .ne 8, 3) := by decide +kernel
theorem d_Mm_becomes_84 : decode b_Mm_becomes 84 = .ok (.bipush 100, 2) := by decide +kernel
theorem d_Mm_becomes_86 : decode b_Mm_becomes 86 = .ok (.goto 4, 3) := by decide +kernel
theorem d_Mm_becomes_89 : decode b_Mm_becomes 89 = .ok (.iconst 1, 1) := by decide +kernel
theorem d_Mm_becomes_90 : decode b_Mm_becomes 90 = .ok (.iastore, 1) := by decide +kernel
theorem d_Mm_becomes_91 : decode b_Mm_becomes 91 = .ok (.iinc 3 1, 3) := by decide +kernel
theorem d_Mm_becomes_94 : decode b_Mm_becomes 94 = .ok (.goto (-55), 3) := by decide +kernel
theorem d_Mm_becomes_97 : decode b_Mm_becomes 97 = .ok (.iload_n 2, 1) := by decide +kernel
theorem d_Mm_becomes_98 : decode b_Mm_becomes 98 = .ok (.ireturn, 1) := by decide +kernel
theorem d_Mm_alarm_0 : decode b_Mm_alarm 0 = .ok (.aload_n 0, 1) := by decide +kernel
theorem d_Mm_alarm_1 : decode b_Mm_alarm 1 = .ok (.iconst 0, 1) := by decide +kernel
theorem d_Mm_alarm_2 : decode b_Mm_alarm 2 = .ok (.putfield 33, 3) := by decide +kernel
theorem d_Mm_alarm_5 : decode b_Mm_alarm 5 = .ok (.aload_n 0, 1) := by decide +kernel
theorem d_Mm_alarm_6 : decode b_Mm_alarm 6 = .ok (.getfield 43, 3) := by decide +kernel
theorem d_Mm_alarm_9 : decode b_Mm_alarm 9 = .ok (.ifCond .eq 5, 3) := by decide +kernel
theorem d_Mm_alarm_12 : decode b_Mm_alarm 12 = .ok (.iconst 0, 1) := by decide +kernel
theorem d_Mm_alarm_13 : decode b_Mm_alarm 13 = .ok (.ireturn, 1) := by decide +kernel
theorem d_Mm_alarm_14 : decode b_Mm_alarm 14 = .ok (.aload_n 0, 1) := by decide +kernel
theorem d_Mm_alarm_15 : decode b_Mm_alarm 15 = .ok (.iconst 1, 1) := by decide +kernel
theorem d_Mm_alarm_16 : decode b_Mm_alarm 16 = .ok (.putfield 43, 3) := by decide +kernel
theorem d_Mm_alarm_19 : decode b_Mm_alarm 19 = .ok (.aload_n 0, 1) := by decide +kernel
theorem d_Mm_alarm_20 : decode b_Mm_alarm 20 = .ok (.iload_n 1, 1) := by decide +kernel
theorem d_Mm_alarm_21 : decode b_Mm_alarm 21 = .ok (.putfield 47, 3) := by decide +kernel
theorem d_Mm_alarm_24 : decode b_Mm_alarm 24 = .ok (.iconst 1, 1) := by decide +kernel
theorem d_Mm_alarm_25 : decode b_Mm_alarm 25 = .ok (.ireturn, 1) := by decide +kernel
theorem d_Mm_look_0 : decode b_Mm_look 0 = .ok (.aload_n 0, 1) := by decide +kernel
theorem d_Mm_look_1 : decode b_Mm_look 1 = .ok (.iconst 0, 1) := by decide +kernel
theorem d_Mm_look_2 : decode b_Mm_look 2 = .ok (.putfield 33, 3) := by decide +kernel
theorem d_Mm_look_5 : decode b_Mm_look 5 = .ok (.aload_n 0, 1) := by decide +kernel
theorem d_Mm_look_6 : decode b_Mm_look 6 = .ok (.getfield 43, 3) := by decide +kernel
theorem d_Mm_look_9 : decode b_Mm_look 9 = .ok (.ifCond .eq 11, 3) := by decide +kernel
theorem d_Mm_look_12 : decode b_Mm_look 12 = .ok (.aload_n 0, 1) := by decide +kernel
theorem d_Mm_look_13 : decode b_Mm_look 13 = .ok (.getfield 47, 3) := by decide +kernel
theorem d_Mm_look_16 : decode b_Mm_look 16 = .ok (.iload_n 1, 1) := by decide +kernel
theorem d_Mm_look_17 : decode b_Mm_look 17 = .ok (.if_icmp .le 5, 3) := by decide +kernel
theorem d_Mm_look_20 : decode b_Mm_look 20 = .ok (.iconst 0, 1) := by decide +kernel
theorem d_Mm_look_21 : decode b_Mm_look 21 = .ok (.ireturn, 1) := by decide +kernel
theorem d_Mm_look_22 : decode b_Mm_look 22 = .ok (.aload_n 0, 1) := by decide +kernel
theorem d_Mm_look_23 : decode b_Mm_look 23 = .ok (.iconst 0, 1) := by decide +kernel
theorem d_Mm_look_24 : decode b_Mm_look 24 = .ok (.putfield 43, 3) := by decide +kernel
theorem d_Mm_look_27 : decode b_Mm_look 27 = .ok (.aload_n 0, 1) := by decide +kernel
theorem d_Mm_look_28 : decode b_Mm_look 28 = .ok (.iconst 0, 1) := by decide +kernel
theorem d_Mm_look_29 : decode b_Mm_look 29 = .ok (.invokevirtual 39, 3) := by decide +kernel
theorem d_Mm_look_32 : decode b_Mm_look 32 = .ok (.ireturn, 1) := by decide +kernel
theorem d_Mm_put_0 : decode b_Mm_put 0 = .ok (.aload_n 0, 1) := by decide +kernel
theorem d_Mm_put_1 : decode b_Mm_put 1 = .ok (.iconst 0, 1) := by decide +kernel
theorem d_Mm_put_2 : decode b_Mm_put 2 = .ok (.putfield 33, 3) := by decide +kernel
theorem d_Mm_put_5 : decode b_Mm_put 5 = .ok (.iload_n 1, 1) := by decide +kernel
theorem d_Mm_put_6 : decode b_Mm_put 6 = .ok (.ifCond .lt 18, 3) := by decide +kernel
theorem d_Mm_put_9 : decode b_Mm_put 9 = .ok (.iload_n 1, 1) := by decide +kernel
theorem d_Mm_put_10 : decode b_Mm_put 10 = .ok (.bipush 31, 2) := by decide +kernel
theorem d_Mm_put_12 : decode b_Mm_put 12 = .ok (.if_icmp .gt 12, 3) := by decide +kernel
theorem d_Mm_put_15 : decode b_Mm_put 15 = .ok (.aload_n 0, 1) := by decide +kernel
theorem d_Mm_put_16 : decode b_Mm_put 16 = .ok (.getfield 50, 3) := by decide +kernel
theorem d_Mm_put_19 : decode b_Mm_put 19 = .ok (.bipush 8, 2) := by decide +kernel
theorem d_Mm_put_21 : decode b_Mm_put 21 = .ok (.if_icmp .ne 5, 3) := by decide +kernel
theorem d_Mm_put_24 : decode b_Mm_put 24 = .ok (.iconst (-1), 1) := by decide +kernel
theorem d_Mm_put_25 : decode b_Mm_put 25 = .ok (.ireturn, 1) := by decide +kernel
theorem d_Mm_put_26 : decode b_Mm_put 26 = .ok (.aload_n 0, 1) := by decide +kernel
theorem d_Mm_put_27 : decode b_Mm_put 27 = .ok (.getfield 17, 3) := by decide +kernel
theorem d_Mm_put_30 : decode b_Mm_put 30 = .ok (.aload_n 0, 1) := by decide +kernel
theorem d_Mm_put_31 : decode b_Mm_put 31 = .ok (.getfield 50, 3) := by decide +kernel
theorem d_Mm_put_34 : decode b_Mm_put 34 = .ok (.iload_n 1, 1) := by decide +kernel
theorem d_Mm_put_35 : decode b_Mm_put 35 = .ok (.iastore, 1) := by decide +kernel
theorem d_Mm_put_36 : decode b_Mm_put 36 = .ok (.aload_n 0, 1) := by decide +kernel
theorem d_Mm_put_37 : decode b_Mm_put 37 = .ok (.dup, 1) := by decide +kernel
theorem d_Mm_put_38 : decode b_Mm_put 38 = .ok (.getfield 50, 3) := by decide +kernel
theorem d_Mm_put_41 : decode b_Mm_put 41 = .ok (.iconst 1, 1) := by decide +kernel
theorem d_Mm_put_42 : decode b_Mm_put 42 = .ok (.iadd, 1) := by decide +kernel
theorem d_Mm_put_43 : decode b_Mm_put 43 = .ok (.putfield 50, 3) := by decide +kernel
theorem d_Mm_put_46 : decode b_Mm_put 46 = .ok (.aload_n 0, 1) := by decide +kernel
theorem d_Mm_put_47 : decode b_Mm_put 47 = .ok (.getfield 50, 3) := by decide +kernel
theorem d_Mm_put_50 : decode b_Mm_put 50 = .ok (.ireturn, 1) := by decide +kernel
theorem d_Mm_form_0 : decode b_Mm_form 0 = .ok (.aload_n 0, 1) := by decide +kernel
theorem d_Mm_form_1 : decode b_Mm_form 1 = .ok (.iconst 0, 1) := by decide +kernel
theorem d_Mm_form_2 : decode b_Mm_form 2 = .ok (.putfield 33, 3) := by decide +kernel
theorem d_Mm_form_5 : decode b_Mm_form 5 = .ok (.aload_n 0, 1) := by decide +kernel
theorem d_Mm_form_6 : decode b_Mm_form 6 = .ok (.getfield 50, 3) := by decide +kernel
theorem d_Mm_form_9 : decode b_Mm_form 9 = .ok (.istore_n 3, 1) := by decide +kernel
theorem d_Mm_form_10 : decode b_Mm_form 10 = .ok (.aload_n 0, 1) := by decide +kernel
theorem d_Mm_form_11 : decode b_Mm_form 11 = .ok (.iconst 0, 1) := by decide +kernel
theorem d_Mm_form_12 : decode b_Mm_form 12 = .ok (.putfield 50, 3) := by decide +kernel
theorem d_Mm_form_15 : decode b_Mm_form 15 = .ok (.iload_n 3, 1) := by decide +kernel
theorem d_Mm_form_16 : decode b_Mm_form 16 = .ok (.ifCond .eq 26, 3) := by decide +kernel
theorem d_Mm_form_19 : decode b_Mm_form 19 = .ok (.iload_n 2, 1) := by decide +kernel
theorem d_Mm_form_20 : decode b_Mm_form 20 = .ok (.iconst 1, 1) := by decide +kernel
theorem d_Mm_form_21 : decode b_Mm_form 21 = .ok (.if_icmp .lt 21, 3) := by decide +kernel
theorem d_Mm_form_24 : decode b_Mm_form 24 = .ok (.iload_n 2, 1) := by decide +kernel
theorem d_Mm_form_25 : decode b_Mm_form 25 = .ok (.sipush 255, 3) := by decide +kernel
theorem d_Mm_form_28 : decode b_Mm_form 28 = .ok (.if_icmp .gt 14, 3) := by decide +kernel
theorem d_Mm_form_31 : decode b_Mm_form 31 = .ok (.iload_n 1, 1) := by decide +kernel
theorem d_Mm_form_32 : decode b_Mm_form 32 = .ok (.ifCond .lt 10, 3) := by decide +kernel
theorem d_Mm_form_35 : decode b_Mm_form 35 = .ok (.iload_n 1, 1) := by decide +kernel
theorem d_Mm_form_36 : decode b_Mm_form 36 = .ok (.sipush 255, 3) := by decide +kernel
theorem d_Mm_form_39 : decode b_Mm_form 39 = .ok (.if_icmp .le 6, 3) := by decide +kernel
theorem d_Mm_form_42 : decode b_Mm_form 42 = .ok (.bipush 13, 2) := by decide +kernel
theorem d_Mm_form_44 : decode b_Mm_form 44 = .ok (.ireturn, 1) := by decide +kernel
theorem d_Mm_form_45 : decode b_Mm_form 45 = .ok (.aload_n 0, 1) := by decide +kernel
theorem d_Mm_form_46 : decode b_Mm_form 46 = .ok (.getfield 20, 3) := by decide +kernel
theorem d_Mm_form_49 : decode b_Mm_form 49 = .ok (.iload_n 1, 1) := by decide +kernel
theorem d_Mm_form_50 : decode b_Mm_form 50 = .ok (.iaload, 1) := by decide +kernel
theorem d_Mm_form_51 : decode b_Mm_form 51 = .ok (.ifCond .le 6, 3) := by decide +kernel
theorem d_Mm_form_54 : decode b_Mm_form 54 = .ok (.bipush 11, 2) := by decide +kernel
theorem d_Mm_form_56 : decode b_Mm_form 56 = .ok (.ireturn, 1) := by decide +kernel
theorem d_Mm_form_57 : decode b_Mm_form 57 = .ok (.aload_n 0, 1) := by decide +kernel
theorem d_Mm_form_58 : decode b_Mm_form 58 = .ok (.invokevirtual 53, 3) := by decide +kernel
theorem d_Mm_form_61 : decode b_Mm_form 61 = .ok (.bipush 8, 2) := by decide +kernel
theorem d_Mm_form_63 : decode b_Mm_form 63 = .ok (.if_icmp .ne 6, 3) := by decide +kernel
theorem d_Mm_form_66 : decode b_Mm_form 66 = .ok (.bipush 12, 2) := by decide +kernel
theorem d_Mm_form_68 : decode b_Mm_form 68 = .ok (.ireturn, 1) := by decide +kernel
theorem d_Mm_form_69 : decode b_Mm_form 69 = .ok (.aload_n 0, 1) := by decide +kernel
theorem d_Mm_form_70 : decode b_Mm_form 70 = .ok (.getfield 20, 3) := by decide +kernel
theorem d_Mm_form_73 : decode b_Mm_form 73 = .ok (.iload_n 1, 1) := by decide +kernel
theorem d_Mm_form_74 : decode b_Mm_form 74 = .ok (.iload_n 2, 1) := by decide +kernel
theorem d_Mm_form_75 : decode b_Mm_form 75 = .ok (.iastore, 1) := by decide +kernel
theorem d_Mm_form_76 : decode b_Mm_form 76 = .ok (.aload_n 0, 1) := by decide +kernel
theorem d_Mm_form_77 : decode b_Mm_form 77 = .ok (.getfield 23, 3) := by decide +kernel
theorem d_Mm_form_80 : decode b_Mm_form 80 = .ok (.iload_n 1, 1) := by decide +kernel
theorem d_Mm_form_81 : decode b_Mm_form 81 = .ok (.iconst 0, 1) := by decide +kernel
theorem d_Mm_form_82 : decode b_Mm_form 82 = .ok (.bastore, 1) := by decide +kernel
theorem d_Mm_form_83 : decode b_Mm_form 83 = .ok (.aload_n 0, 1) := by decide +kernel
theorem d_Mm_form_84 : decode b_Mm_form 84 = .ok (.getfield 27, 3) := by decide +kernel
theorem d_Mm_form_87 : decode b_Mm_form 87 = .ok (.iload_n 1, 1) := by decide +kernel
theorem d_Mm_form_88 : decode b_Mm_form 88 = .ok (.iload_n 3, 1) := by decide +kernel
theorem d_Mm_form_89 : decode b_Mm_form 89 = .ok (.iastore, 1) := by decide +kernel
theorem d_Mm_form_90 : decode b_Mm_form 90 = .ok (.iconst 0, 1) := by decide +kernel
theorem d_Mm_form_91 : decode b_Mm_form 91 = .ok (.istore 4, 2) := by decide +kernel
theorem d_Mm_form_93 : decode b_Mm_form 93 = .ok (.iload 4, 2) := by decide +kernel
theorem d_Mm_form_95 : decode b_Mm_form 95 = .ok (.iload_n 3, 1) := by decide +kernel
theorem d_Mm_form_96 : decode b_Mm_form 96 = .ok (.if_icmp .ge 28, 3) := by decide +kernel
theorem d_Mm_form_99 : decode b_Mm_form 99 = .ok (.aload_n 0, 1) := by decide +kernel
theorem d_Mm_form_100 : decode b_Mm_form 100 = .ok (.getfield 30, 3) := by decide +kernel
theorem d_Mm_form_103 : decode b_Mm_form 103 = .ok (.bipush 8, 2) := by decide +kernel
theorem d_Mm_form_105 : decode b_Mm_form 105 = .ok (.iload_n 1, 1) := by decide +kernel
theorem d_Mm_form_106 : decode b_Mm_form 106 = .ok (.imul, 1) := by decide +kernel
theorem d_Mm_form_107 : decode b_Mm_form 107 = .ok (.iload 4, 2) := by decide +kernel
theorem d_Mm_form_109 : decode b_Mm_form 109 = .ok (.iadd, 1) := by decide +kernel
theorem d_Mm_form_110 : decode b_Mm_form 110 = .ok (.aload_n 0, 1) := by decide +kernel
theorem d_Mm_form_111 : decode b_Mm_form 111 = .ok (.getfield 17, 3) := by decide +kernel
theorem d_Mm_form_114 : decode b_Mm_form 114 = .ok (.iload 4, 2) := by decide +kernel
theorem d_Mm_form_116 : decode b_Mm_form 116 = .ok (.iaload, 1) := by decide +kernel
theorem d_Mm_form_117 : decode b_Mm_form 117 = .ok (.iastore, 1) := by decide +kernel
theorem d_Mm_form_118 : decode b_Mm_form 118 = .ok (.iinc 4 1, 3) := by decide +kernel
theorem d_Mm_form_121 : decode b_Mm_form 121 = .ok (.goto (-28), 3) := by decide +kernel
theorem d_Mm_form_124 : decode b_Mm_form 124 = .ok (.iconst 0, 1) := by decide +kernel
theorem d_Mm_form_125 : decode b_Mm_form 125 = .ok (.ireturn, 1) := by decide +kernel
theorem d_Mm_forms_0 : decode b_Mm_forms 0 = .ok (.iconst 0, 1) := by decide +kernel
theorem d_Mm_forms_1 : decode b_Mm_forms 1 = .ok (.istore_n 1, 1) := by decide +kernel
theorem d_Mm_forms_2 : decode b_Mm_forms 2 = .ok (.iconst 0, 1) := by decide +kernel
theorem d_Mm_forms_3 : decode b_Mm_forms 3 = .ok (.istore_n 2, 1) := by decide +kernel
theorem d_Mm_forms_4 : decode b_Mm_forms 4 = .ok (.iload_n 2, 1) := by decide +kernel
theorem d_Mm_forms_5 : decode b_Mm_forms 5 = .ok (.sipush 256, 3) := by decide +kernel
theorem d_Mm_forms_8 : decode b_Mm_forms 8 = .ok (.if_icmp .ge 26, 3) := by decide +kernel
theorem d_Mm_forms_11 : decode b_Mm_forms 11 = .ok (.iload_n 1, 1) := by decide +kernel
theorem d_Mm_forms_12 : decode b_Mm_forms 12 = .ok (.aload_n 0, 1) := by decide +kernel
theorem d_Mm_forms_13 : decode b_Mm_forms 13 = .ok (.getfield 20, 3) := by decide +kernel
theorem d_Mm_forms_16 : decode b_Mm_forms 16 = .ok (.iload_n 2, 1) := by decide +kernel
theorem d_Mm_forms_17 : decode b_Mm_forms 17 = .ok (.iaload, 1) := by decide +kernel
theorem d_Mm_forms_18 : decode b_Mm_forms 18 = .ok (.ifCond .le 7, 3) := by decide +kernel
theorem d_Mm_forms_21 : decode b_Mm_forms 21 = .ok (.iconst 1, 1) := by decide +kernel
theorem d_Mm_forms_22 : decode b_Mm_forms 22 = .ok (.goto 4, 3) := by decide +kernel
theorem d_Mm_forms_25 : decode b_Mm_forms 25 = .ok (.iconst 0, 1) := by decide +kernel
theorem d_Mm_forms_26 : decode b_Mm_forms 26 = .ok (.iadd, 1) := by decide +kernel
theorem d_Mm_forms_27 : decode b_Mm_forms 27 = .ok (.istore_n 1, 1) := by decide +kernel
theorem d_Mm_forms_28 : decode b_Mm_forms 28 = .ok (.iinc 2 1, 3) := by decide +kernel
theorem d_Mm_forms_31 : decode b_Mm_forms 31 = .ok (.goto (-27), 3) := by decide +kernel
theorem d_Mm_forms_34 : decode b_Mm_forms 34 = .ok (.iload_n 1, 1) := by decide +kernel
theorem d_Mm_forms_35 : decode b_Mm_forms 35 = .ok (.ireturn, 1) := by decide +kernel
theorem d_Mm_remove_0 : decode b_Mm_remove 0 = .ok (.aload_n 0, 1) := by decide +kernel
theorem d_Mm_remove_1 : decode b_Mm_remove 1 = .ok (.iconst 0, 1) := by decide +kernel
theorem d_Mm_remove_2 : decode b_Mm_remove 2 = .ok (.putfield 33, 3) := by decide +kernel
theorem d_Mm_remove_5 : decode b_Mm_remove 5 = .ok (.aload_n 0, 1) := by decide +kernel
theorem d_Mm_remove_6 : decode b_Mm_remove 6 = .ok (.iload_n 1, 1) := by decide +kernel
theorem d_Mm_remove_7 : decode b_Mm_remove 7 = .ok (.invokevirtual 57, 3) := by decide +kernel
theorem d_Mm_remove_10 : decode b_Mm_remove 10 = .ok (.ifCond .ne 6, 3) := by decide +kernel
theorem d_Mm_remove_13 : decode b_Mm_remove 13 = .ok (.bipush 14, 2) := by decide +kernel
theorem d_Mm_remove_15 : decode b_Mm_remove 15 = .ok (.ireturn, 1) := by decide +kernel
theorem d_Mm_remove_16 : decode b_Mm_remove 16 = .ok (.aload_n 0, 1) := by decide +kernel
theorem d_Mm_remove_17 : decode b_Mm_remove 17 = .ok (.getfield 23, 3) := by decide +kernel
theorem d_Mm_remove_20 : decode b_Mm_remove 20 = .ok (.iload_n 1, 1) := by decide +kernel
theorem d_Mm_remove_21 : decode b_Mm_remove 21 = .ok (.baload, 1) := by decide +kernel
theorem d_Mm_remove_22 : decode b_Mm_remove 22 = .ok (.ifCond .eq 6, 3) := by decide +kernel
theorem d_Mm_remove_25 : decode b_Mm_remove 25 = .ok (.bipush 15, 2) := by decide +kernel
theorem d_Mm_remove_27 : decode b_Mm_remove 27 = .ok (.ireturn, 1) := by decide +kernel
theorem d_Mm_remove_28 : decode b_Mm_remove 28 = .ok (.aload_n 0, 1) := by decide +kernel
theorem d_Mm_remove_29 : decode b_Mm_remove 29 = .ok (.getfield 20, 3) := by decide +kernel
theorem d_Mm_remove_32 : decode b_Mm_remove 32 = .ok (.iload_n 1, 1) := by decide +kernel
theorem d_Mm_remove_33 : decode b_Mm_remove 33 = .ok (.iconst 0, 1) := by decide +kernel
theorem d_Mm_remove_34 : decode b_Mm_remove 34 = .ok (.iastore, 1) := by decide +kernel
theorem d_Mm_remove_35 : decode b_Mm_remove 35 = .ok (.iconst 0, 1) := by decide +kernel
theorem d_Mm_remove_36 : decode b_Mm_remove 36 = .ok (.ireturn, 1) := by decide +kernel
theorem d_Mm_isThere_0 : decode b_Mm_isThere 0 = .ok (.iload_n 1, 1) := by decide +kernel
theorem d_Mm_isThere_1 : decode b_Mm_isThere 1 = .ok (.ifCond .lt 23, 3) := by decide +kernel
theorem d_Mm_isThere_4 : decode b_Mm_isThere 4 = .ok (.iload_n 1, 1) := by decide +kernel
theorem d_Mm_isThere_5 : decode b_Mm_isThere 5 = .ok (.sipush 256, 3) := by decide +kernel
theorem d_Mm_isThere_8 : decode b_Mm_isThere 8 = .ok (.if_icmp .ge 16, 3) := by decide +kernel
theorem d_Mm_isThere_11 : decode b_Mm_isThere 11 = .ok (.aload_n 0, 1) := by decide +kernel
theorem d_Mm_isThere_12 : decode b_Mm_isThere 12 = .ok (.getfield 20, 3) := by decide +kernel
theorem d_Mm_isThere_15 : decode b_Mm_isThere 15 = .ok (.iload_n 1, 1) := by decide +kernel
theorem d_Mm_isThere_16 : decode b_Mm_isThere 16 = .ok (.iaload, 1) := by decide +kernel
theorem d_Mm_isThere_17 : decode b_Mm_isThere 17 = .ok (.ifCond .le 7, 3) := by decide +kernel
theorem d_Mm_isThere_20 : decode b_Mm_isThere 20 = .ok (.iconst 1, 1) := by decide +kernel
theorem d_Mm_isThere_21 : decode b_Mm_isThere 21 = .ok (.goto 4, 3) := by decide +kernel
theorem d_Mm_isThere_24 : decode b_Mm_isThere 24 = .ok (.iconst 0, 1) := by decide +kernel
theorem d_Mm_isThere_25 : decode b_Mm_isThere 25 = .ok (.ireturn, 1) := by decide +kernel
theorem d_Mm_enable_0 : decode b_Mm_enable 0 = .ok (.aload_n 0, 1) := by decide +kernel
theorem d_Mm_enable_1 : decode b_Mm_enable 1 = .ok (.iconst 0, 1) := by decide +kernel
theorem d_Mm_enable_2 : decode b_Mm_enable 2 = .ok (.putfield 33, 3) := by decide +kernel
theorem d_Mm_enable_5 : decode b_Mm_enable 5 = .ok (.aload_n 0, 1) := by decide +kernel
theorem d_Mm_enable_6 : decode b_Mm_enable 6 = .ok (.iload_n 1, 1) := by decide +kernel
theorem d_Mm_enable_7 : decode b_Mm_enable 7 = .ok (.invokevirtual 57, 3) := by decide +kernel
theorem d_Mm_enable_10 : decode b_Mm_enable 10 = .ok (.ifCond .ne 6, 3) := by decide +kernel
theorem d_Mm_enable_13 : decode b_Mm_enable 13 = .ok (.bipush 14, 2) := by decide +kernel
theorem d_Mm_enable_15 : decode b_Mm_enable 15 = .ok (.ireturn, 1) := by decide +kernel
theorem d_Mm_enable_16 : decode b_Mm_enable 16 = .ok (.aload_n 0, 1) := by decide +kernel
theorem d_Mm_enable_17 : decode b_Mm_enable 17 = .ok (.getfield 23, 3) := by decide +kernel
theorem d_Mm_enable_20 : decode b_Mm_enable 20 = .ok (.iload_n 1, 1) := by decide +kernel
theorem d_Mm_enable_21 : decode b_Mm_enable 21 = .ok (.iload_n 2, 1) := by decide +kernel
theorem d_Mm_enable_22 : decode b_Mm_enable 22 = .ok (.bastore, 1) := by decide +kernel
theorem d_Mm_enable_23 : decode b_Mm_enable 23 = .ok (.iconst 0, 1) := by decide +kernel
theorem d_Mm_enable_24 : decode b_Mm_enable 24 = .ok (.ireturn, 1) := by decide +kernel
theorem d_Mm_due_0 : decode b_Mm_due 0 = .ok (.aload_n 0, 1) := by decide +kernel
theorem d_Mm_due_1 : decode b_Mm_due 1 = .ok (.iconst 0, 1) := by decide +kernel
theorem d_Mm_due_2 : decode b_Mm_due 2 = .ok (.putfield 33, 3) := by decide +kernel
theorem d_Mm_due_5 : decode b_Mm_due 5 = .ok (.iconst (-1), 1) := by decide +kernel
theorem d_Mm_due_6 : decode b_Mm_due 6 = .ok (.istore_n 3, 1) := by decide +kernel
theorem d_Mm_due_7 : decode b_Mm_due 7 = .ok (.sipush 255, 3) := by decide +kernel
theorem d_Mm_due_10 : decode b_Mm_due 10 = .ok (.istore 4, 2) := by decide +kernel
theorem d_Mm_due_12 : decode b_Mm_due 12 = .ok (.iload 4, 2) := by decide +kernel
theorem d_Mm_due_14 : decode b_Mm_due 14 = .ok (.ifCond .lt 54, 3) := by decide +kernel
theorem d_Mm_due_17 : decode b_Mm_due 17 = .ok (.iload 4, 2) := by decide +kernel
theorem d_Mm_due_19 : decode b_Mm_due 19 = .ok (.iload_n 2, 1) := by decide +kernel
theorem d_Mm_due_20 : decode b_Mm_due 20 = .ok (.if_icmp .lt 48, 3) := by decide +kernel
theorem d_Mm_due_23 : decode b_Mm_due 23 = .ok (.aload_n 0, 1) := by decide +kernel
theorem d_Mm_due_24 : decode b_Mm_due 24 = .ok (.getfield 20, 3) := by decide +kernel
theorem d_Mm_due_27 : decode b_Mm_due 27 = .ok (.iload 4, 2) := by decide +kernel
theorem d_Mm_due_29 : decode b_Mm_due 29 = .ok (.iaload, 1) := by decide +kernel
theorem d_Mm_due_30 : decode b_Mm_due 30 = .ok (.ifCond .le 30, 3) := by decide +kernel
theorem d_Mm_due_33 : decode b_Mm_due 33 = .ok (.aload_n 0, 1) := by decide +kernel
theorem d_Mm_due_34 : decode b_Mm_due 34 = .ok (.getfield 23, 3) := by decide +kernel
theorem d_Mm_due_37 : decode b_Mm_due 37 = .ok (.iload 4, 2) := by decide +kernel
theorem d_Mm_due_39 : decode b_Mm_due 39 = .ok (.baload, 1) := by decide +kernel
theorem d_Mm_due_40 : decode b_Mm_due 40 = .ok (.ifCond .eq 20, 3) := by decide +kernel
theorem d_Mm_due_43 : decode b_Mm_due 43 = .ok (.iload_n 1, 1) := by decide +kernel
theorem d_Mm_due_44 : decode b_Mm_due 44 = .ok (.aload_n 0, 1) := by decide +kernel
theorem d_Mm_due_45 : decode b_Mm_due 45 = .ok (.getfield 20, 3) := by decide +kernel
theorem d_Mm_due_48 : decode b_Mm_due 48 = .ok (.iload 4, 2) := by decide +kernel
theorem d_Mm_due_50 : decode b_Mm_due 50 = .ok (.iaload, 1) := by decide +kernel
theorem d_Mm_due_51 : decode b_Mm_due 51 = .ok (.irem, 1) := by decide +kernel
theorem d_Mm_due_52 : decode b_Mm_due 52 = .ok (.ifCond .ne 8, 3) := by decide +kernel
theorem d_Mm_due_55 : decode b_Mm_due 55 = .ok (.iload 4, 2) := by decide +kernel
theorem d_Mm_due_57 : decode b_Mm_due 57 = .ok (.goto 4, 3) := by decide +kernel
theorem d_Mm_due_60 : decode b_Mm_due 60 = .ok (.iload_n 3, 1) := by decide +kernel
theorem d_Mm_due_61 : decode b_Mm_due 61 = .ok (.istore_n 3, 1) := by decide +kernel
theorem d_Mm_due_62 : decode b_Mm_due 62 = .ok (.iinc 4 (-1), 3) := by decide +kernel
theorem d_Mm_due_65 : decode b_Mm_due 65 = .ok (.goto (-53), 3) := by decide +kernel
theorem d_Mm_due_68 : decode b_Mm_due 68 = .ok (.iload_n 3, 1) := by decide +kernel
theorem d_Mm_due_69 : decode b_Mm_due 69 = .ok (.ireturn, 1) := by decide +kernel
theorem d_Mm_parameter_0 : decode b_Mm_parameter 0 = .ok (.aload_n 0, 1) := by decide +kernel
theorem d_Mm_parameter_1 : decode b_Mm_parameter 1 = .ok (.iconst 0, 1) := by decide +kernel
theorem d_Mm_parameter_2 : decode b_Mm_parameter 2 = .ok (.putfield 33, 3) := by decide +kernel
theorem d_Mm_parameter_5 : decode b_Mm_parameter 5 = .ok (.aload_n 0, 1) := by decide +kernel
theorem d_Mm_parameter_6 : decode b_Mm_parameter 6 = .ok (.iload_n 1, 1) := by decide +kernel
theorem d_Mm_parameter_7 : decode b_Mm_parameter 7 = .ok (.invokevirtual 57, 3) := by decide +kernel
theorem d_Mm_parameter_10 : decode b_Mm_parameter 10 = .ok (.ifCond .eq 18, 3) := by decide +kernel
theorem d_Mm_parameter_13 : decode b_Mm_parameter 13 = .ok (.iload_n 2, 1) := by decide +kernel
theorem d_Mm_parameter_14 : decode b_Mm_parameter 14 = .ok (.iconst (-1), 1) := by decide +kernel
theorem d_Mm_parameter_15 : decode b_Mm_parameter 15 = .ok (.if_icmp .lt 13, 3) := by decide +kernel
theorem d_Mm_parameter_18 : decode b_Mm_parameter 18 = .ok (.iload_n 2, 1) := by decide +kernel
theorem d_Mm_parameter_19 : decode b_Mm_parameter 19 = .ok (.aload_n 0, 1) := by decide +kernel
theorem d_Mm_parameter_20 : decode b_Mm_parameter 20 = .ok (.getfield 27, 3) := by decide +kernel
theorem d_Mm_parameter_23 : decode b_Mm_parameter 23 = .ok (.iload_n 1, 1) := by decide +kernel
theorem d_Mm_parameter_24 : decode b_Mm_parameter 24 = .ok (.iaload, 1) := by decide +kernel
theorem d_Mm_parameter_25 : decode b_Mm_parameter 25 = .ok (.if_icmp .lt 5, 3) := by decide +kernel
theorem d_Mm_parameter_28 : decode b_Mm_parameter 28 = .ok (.iconst (-1), 1) := by decide +kernel
theorem d_Mm_parameter_29 : decode b_Mm_parameter 29 = .ok (.ireturn, 1) := by decide +kernel
theorem d_Mm_parameter_30 : decode b_Mm_parameter 30 = .ok (.iload_n 2, 1) := by decide +kernel
theorem d_Mm_parameter_31 : decode b_Mm_parameter 31 = .ok (.ifCond .ge 12, 3) := by decide +kernel
theorem d_Mm_parameter_34 : decode b_Mm_parameter 34 = .ok (.aload_n 0, 1) := by decide +kernel
theorem d_Mm_parameter_35 : decode b_Mm_parameter 35 = .ok (.getfield 27, 3) := by decide +kernel
theorem d_Mm_parameter_38 : decode b_Mm_parameter 38 = .ok (.iload_n 1, 1) := by decide +kernel
theorem d_Mm_parameter_39 : decode b_Mm_parameter 39 = .ok (.iaload, 1) := by decide +kernel
theorem d_Mm_parameter_40 : decode b_Mm_parameter 40 = .ok (.goto 14, 3) := by decide +kernel
theorem d_Mm_parameter_43 : decode b_Mm_parameter 43 = .ok (.aload_n 0, 1) := by decide +kernel
theorem d_Mm_parameter_44 : decode b_Mm_parameter 44 = .ok (.getfield 30, 3) := by decide +kernel
theorem d_Mm_parameter_47 : decode b_Mm_parameter 47 = .ok (.bipush 8, 2) := by decide +kernel
theorem d_Mm_parameter_49 : decode b_Mm_parameter 49 = .ok (.iload_n 1, 1) := by decide +kernel
theorem d_Mm_parameter_50 : decode b_Mm_parameter 50 = .ok (.imul, 1) := by decide +kernel
theorem d_Mm_parameter_51 : decode b_Mm_parameter 51 = .ok (.iload_n 2, 1) := by decide +kernel
theorem d_Mm_parameter_52 : decode b_Mm_parameter 52 = .ok (.iadd, 1) := by decide +kernel
theorem d_Mm_parameter_53 : decode b_Mm_parameter 53 = .ok (.iaload, 1) := by decide +kernel
theorem d_Mm_parameter_54 : decode b_Mm_parameter 54 = .ok (.ireturn, 1) := by decide +kernel
theorem d_Mm_value_0 : decode b_Mm_value 0 = .ok (.aload_n 0, 1) := by decide +kernel
theorem d_Mm_value_1 : decode b_Mm_value 1 = .ok (.iconst 0, 1) := by decide +kernel
theorem d_Mm_value_2 : decode b_Mm_value 2 = .ok (.putfield 33, 3) := by decide +kernel
theorem d_Mm_value_5 : decode b_Mm_value 5 = .ok (.iload_n 1, 1) := by decide +kernel
theorem d_Mm_value_6 : decode b_Mm_value 6 = .ok (.ifCond .lt 16, 3) := by decide +kernel
theorem d_Mm_value_9 : decode b_Mm_value 9 = .ok (.iload_n 1, 1) := by decide +kernel
theorem d_Mm_value_10 : decode b_Mm_value 10 = .ok (.bipush 8, 2) := by decide +kernel
theorem d_Mm_value_12 : decode b_Mm_value 12 = .ok (.if_icmp .ge 10, 3) := by decide +kernel
theorem d_Mm_value_15 : decode b_Mm_value 15 = .ok (.aload_n 0, 1) := by decide +kernel
theorem d_Mm_value_16 : decode b_Mm_value 16 = .ok (.getfield 13, 3) := by decide +kernel
theorem d_Mm_value_19 : decode b_Mm_value 19 = .ok (.iload_n 1, 1) := by decide +kernel
theorem d_Mm_value_20 : decode b_Mm_value 20 = .ok (.iaload, 1) := by decide +kernel
theorem d_Mm_value_21 : decode b_Mm_value 21 = .ok (.ireturn, 1) := by decide +kernel
theorem d_Mm_value_22 : decode b_Mm_value 22 = .ok (.iload_n 1, 1) := by decide +kernel
theorem d_Mm_value_23 : decode b_Mm_value 23 = .ok (.bipush 8, 2) := by decide +kernel
theorem d_Mm_value_25 : decode b_Mm_value 25 = .ok (.if_icmp .ne 10, 3) := by decide +kernel
theorem d_Mm_value_28 : decode b_Mm_value 28 = .ok (.aload_n 0, 1) := by decide +kernel
theorem d_Mm_value_29 : decode b_Mm_value 29 = .ok (.getfield 7, 3) := by decide +kernel
theorem d_Mm_value_32 : decode b_Mm_value 32 = .ok (.goto 54, 3) := by decide +kernel
theorem d_Mm_value_35 : decode b_Mm_value 35 = .ok (.iload_n 1, 1) := by decide +kernel
theorem d_Mm_value_36 : decode b_Mm_value 36 = .ok (.bipush 9, 2) := by decide +kernel
theorem d_Mm_value_38 : decode b_Mm_value 38 = .ok (.if_icmp .ne 21, 3) := by decide +kernel
theorem d_Mm_value_41 : decode b_Mm_value 41 = .ok (.aload_n 0, 1) := by decide +kernel
theorem d_Mm_value_42 : decode b_Mm_value 42 = .ok (.getfield 43, 3) := by decide +kernel
theorem d_Mm_value_45 : decode b_Mm_value 45 = .ok (.ifCond .eq 10, 3) := by decide +kernel
theorem d_Mm_value_48 : decode b_Mm_value 48 = .ok (.aload_n 0, 1) := by decide +kernel
theorem d_Mm_value_49 : decode b_Mm_value 49 = .ok (.getfield 47, 3) := by decide +kernel
theorem d_Mm_value_52 : decode b_Mm_value 52 = .ok (.goto 34, 3) := by decide +kernel
theorem d_Mm_value_55 : decode b_Mm_value 55 = .ok (.iconst (-1), 1) := by decide +kernel
theorem d_Mm_value_56 : decode b_Mm_value 56 = .ok (.goto 30, 3) := by decide +kernel
theorem d_Mm_value_59 : decode b_Mm_value 59 = .ok (.iload_n 1, 1) := by decide +kernel
theorem d_Mm_value_60 : decode b_Mm_value 60 = .ok (.bipush 10, 2) := by decide +kernel
theorem d_Mm_value_62 : decode b_Mm_value 62 = .ok (.if_icmp .ne 10, 3) := by decide +kernel
theorem d_Mm_value_65 : decode b_Mm_value 65 = .ok (.aload_n 0, 1) := by decide +kernel
theorem d_Mm_value_66 : decode b_Mm_value 66 = .ok (.getfield 36, 3) := by decide +kernel
theorem d_Mm_value_69 : decode b_Mm_value 69 = .ok (.goto 17, 3) := by decide +kernel
theorem d_Mm_value_72 : decode b_Mm_value 72 = .ok (.iload_n 1, 1) := by decide +kernel
theorem d_Mm_value_73 : decode b_Mm_value 73 = .ok (.bipush 11, 2) := by decide +kernel
theorem d_Mm_value_75 : decode b_Mm_value 75 = .ok (.if_icmp .ne 10, 3) := by decide +kernel
theorem d_Mm_value_78 : decode b_Mm_value 78 = .ok (.aload_n 0, 1) := by decide +kernel
theorem d_Mm_value_79 : decode b_Mm_value 79 = .ok (.invokevirtual 53, 3) := by decide +kernel
theorem d_Mm_value_82 : decode b_Mm_value 82 = .ok (.goto 4, 3) := by decide +kernel
theorem d_Mm_value_85 : decode b_Mm_value 85 = .ok (.iconst 0, 1) := by decide +kernel
theorem d_Mm_value_86 : decode b_Mm_value 86 = .ok (.ireturn, 1) := by decide +kernel
theorem d_Mm_about_0 : decode b_Mm_about 0 = .ok (.aload_n 0, 1) := by decide +kernel
theorem d_Mm_about_1 : decode b_Mm_about 1 = .ok (.iconst 0, 1) := by decide +kernel
theorem d_Mm_about_2 : decode b_Mm_about 2 = .ok (.putfield 33, 3) := by decide +kernel
theorem d_Mm_about_5 : decode b_Mm_about 5 = .ok (.aload_n 0, 1) := by decide +kernel
theorem d_Mm_about_6 : decode b_Mm_about 6 = .ok (.iload_n 1, 1) := by decide +kernel
theorem d_Mm_about_7 : decode b_Mm_about 7 = .ok (.invokevirtual 57, 3) := by decide +kernel
theorem d_Mm_about_10 : decode b_Mm_about 10 = .ok (.ifCond .ne 7, 3) := by decide +kernel
theorem d_Mm_about_13 : decode b_Mm_about 13 = .ok (.iconst (-1), 1) := by decide +kernel
theorem d_Mm_about_14 : decode b_Mm_about 14 = .ok (.goto 39, 3) := by decide +kernel
theorem d_Mm_about_17 : decode b_Mm_about 17 = .ok (.iload_n 2, 1) := by decide +kernel
theorem d_Mm_about_18 : decode b_Mm_about 18 = .ok (.ifCond .ne 12, 3) := by decide +kernel
theorem d_Mm_about_21 : decode b_Mm_about 21 = .ok (.aload_n 0, 1) := by decide +kernel
theorem d_Mm_about_22 : decode b_Mm_about 22 = .ok (.getfield 20, 3) := by decide +kernel
theorem d_Mm_about_25 : decode b_Mm_about 25 = .ok (.iload_n 1, 1) := by decide +kernel
theorem d_Mm_about_26 : decode b_Mm_about 26 = .ok (.iaload, 1) := by decide +kernel
theorem d_Mm_about_27 : decode b_Mm_about 27 = .ok (.goto 26, 3) := by decide +kernel
theorem d_Mm_about_30 : decode b_Mm_about 30 = .ok (.iload_n 2, 1) := by decide +kernel
theorem d_Mm_about_31 : decode b_Mm_about 31 = .ok (.iconst 1, 1) := by decide +kernel
theorem d_Mm_about_32 : decode b_Mm_about 32 = .ok (.if_icmp .ne 20, 3) := by decide +kernel
theorem d_Mm_about_35 : decode b_Mm_about 35 = .ok (.aload_n 0, 1) := by decide +kernel
theorem d_Mm_about_36 : decode b_Mm_about 36 = .ok (.getfield 23, 3) := by decide +kernel
theorem d_Mm_about_39 : decode b_Mm_about 39 = .ok (.iload_n 1, 1) := by decide +kernel
theorem d_Mm_about_40 : decode b_Mm_about 40 = .ok (.baload, 1) := by decide +kernel
theorem d_Mm_about_41 : decode b_Mm_about 41 = .ok (.ifCond .eq 7, 3) := by decide +kernel
theorem d_Mm_about_44 : decode b_Mm_about 44 = .ok (.iconst 1, 1) := by decide +kernel
theorem d_Mm_about_45 : decode b_Mm_about 45 = .ok (.goto 8, 3) := by decide +kernel
theorem d_Mm_about_48 : decode b_Mm_about 48 = .ok (.iconst 0, 1) := by decide +kernel
theorem d_Mm_about_49 : decode b_Mm_about 49 = .ok (.goto 4, 3) := by decide +kernel
theorem d_Mm_about_52 : decode b_Mm_about 52 = .ok (.iconst (-1), 1) := by decide +kernel
theorem d_Mm_about_53 : decode b_Mm_about 53 = .ok (.ireturn, 1) := by decide +kernel
end
section
theorem d_law_0 : decode code 0 = .ok (.new 7, 3) := by decide +kernel
theorem d_law_3 : decode code 3 = .ok (.dup, 1) := by decide +kernel
theorem d_law_4 : decode code 4 = .ok (.invokespecial 9, 3) := by decide +kernel
theorem d_law_7 : decode code 7 = .ok (.astore_n 1, 1) := by decide +kernel
theorem d_law_8 : decode code 8 = .ok (.new 10, 3) := by decide +kernel
theorem d_law_11 : decode code 11 = .ok (.dup, 1) := by decide +kernel
theorem d_law_12 : decode code 12 = .ok (.invokespecial 12, 3) := by decide +kernel
theorem d_law_15 : decode code 15 = .ok (.astore_n 2, 1) := by decide +kernel
theorem d_law_16 : decode code 16 = .ok (.iconst 0, 1) := by decide +kernel
theorem d_law_17 : decode code 17 = .ok (.istore_n 3, 1) := by decide +kernel
theorem d_law_18 : decode code 18 = .ok (.iload_n 3, 1) := by decide +kernel
theorem d_law_19 : decode code 19 = .ok (.aload_n 0, 1) := by decide +kernel
theorem d_law_20 : decode code 20 = .ok (.arraylength, 1) := by decide +kernel
theorem d_law_21 : decode code 21 = .ok (.iconst 3, 1) := by decide +kernel
theorem d_law_22 : decode code 22 = .ok (.isub, 1) := by decide +kernel
theorem d_law_23 : decode code 23 = .ok (.if_icmp .gt 431, 3) := by decide +kernel
theorem d_law_26 : decode code 26 = .ok (.aload_n 0, 1) := by decide +kernel
theorem d_law_27 : decode code 27 = .ok (.iload_n 3, 1) := by decide +kernel
theorem d_law_28 : decode code 28 = .ok (.iaload, 1) := by decide +kernel
theorem d_law_29 : decode code 29 = .ok (.bipush 15, 2) := by decide +kernel
theorem d_law_31 : decode code 31 = .ok (.iand, 1) := by decide +kernel
theorem d_law_32 : decode code 32 = .ok (.tableswitch 416 0 11 #[64, 97, 120, 143, 166, 189, 222, 245, 294, 327, 360, 383], 64) := by decide +kernel
theorem d_law_96 : decode code 96 = .ok (.aload_n 1, 1) := by decide +kernel
theorem d_law_97 : decode code 97 = .ok (.aload_n 0, 1) := by decide +kernel
theorem d_law_98 : decode code 98 = .ok (.iload_n 3, 1) := by decide +kernel
theorem d_law_99 : decode code 99 = .ok (.iconst 1, 1) := by decide +kernel
theorem d_law_100 : decode code 100 = .ok (.iadd, 1) := by decide +kernel
theorem d_law_101 : decode code 101 = .ok (.iaload, 1) := by decide +kernel
theorem d_law_102 : decode code 102 = .ok (.aload_n 0, 1) := by decide +kernel
theorem d_law_103 : decode code 103 = .ok (.iload_n 3, 1) := by decide +kernel
theorem d_law_104 : decode code 104 = .ok (.iconst 2, 1) := by decide +kernel
theorem d_law_105 : decode code 105 = .ok (.iadd, 1) := by decide +kernel
theorem d_law_106 : decode code 106 = .ok (.iaload, 1) := by decide +kernel
theorem d_law_107 : decode code 107 = .ok (.invokevirtual 13, 3) := by decide +kernel
theorem d_law_110 : decode code 110 = .ok (.aload_n 2, 1) := by decide +kernel
theorem d_law_111 : decode code 111 = .ok (.aload_n 0, 1) := by decide +kernel
theorem d_law_112 : decode code 112 = .ok (.iload_n 3, 1) := by decide +kernel
theorem d_law_113 : decode code 113 = .ok (.iconst 1, 1) := by decide +kernel
theorem d_law_114 : decode code 114 = .ok (.iadd, 1) := by decide +kernel
theorem d_law_115 : decode code 115 = .ok (.iaload, 1) := by decide +kernel
theorem d_law_116 : decode code 116 = .ok (.aload_n 0, 1) := by decide +kernel
theorem d_law_117 : decode code 117 = .ok (.iload_n 3, 1) := by decide +kernel
theorem d_law_118 : decode code 118 = .ok (.iconst 2, 1) := by decide +kernel
theorem d_law_119 : decode code 119 = .ok (.iadd, 1) := by decide +kernel
theorem d_law_120 : decode code 120 = .ok (.iaload, 1) := by decide +kernel
theorem d_law_121 : decode code 121 = .ok (.invokevirtual 17, 3) := by decide +kernel
theorem d_law_124 : decode code 124 = .ok (.if_icmp .eq 324, 3) := by decide +kernel
theorem d_law_127 : decode code 127 = .ok (.iconst 0, 1) := by decide +kernel
theorem d_law_128 : decode code 128 = .ok (.ireturn, 1) := by decide +kernel
theorem d_law_129 : decode code 129 = .ok (.aload_n 1, 1) := by decide +kernel
theorem d_law_130 : decode code 130 = .ok (.aload_n 0, 1) := by decide +kernel
theorem d_law_131 : decode code 131 = .ok (.iload_n 3, 1) := by decide +kernel
theorem d_law_132 : decode code 132 = .ok (.iconst 1, 1) := by decide +kernel
theorem d_law_133 : decode code 133 = .ok (.iadd, 1) := by decide +kernel
theorem d_law_134 : decode code 134 = .ok (.iaload, 1) := by decide +kernel
theorem d_law_135 : decode code 135 = .ok (.invokevirtual 18, 3) := by decide +kernel
theorem d_law_138 : decode code 138 = .ok (.aload_n 2, 1) := by decide +kernel
theorem d_law_139 : decode code 139 = .ok (.aload_n 0, 1) := by decide +kernel
theorem d_law_140 : decode code 140 = .ok (.iload_n 3, 1) := by decide +kernel
theorem d_law_141 : decode code 141 = .ok (.iconst 1, 1) := by decide +kernel
theorem d_law_142 : decode code 142 = .ok (.iadd, 1) := by decide +kernel
theorem d_law_143 : decode code 143 = .ok (.iaload, 1) := by decide +kernel
theorem d_law_144 : decode code 144 = .ok (.invokevirtual 22, 3) := by decide +kernel
theorem d_law_147 : decode code 147 = .ok (.if_icmp .eq 301, 3) := by decide +kernel
theorem d_law_150 : decode code 150 = .ok (.iconst 0, 1) := by decide +kernel
theorem d_law_151 : decode code 151 = .ok (.ireturn, 1) := by decide +kernel
theorem d_law_152 : decode code 152 = .ok (.aload_n 1, 1) := by decide +kernel
theorem d_law_153 : decode code 153 = .ok (.aload_n 0, 1) := by decide +kernel
theorem d_law_154 : decode code 154 = .ok (.iload_n 3, 1) := by decide +kernel
theorem d_law_155 : decode code 155 = .ok (.iconst 1, 1) := by decide +kernel
theorem d_law_156 : decode code 156 = .ok (.iadd, 1) := by decide +kernel
theorem d_law_157 : decode code 157 = .ok (.iaload, 1) := by decide +kernel
theorem d_law_158 : decode code 158 = .ok (.invokevirtual 23, 3) := by decide +kernel
theorem d_law_161 : decode code 161 = .ok (.aload_n 2, 1) := by decide +kernel
theorem d_law_162 : decode code 162 = .ok (.aload_n 0, 1) := by decide +kernel
theorem d_law_163 : decode code 163 = .ok (.iload_n 3, 1) := by decide +kernel
theorem d_law_164 : decode code 164 = .ok (.iconst 1, 1) := by decide +kernel
theorem d_law_165 : decode code 165 = .ok (.iadd, 1) := by decide +kernel
theorem d_law_166 : decode code 166 = .ok (.iaload, 1) := by decide +kernel
theorem d_law_167 : decode code 167 = .ok (.invokevirtual 27, 3) := by decide +kernel
theorem d_law_170 : decode code 170 = .ok (.if_icmp .eq 278, 3) := by decide +kernel
theorem d_law_173 : decode code 173 = .ok (.iconst 0, 1) := by decide +kernel
theorem d_law_174 : decode code 174 = .ok (.ireturn, 1) := by decide +kernel
theorem d_law_175 : decode code 175 = .ok (.aload_n 1, 1) := by decide +kernel
theorem d_law_176 : decode code 176 = .ok (.aload_n 0, 1) := by decide +kernel
theorem d_law_177 : decode code 177 = .ok (.iload_n 3, 1) := by decide +kernel
theorem d_law_178 : decode code 178 = .ok (.iconst 1, 1) := by decide +kernel
theorem d_law_179 : decode code 179 = .ok (.iadd, 1) := by decide +kernel
theorem d_law_180 : decode code 180 = .ok (.iaload, 1) := by decide +kernel
theorem d_law_181 : decode code 181 = .ok (.invokevirtual 28, 3) := by decide +kernel
theorem d_law_184 : decode code 184 = .ok (.aload_n 2, 1) := by decide +kernel
theorem d_law_185 : decode code 185 = .ok (.aload_n 0, 1) := by decide +kernel
theorem d_law_186 : decode code 186 = .ok (.iload_n 3, 1) := by decide +kernel
theorem d_law_187 : decode code 187 = .ok (.iconst 1, 1) := by decide +kernel
theorem d_law_188 : decode code 188 = .ok (.iadd, 1) := by decide +kernel
theorem d_law_189 : decode code 189 = .ok (.iaload, 1) := by decide +kernel
theorem d_law_190 : decode code 190 = .ok (.invokevirtual 31, 3) := by decide +kernel
theorem d_law_193 : decode code 193 = .ok (.if_icmp .eq 255, 3) := by decide +kernel
theorem d_law_196 : decode code 196 = .ok (.iconst 0, 1) := by decide +kernel
theorem d_law_197 : decode code 197 = .ok (.ireturn, 1) := by decide +kernel
theorem d_law_198 : decode code 198 = .ok (.aload_n 1, 1) := by decide +kernel
theorem d_law_199 : decode code 199 = .ok (.aload_n 0, 1) := by decide +kernel
theorem d_law_200 : decode code 200 = .ok (.iload_n 3, 1) := by decide +kernel
theorem d_law_201 : decode code 201 = .ok (.iconst 1, 1) := by decide +kernel
theorem d_law_202 : decode code 202 = .ok (.iadd, 1) := by decide +kernel
theorem d_law_203 : decode code 203 = .ok (.iaload, 1) := by decide +kernel
theorem d_law_204 : decode code 204 = .ok (.invokevirtual 32, 3) := by decide +kernel
theorem d_law_207 : decode code 207 = .ok (.aload_n 2, 1) := by decide +kernel
theorem d_law_208 : decode code 208 = .ok (.aload_n 0, 1) := by decide +kernel
theorem d_law_209 : decode code 209 = .ok (.iload_n 3, 1) := by decide +kernel
theorem d_law_210 : decode code 210 = .ok (.iconst 1, 1) := by decide +kernel
theorem d_law_211 : decode code 211 = .ok (.iadd, 1) := by decide +kernel
theorem d_law_212 : decode code 212 = .ok (.iaload, 1) := by decide +kernel
theorem d_law_213 : decode code 213 = .ok (.invokevirtual 35, 3) := by decide +kernel
theorem d_law_216 : decode code 216 = .ok (.if_icmp .eq 232, 3) := by decide +kernel
theorem d_law_219 : decode code 219 = .ok (.iconst 0, 1) := by decide +kernel
theorem d_law_220 : decode code 220 = .ok (.ireturn, 1) := by decide +kernel
theorem d_law_221 : decode code 221 = .ok (.aload_n 1, 1) := by decide +kernel
theorem d_law_222 : decode code 222 = .ok (.aload_n 0, 1) := by decide +kernel
theorem d_law_223 : decode code 223 = .ok (.iload_n 3, 1) := by decide +kernel
theorem d_law_224 : decode code 224 = .ok (.iconst 1, 1) := by decide +kernel
theorem d_law_225 : decode code 225 = .ok (.iadd, 1) := by decide +kernel
theorem d_law_226 : decode code 226 = .ok (.iaload, 1) := by decide +kernel
theorem d_law_227 : decode code 227 = .ok (.aload_n 0, 1) := by decide +kernel
theorem d_law_228 : decode code 228 = .ok (.iload_n 3, 1) := by decide +kernel
theorem d_law_229 : decode code 229 = .ok (.iconst 2, 1) := by decide +kernel
theorem d_law_230 : decode code 230 = .ok (.iadd, 1) := by decide +kernel
theorem d_law_231 : decode code 231 = .ok (.iaload, 1) := by decide +kernel
theorem d_law_232 : decode code 232 = .ok (.invokevirtual 36, 3) := by decide +kernel
theorem d_law_235 : decode code 235 = .ok (.aload_n 2, 1) := by decide +kernel
theorem d_law_236 : decode code 236 = .ok (.aload_n 0, 1) := by decide +kernel
theorem d_law_237 : decode code 237 = .ok (.iload_n 3, 1) := by decide +kernel
theorem d_law_238 : decode code 238 = .ok (.iconst 1, 1) := by decide +kernel
theorem d_law_239 : decode code 239 = .ok (.iadd, 1) := by decide +kernel
theorem d_law_240 : decode code 240 = .ok (.iaload, 1) := by decide +kernel
theorem d_law_241 : decode code 241 = .ok (.aload_n 0, 1) := by decide +kernel
theorem d_law_242 : decode code 242 = .ok (.iload_n 3, 1) := by decide +kernel
theorem d_law_243 : decode code 243 = .ok (.iconst 2, 1) := by decide +kernel
theorem d_law_244 : decode code 244 = .ok (.iadd, 1) := by decide +kernel
theorem d_law_245 : decode code 245 = .ok (.iaload, 1) := by decide +kernel
theorem d_law_246 : decode code 246 = .ok (.invokevirtual 39, 3) := by decide +kernel
theorem d_law_249 : decode code 249 = .ok (.if_icmp .eq 199, 3) := by decide +kernel
theorem d_law_252 : decode code 252 = .ok (.iconst 0, 1) := by decide +kernel
theorem d_law_253 : decode code 253 = .ok (.ireturn, 1) := by decide +kernel
theorem d_law_254 : decode code 254 = .ok (.aload_n 1, 1) := by decide +kernel
theorem d_law_255 : decode code 255 = .ok (.aload_n 0, 1) := by decide +kernel
theorem d_law_256 : decode code 256 = .ok (.iload_n 3, 1) := by decide +kernel
theorem d_law_257 : decode code 257 = .ok (.iconst 1, 1) := by decide +kernel
theorem d_law_258 : decode code 258 = .ok (.iadd, 1) := by decide +kernel
theorem d_law_259 : decode code 259 = .ok (.iaload, 1) := by decide +kernel
theorem d_law_260 : decode code 260 = .ok (.invokevirtual 40, 3) := by decide +kernel
theorem d_law_263 : decode code 263 = .ok (.aload_n 2, 1) := by decide +kernel
theorem d_law_264 : decode code 264 = .ok (.aload_n 0, 1) := by decide +kernel
theorem d_law_265 : decode code 265 = .ok (.iload_n 3, 1) := by decide +kernel
theorem d_law_266 : decode code 266 = .ok (.iconst 1, 1) := by decide +kernel
theorem d_law_267 : decode code 267 = .ok (.iadd, 1) := by decide +kernel
theorem d_law_268 : decode code 268 = .ok (.iaload, 1) := by decide +kernel
theorem d_law_269 : decode code 269 = .ok (.invokevirtual 43, 3) := by decide +kernel
theorem d_law_272 : decode code 272 = .ok (.if_icmp .eq 176, 3) := by decide +kernel
theorem d_law_275 : decode code 275 = .ok (.iconst 0, 1) := by decide +kernel
theorem d_law_276 : decode code 276 = .ok (.ireturn, 1) := by decide +kernel
theorem d_law_277 : decode code 277 = .ok (.aload_n 1, 1) := by decide +kernel
theorem d_law_278 : decode code 278 = .ok (.aload_n 0, 1) := by decide +kernel
theorem d_law_279 : decode code 279 = .ok (.iload_n 3, 1) := by decide +kernel
theorem d_law_280 : decode code 280 = .ok (.iconst 1, 1) := by decide +kernel
theorem d_law_281 : decode code 281 = .ok (.iadd, 1) := by decide +kernel
theorem d_law_282 : decode code 282 = .ok (.iaload, 1) := by decide +kernel
theorem d_law_283 : decode code 283 = .ok (.aload_n 0, 1) := by decide +kernel
theorem d_law_284 : decode code 284 = .ok (.iload_n 3, 1) := by decide +kernel
theorem d_law_285 : decode code 285 = .ok (.iconst 2, 1) := by decide +kernel
theorem d_law_286 : decode code 286 = .ok (.iadd, 1) := by decide +kernel
theorem d_law_287 : decode code 287 = .ok (.iaload, 1) := by decide +kernel
theorem d_law_288 : decode code 288 = .ok (.ifCond .eq 7, 3) := by decide +kernel
theorem d_law_291 : decode code 291 = .ok (.iconst 1, 1) := by decide +kernel
theorem d_law_292 : decode code 292 = .ok (.goto 4, 3) := by decide +kernel
theorem d_law_295 : decode code 295 = .ok (.iconst 0, 1) := by decide +kernel
theorem d_law_296 : decode code 296 = .ok (.invokevirtual 44, 3) := by decide +kernel
theorem d_law_299 : decode code 299 = .ok (.aload_n 2, 1) := by decide +kernel
theorem d_law_300 : decode code 300 = .ok (.aload_n 0, 1) := by decide +kernel
theorem d_law_301 : decode code 301 = .ok (.iload_n 3, 1) := by decide +kernel
theorem d_law_302 : decode code 302 = .ok (.iconst 1, 1) := by decide +kernel
theorem d_law_303 : decode code 303 = .ok (.iadd, 1) := by decide +kernel
theorem d_law_304 : decode code 304 = .ok (.iaload, 1) := by decide +kernel
theorem d_law_305 : decode code 305 = .ok (.aload_n 0, 1) := by decide +kernel
theorem d_law_306 : decode code 306 = .ok (.iload_n 3, 1) := by decide +kernel
theorem d_law_307 : decode code 307 = .ok (.iconst 2, 1) := by decide +kernel
theorem d_law_308 : decode code 308 = .ok (.iadd, 1) := by decide +kernel
theorem d_law_309 : decode code 309 = .ok (.iaload, 1) := by decide +kernel
theorem d_law_310 : decode code 310 = .ok (.ifCond .eq 7, 3) := by decide +kernel
theorem d_law_313 : decode code 313 = .ok (.iconst 1, 1) := by decide +kernel
theorem d_law_314 : decode code 314 = .ok (.goto 4, 3) := by decide +kernel
theorem d_law_317 : decode code 317 = .ok (.iconst 0, 1) := by decide +kernel
theorem d_law_318 : decode code 318 = .ok (.invokevirtual 48, 3) := by decide +kernel
theorem d_law_321 : decode code 321 = .ok (.if_icmp .eq 127, 3) := by decide +kernel
theorem d_law_324 : decode code 324 = .ok (.iconst 0, 1) := by decide +kernel
theorem d_law_325 : decode code 325 = .ok (.ireturn, 1) := by decide +kernel
theorem d_law_326 : decode code 326 = .ok (.aload_n 1, 1) := by decide +kernel
theorem d_law_327 : decode code 327 = .ok (.aload_n 0, 1) := by decide +kernel
theorem d_law_328 : decode code 328 = .ok (.iload_n 3, 1) := by decide +kernel
theorem d_law_329 : decode code 329 = .ok (.iconst 1, 1) := by decide +kernel
theorem d_law_330 : decode code 330 = .ok (.iadd, 1) := by decide +kernel
theorem d_law_331 : decode code 331 = .ok (.iaload, 1) := by decide +kernel
theorem d_law_332 : decode code 332 = .ok (.aload_n 0, 1) := by decide +kernel
theorem d_law_333 : decode code 333 = .ok (.iload_n 3, 1) := by decide +kernel
theorem d_law_334 : decode code 334 = .ok (.iconst 2, 1) := by decide +kernel
theorem d_law_335 : decode code 335 = .ok (.iadd, 1) := by decide +kernel
theorem d_law_336 : decode code 336 = .ok (.iaload, 1) := by decide +kernel
theorem d_law_337 : decode code 337 = .ok (.invokevirtual 49, 3) := by decide +kernel
theorem d_law_340 : decode code 340 = .ok (.aload_n 2, 1) := by decide +kernel
theorem d_law_341 : decode code 341 = .ok (.aload_n 0, 1) := by decide +kernel
theorem d_law_342 : decode code 342 = .ok (.iload_n 3, 1) := by decide +kernel
theorem d_law_343 : decode code 343 = .ok (.iconst 1, 1) := by decide +kernel
theorem d_law_344 : decode code 344 = .ok (.iadd, 1) := by decide +kernel
theorem d_law_345 : decode code 345 = .ok (.iaload, 1) := by decide +kernel
theorem d_law_346 : decode code 346 = .ok (.aload_n 0, 1) := by decide +kernel
theorem d_law_347 : decode code 347 = .ok (.iload_n 3, 1) := by decide +kernel
theorem d_law_348 : decode code 348 = .ok (.iconst 2, 1) := by decide +kernel
theorem d_law_349 : decode code 349 = .ok (.iadd, 1) := by decide +kernel
theorem d_law_350 : decode code 350 = .ok (.iaload, 1) := by decide +kernel
theorem d_law_351 : decode code 351 = .ok (.invokevirtual 52, 3) := by decide +kernel
theorem d_law_354 : decode code 354 = .ok (.if_icmp .eq 94, 3) := by decide +kernel
theorem d_law_357 : decode code 357 = .ok (.iconst 0, 1) := by decide +kernel
theorem d_law_358 : decode code 358 = .ok (.ireturn, 1) := by decide +kernel
theorem d_law_359 : decode code 359 = .ok (.aload_n 1, 1) := by decide +kernel
theorem d_law_360 : decode code 360 = .ok (.aload_n 0, 1) := by decide +kernel
theorem d_law_361 : decode code 361 = .ok (.iload_n 3, 1) := by decide +kernel
theorem d_law_362 : decode code 362 = .ok (.iconst 1, 1) := by decide +kernel
theorem d_law_363 : decode code 363 = .ok (.iadd, 1) := by decide +kernel
theorem d_law_364 : decode code 364 = .ok (.iaload, 1) := by decide +kernel
theorem d_law_365 : decode code 365 = .ok (.aload_n 0, 1) := by decide +kernel
theorem d_law_366 : decode code 366 = .ok (.iload_n 3, 1) := by decide +kernel
theorem d_law_367 : decode code 367 = .ok (.iconst 2, 1) := by decide +kernel
theorem d_law_368 : decode code 368 = .ok (.iadd, 1) := by decide +kernel
theorem d_law_369 : decode code 369 = .ok (.iaload, 1) := by decide +kernel
theorem d_law_370 : decode code 370 = .ok (.invokevirtual 53, 3) := by decide +kernel
theorem d_law_373 : decode code 373 = .ok (.aload_n 2, 1) := by decide +kernel
theorem d_law_374 : decode code 374 = .ok (.aload_n 0, 1) := by decide +kernel
theorem d_law_375 : decode code 375 = .ok (.iload_n 3, 1) := by decide +kernel
theorem d_law_376 : decode code 376 = .ok (.iconst 1, 1) := by decide +kernel
theorem d_law_377 : decode code 377 = .ok (.iadd, 1) := by decide +kernel
theorem d_law_378 : decode code 378 = .ok (.iaload, 1) := by decide +kernel
theorem d_law_379 : decode code 379 = .ok (.aload_n 0, 1) := by decide +kernel
theorem d_law_380 : decode code 380 = .ok (.iload_n 3, 1) := by decide +kernel
theorem d_law_381 : decode code 381 = .ok (.iconst 2, 1) := by decide +kernel
theorem d_law_382 : decode code 382 = .ok (.iadd, 1) := by decide +kernel
theorem d_law_383 : decode code 383 = .ok (.iaload, 1) := by decide +kernel
theorem d_law_384 : decode code 384 = .ok (.invokevirtual 56, 3) := by decide +kernel
theorem d_law_387 : decode code 387 = .ok (.if_icmp .eq 61, 3) := by decide +kernel
theorem d_law_390 : decode code 390 = .ok (.iconst 0, 1) := by decide +kernel
theorem d_law_391 : decode code 391 = .ok (.ireturn, 1) := by decide +kernel
theorem d_law_392 : decode code 392 = .ok (.aload_n 1, 1) := by decide +kernel
theorem d_law_393 : decode code 393 = .ok (.aload_n 0, 1) := by decide +kernel
theorem d_law_394 : decode code 394 = .ok (.iload_n 3, 1) := by decide +kernel
theorem d_law_395 : decode code 395 = .ok (.iconst 1, 1) := by decide +kernel
theorem d_law_396 : decode code 396 = .ok (.iadd, 1) := by decide +kernel
theorem d_law_397 : decode code 397 = .ok (.iaload, 1) := by decide +kernel
theorem d_law_398 : decode code 398 = .ok (.invokevirtual 57, 3) := by decide +kernel
theorem d_law_401 : decode code 401 = .ok (.aload_n 2, 1) := by decide +kernel
theorem d_law_402 : decode code 402 = .ok (.aload_n 0, 1) := by decide +kernel
theorem d_law_403 : decode code 403 = .ok (.iload_n 3, 1) := by decide +kernel
theorem d_law_404 : decode code 404 = .ok (.iconst 1, 1) := by decide +kernel
theorem d_law_405 : decode code 405 = .ok (.iadd, 1) := by decide +kernel
theorem d_law_406 : decode code 406 = .ok (.iaload, 1) := by decide +kernel
theorem d_law_407 : decode code 407 = .ok (.invokevirtual 60, 3) := by decide +kernel
theorem d_law_410 : decode code 410 = .ok (.if_icmp .eq 38, 3) := by decide +kernel
theorem d_law_413 : decode code 413 = .ok (.iconst 0, 1) := by decide +kernel
theorem d_law_414 : decode code 414 = .ok (.ireturn, 1) := by decide +kernel
theorem d_law_415 : decode code 415 = .ok (.aload_n 1, 1) := by decide +kernel
theorem d_law_416 : decode code 416 = .ok (.aload_n 0, 1) := by decide +kernel
theorem d_law_417 : decode code 417 = .ok (.iload_n 3, 1) := by decide +kernel
theorem d_law_418 : decode code 418 = .ok (.iconst 1, 1) := by decide +kernel
theorem d_law_419 : decode code 419 = .ok (.iadd, 1) := by decide +kernel
theorem d_law_420 : decode code 420 = .ok (.iaload, 1) := by decide +kernel
theorem d_law_421 : decode code 421 = .ok (.aload_n 0, 1) := by decide +kernel
theorem d_law_422 : decode code 422 = .ok (.iload_n 3, 1) := by decide +kernel
theorem d_law_423 : decode code 423 = .ok (.iconst 2, 1) := by decide +kernel
theorem d_law_424 : decode code 424 = .ok (.iadd, 1) := by decide +kernel
theorem d_law_425 : decode code 425 = .ok (.iaload, 1) := by decide +kernel
theorem d_law_426 : decode code 426 = .ok (.invokevirtual 61, 3) := by decide +kernel
theorem d_law_429 : decode code 429 = .ok (.aload_n 2, 1) := by decide +kernel
theorem d_law_430 : decode code 430 = .ok (.aload_n 0, 1) := by decide +kernel
theorem d_law_431 : decode code 431 = .ok (.iload_n 3, 1) := by decide +kernel
theorem d_law_432 : decode code 432 = .ok (.iconst 1, 1) := by decide +kernel
theorem d_law_433 : decode code 433 = .ok (.iadd, 1) := by decide +kernel
theorem d_law_434 : decode code 434 = .ok (.iaload, 1) := by decide +kernel
theorem d_law_435 : decode code 435 = .ok (.aload_n 0, 1) := by decide +kernel
theorem d_law_436 : decode code 436 = .ok (.iload_n 3, 1) := by decide +kernel
theorem d_law_437 : decode code 437 = .ok (.iconst 2, 1) := by decide +kernel
theorem d_law_438 : decode code 438 = .ok (.iadd, 1) := by decide +kernel
theorem d_law_439 : decode code 439 = .ok (.iaload, 1) := by decide +kernel
theorem d_law_440 : decode code 440 = .ok (.invokevirtual 64, 3) := by decide +kernel
theorem d_law_443 : decode code 443 = .ok (.if_icmp .eq 5, 3) := by decide +kernel
theorem d_law_446 : decode code 446 = .ok (.iconst 0, 1) := by decide +kernel
theorem d_law_447 : decode code 447 = .ok (.ireturn, 1) := by decide +kernel
theorem d_law_448 : decode code 448 = .ok (.iinc 3 3, 3) := by decide +kernel
theorem d_law_451 : decode code 451 = .ok (.goto (-433), 3) := by decide +kernel
theorem d_law_454 : decode code 454 = .ok (.iconst 1, 1) := by decide +kernel
theorem d_law_455 : decode code 455 = .ok (.ireturn, 1) := by decide +kernel
end
section
/-! the pure picture: z modes (actuators, mode, alarmed, alarm, changes), f forms (every, on, parameters, sizes, count), t text (text, size); what each operation answers and does -/
abbrev MS : Type := (Nat → Int32) × Int32 × Int32 × Int32 × Int32
abbrev FS : Type := (Nat → Int32) × (Nat → Int32) × (Nat → Int32) × (Nat → Int32) × Int32
abbrev TS : Type := (Nat → Int32) × Int32
def safeF : Nat → Int32 := fun k => if k = 4 then 50 else if k = 5 then 50 else if k = 6 then 100 else if k = 7 then 1 else 0
def mvg (mode a : Int32) : Int32 := if a < 0 ∨ 8 ≤ a then 18 else if mode = 0 then 19 else 0
def mv (z : MS) (a v : Int32) : Int32 × MS := if a < 0 ∨ 8 ≤ a then (18, z) else if z.2.1 = 0 then (19, z) else (0, (upd z.1 a.toNatClampNeg v, z.2))
def ent (mode m : Int32) : Int32 := if m < 0 ∨ ¬ m ≤ 2 then 18 else if mode = 0 ∧ m = 2 then 19 else 0
def bc (z : MS) (m : Int32) : MS := if m = z.2.1 then z else (if m = 0 then va_cpy safeF z.1 0 0 8 else z.1, m, z.2.2.1, z.2.2.2.1, z.2.2.2.2 + 1)
def en (z : MS) (m : Int32) : Int32 × MS := if m < 0 ∨ ¬ m ≤ 2 then (18, z) else if z.2.1 = 0 ∧ m = 2 then (19, z) else (0, bc z m)
def al (z : MS) (t : Int32) : Int32 × MS := if z.2.2.1 = 0 then (1, (z.1, z.2.1, 1, t, z.2.2.2.2)) else (0, z)
def lk (z : MS) (t : Int32) : Int32 × MS := if z.2.2.1 = 0 ∨ ¬ z.2.2.2.1 ≤ t then (0, z) else ((if z.2.1 = 0 then 0 else 1), bc (z.1, z.2.1, 0, z.2.2.2.1, z.2.2.2.2) 0)
def pt (t : TS) (x : Int32) : Int32 × TS := if t.2 = 8 ∨ x < 0 ∨ 32 ≤ x then (-1, t) else (t.2 + 1, (upd t.1 t.2.toNatClampNeg x, t.2 + 1))
def isI (e : Nat → Int32) (id : Int32) : Int32 := if id < 0 ∨ 256 ≤ id ∨ e id.toNatClampNeg ≤ 0 then 0 else 1
def rv (f : FS) (id : Int32) : Int32 × FS := if isI f.1 id = 0 then (14, f) else if f.2.1 id.toNatClampNeg = 0 then (0, (upd f.1 id.toNatClampNeg 0, f.2.1, f.2.2.1, f.2.2.2.1, f.2.2.2.2 - 1)) else (15, f)
def eb (f : FS) (id b : Int32) : Int32 × FS := if isI f.1 id = 0 then (14, f) else (0, (f.1, upd f.2.1 id.toNatClampNeg (vp_nar .boolean b), f.2.2.1, f.2.2.2.1, f.2.2.2.2))
def ad (f : FS) (id often : Int32) (row : Nat → Int32) (n : Int32) : Int32 × FS := if n < 1 ∨ 8 < n ∨ often < 1 ∨ 255 < often ∨ id < 0 ∨ 256 ≤ id then (13, f) else if f.1 id.toNatClampNeg ≤ 0 then (if f.2.2.2.2 = 8 then (12, f) else (0, (upd f.1 id.toNatClampNeg often, upd f.2.1 id.toNatClampNeg (vp_nar .boolean 0), va_cpy row f.2.2.1 0 (8 * id).toNatClampNeg n.toNatClampNeg, upd f.2.2.2.1 id.toNatClampNeg n, f.2.2.2.2 + 1))) else (11, f)
abbrev hit (f : FS) (tick : Int32) (k : Nat) : Prop := ¬ f.1 k ≤ 0 ∧ ¬ f.2.1 k = 0 ∧ tick - tick / f.1 k * f.1 k = 0
def duA (f : FS) (tick : Int32) : Nat → Nat → Int32
  | _, 0 => -1
  | j, n + 1 => if hit f tick j then nI j else duA f tick (j + 1) n
def du (f : FS) (tick fr : Int32) : Int32 := duA f tick fr.toNatClampNeg (256 - fr.toNatClampNeg)
def pr (f : FS) (id j : Int32) : Int32 := if isI f.1 id = 0 ∨ j < -1 ∨ f.2.2.2.1 id.toNatClampNeg ≤ j then -1 else if j = -1 then f.2.2.2.1 id.toNatClampNeg else f.2.2.1 (8 * id + j).toNatClampNeg
def vl (z : MS) (f : FS) (w : Int32) : Int32 := if ¬ w < 0 ∧ ¬ 8 ≤ w then z.1 w.toNatClampNeg else if w = 8 then z.2.1 else if w = 9 then (if z.2.2.1 = 0 then -1 else z.2.2.2.1) else if w = 10 then z.2.2.2.2 else if w = 11 then f.2.2.2.2 else 0
def ab (f : FS) (id w : Int32) : Int32 := if isI f.1 id = 0 then -1 else if w = 0 then f.1 id.toNatClampNeg else if w = 1 then (if f.2.1 id.toNatClampNeg = 0 then 0 else 1) else -1
def cnt (e : Nat → Int32) : Nat → Nat
  | 0 => 0
  | n + 1 => cnt e n + (if e n ≤ 0 then 0 else 1)
/-- what holds of forms and text between calls -/
def Inv (f : FS) (t : TS) : Prop := (∃ j : Nat, j ≤ 8 ∧ t.2 = nI j) ∧ (∀ j, ¬ f.1 j < 0) ∧ (∀ j, f.2.2.2.1 j ≤ 8) ∧ (∀ j, fits .byte (.int (t.1 j)) = true) ∧ f.2.2.2.2 = nI (cnt f.1 256)
/-! numbers -/
theorem i_le {x y : Int32} : x ≤ y ↔ x.toInt ≤ y.toInt := Int32.le_iff_toInt_le
theorem i_lt {x y : Int32} : x < y ↔ x.toInt < y.toInt := Int32.lt_iff_toInt_lt
theorem i_step {a b k : Int32} (h : b.toInt = k.toInt + 1) : a ≤ k ↔ ¬ b ≤ a := by
  rw [i_le, i_le]; omega
theorem i_in {x M : Int32} {n : Nat} (hM : M.toInt = n) (h0 : ¬ x < 0) (h1 : ¬ M ≤ x) : vp_in x n := by
  rw [i_lt] at h0
  rw [i_le] at h1
  have e : (0 : Int32).toInt = 0 := rfl
  exact vp_in_iff.mpr (by omega)
theorem i_nat {x M : Int32} {n : Nat} (hM : M.toInt = n) (hn : n < 2 ^ 31) (h0 : ¬ x < 0) (h1 : ¬ M ≤ x) : ∃ j : Nat, j < n ∧ x = nI j := vp_in_of (i_in hM h0 h1) hn
theorem i_clN {x : Int32} (h : ¬ x < 0) : (x.toNatClampNeg : Int) = x.toInt := by
  rw [i_lt] at h
  have e : (0 : Int32).toInt = 0 := rfl
  show ((x.toInt.toNat : Nat) : Int) = x.toInt
  omega
theorem i_cl0 {x : Int32} (h : x < 0) : x.toNatClampNeg = 0 := by
  rw [i_lt] at h
  have e : (0 : Int32).toInt = 0 := rfl
  show x.toInt.toNat = 0
  omega
theorem i_8k {id : Int32} {k : Nat} (hk : k < 8) (h0 : ¬ id < 0) (h1 : ¬ 256 ≤ id) : (8 * id).toNatClampNeg = 8 * id.toNatClampNeg ∧ (8 * id + nI k).toNatClampNeg = 8 * id.toNatClampNeg + k ∧ ¬ 8 * id < 0 ∧ vp_in (8 * id + nI k) 2048 ∧ id.toNatClampNeg < 256 := by
  obtain ⟨j, hj, rfl⟩ := i_nat (n := 256) rfl (by decide) h0 h1
  rw [show (8 : Int32) = nI 8 from rfl, pk_mul, nI_add, nI_clamp (by omega), nI_clamp (by omega), nI_clamp (by omega)]
  exact ⟨rfl, rfl, nI_pos (by omega), vp_in_nI (by omega) (by decide), hj⟩
theorem nar_small {x : Int32} (h0 : ¬ x < 0) (h1 : ¬ 32 ≤ x) : vp_nar .byte x.toInt8.toInt32 = x ∧ fits .byte (.int x) = true := by
  obtain ⟨j, hj, rfl⟩ := i_nat (n := 32) rfl (by decide) h0 h1
  have h : ∀ j, j < 32 → vp_nar .byte (nI j).toInt8.toInt32 = nI j ∧ fits .byte (.int (nI j)) = true := by decide +kernel
  exact h j hj
theorem isI_01 (e : Nat → Int32) (id : Int32) : isI e id = 0 ∨ isI e id = 1 := by
  unfold isI
  by_cases h : id < 0 ∨ 256 ≤ id ∨ e id.toNatClampNeg ≤ 0
  · exact Or.inl (if_pos h)
  · exact Or.inr (if_neg h)
theorem isI_ne {e : Nat → Int32} {id : Int32} (h : ¬ isI e id = 0) : ¬ id < 0 ∧ ¬ 256 ≤ id ∧ ¬ e id.toNatClampNeg ≤ 0 := by
  unfold isI at h
  by_cases hc : id < 0 ∨ 256 ≤ id ∨ e id.toNatClampNeg ≤ 0
  · exact absurd (if_pos hc) h
  · exact ⟨fun x => hc (Or.inl x), fun x => hc (Or.inr (Or.inl x)), fun x => hc (Or.inr (Or.inr x))⟩
theorem cpy_0 {f g : Nat → Int32} {d : Nat} : va_cpy f g 0 d 0 = g := by
  funext j
  unfold va_cpy
  rw [if_neg (by omega)]
theorem cpy_1 {f g : Nat → Int32} {d i : Nat} : upd (va_cpy f g 0 d i) (d + i) (f i) = va_cpy f g 0 d (i + 1) := by
  funext j
  unfold upd va_cpy
  by_cases h : j = d + i
  · subst h
    rw [if_pos rfl, if_pos (by omega)]
    congr 1
    omega
  · rw [if_neg h]
    by_cases h2 : d ≤ j ∧ j < d + i
    · rw [if_pos h2, if_pos (by omega)]
    · rw [if_neg h2, if_neg (by omega)]
theorem safe_eq : upd (upd (upd (upd (upd (upd (upd (upd (fun _ => 0) (0 : Int32).toNatClampNeg 0) (1 : Int32).toNatClampNeg 0) (2 : Int32).toNatClampNeg 0) (3 : Int32).toNatClampNeg 0) (4 : Int32).toNatClampNeg 50) (5 : Int32).toNatClampNeg 50) (6 : Int32).toNatClampNeg 100) (7 : Int32).toNatClampNeg 1 = safeF := by
  funext j
  match j with
  | 0 => rfl
  | 1 => rfl
  | 2 => rfl
  | 3 => rfl
  | 4 => rfl
  | 5 => rfl
  | 6 => rfl
  | 7 => rfl
  | j + 8 =>
    simp only [upd, safeF, show (0 : Int32).toNatClampNeg = 0 from rfl, show (1 : Int32).toNatClampNeg = 1 from rfl, show (2 : Int32).toNatClampNeg = 2 from rfl, show (3 : Int32).toNatClampNeg = 3 from rfl, show (4 : Int32).toNatClampNeg = 4 from rfl, show (5 : Int32).toNatClampNeg = 5 from rfl, show (6 : Int32).toNatClampNeg = 6 from rfl, show (7 : Int32).toNatClampNeg = 7 from rfl]
    repeat rw [if_neg (by omega)]
theorem cnt_out {e : Nat → Int32} {k : Nat} {v : Int32} : ∀ {n : Nat}, n ≤ k → cnt (upd e k v) n = cnt e n
  | 0, _ => rfl
  | n + 1, h => by
    show cnt (upd e k v) n + _ = cnt e n + _
    rw [cnt_out (by omega), show upd e k v n = e n from if_neg (by omega)]
theorem cnt_in {e : Nat → Int32} {k : Nat} {v : Int32} : ∀ {n : Nat}, k < n → cnt (upd e k v) n + (if e k ≤ 0 then 0 else 1) = cnt e n + (if v ≤ 0 then 0 else 1)
  | 0, h => absurd h (Nat.not_lt_zero k)
  | n + 1, h => by
    show cnt (upd e k v) n + (if upd e k v n ≤ 0 then 0 else 1) + _ = cnt e n + (if e n ≤ 0 then 0 else 1) + _
    by_cases hk : k = n
    · subst hk
      rw [cnt_out (Nat.le_refl k), show upd e k v k = v from if_pos rfl]
      omega
    · have ih := cnt_in (e := e) (v := v) (show k < n by omega)
      rw [show upd e k v n = e n from if_neg (by omega)]
      omega
theorem inv_pt {f : FS} {t : TS} (x : Int32) (h : Inv f t) : Inv f (pt t x).2 := by
  unfold pt
  by_cases hc : t.2 = 8 ∨ x < 0 ∨ 32 ≤ x
  · rw [if_pos hc]; exact h
  · rw [if_neg hc]
    obtain ⟨⟨j, hj, e⟩, h1, h2, h3, h4⟩ := h
    have hj8 : j ≠ 8 := fun e2 => hc (Or.inl (by rw [e, e2]; rfl))
    refine ⟨⟨j + 1, by omega, by show t.2 + 1 = _; rw [e]; exact nI_1 j⟩, h1, h2, fun i => ?_, h4⟩
    show fits .byte (.int (upd t.1 t.2.toNatClampNeg x i)) = true
    unfold upd
    by_cases hi : i = t.2.toNatClampNeg
    · rw [if_pos hi]; exact (nar_small (fun q => hc (Or.inr (Or.inl q))) (fun q => hc (Or.inr (Or.inr q)))).2
    · rw [if_neg hi]; exact h3 i
theorem inv_eb {f : FS} {t : TS} (id b : Int32) (h : Inv f t) : Inv (eb f id b).2 t := by
  unfold eb
  by_cases hc : isI f.1 id = 0
  · rw [if_pos hc]; exact h
  · rw [if_neg hc]; exact h
theorem inv_rv {f : FS} {t : TS} (id : Int32) (h : Inv f t) : Inv (rv f id).2 t := by
  unfold rv
  by_cases hc : isI f.1 id = 0
  · rw [if_pos hc]; exact h
  rw [if_neg hc]
  by_cases h9 : f.2.1 id.toNatClampNeg = 0
  · rw [if_pos h9]
    obtain ⟨g0, g1, g2⟩ := isI_ne hc
    obtain ⟨h0, h1, h2, h3, h4⟩ := h
    have hid : id.toNatClampNeg < 256 := (i_8k (k := 0) (by decide) g0 g1).2.2.2.2
    refine ⟨h0, fun i => ?_, h2, h3, ?_⟩
    · show ¬ upd f.1 id.toNatClampNeg 0 i < 0
      unfold upd
      by_cases hi : i = id.toNatClampNeg
      · rw [if_pos hi]; decide
      · rw [if_neg hi]; exact h1 i
    · show f.2.2.2.2 - 1 = nI (cnt (upd f.1 id.toNatClampNeg 0) 256)
      have hcn := cnt_in (e := f.1) (v := 0) hid
      rw [if_neg g2, if_pos (by decide)] at hcn
      have hcn2 : cnt f.1 256 = cnt (upd f.1 id.toNatClampNeg 0) 256 + 1 := by omega
      rw [h4, hcn2]
      exact nI_pred _
  · rw [if_neg h9]; exact h
theorem inv_ad {f : FS} {t : TS} (id often : Int32) (h : Inv f t) : Inv (ad f id often t.1 t.2).2 (t.1, 0) := by
  obtain ⟨⟨j, hj, e⟩, h1, h2, h3, h4⟩ := h
  have h00 : ∃ j : Nat, j ≤ 8 ∧ (0 : Int32) = nI j := ⟨0, by decide, rfl⟩
  unfold ad
  by_cases hc : t.2 < 1 ∨ 8 < t.2 ∨ often < 1 ∨ 255 < often ∨ id < 0 ∨ 256 ≤ id
  · rw [if_pos hc]; exact ⟨h00, h1, h2, h3, h4⟩
  rw [if_neg hc]
  by_cases h9 : f.1 id.toNatClampNeg ≤ 0
  · rw [if_pos h9]
    by_cases h10 : f.2.2.2.2 = 8
    · rw [if_pos h10]; exact ⟨h00, h1, h2, h3, h4⟩
    rw [if_neg h10]
    have g0 : ¬ id < 0 := fun q => hc (by simp [q])
    have g1 : ¬ 256 ≤ id := fun q => hc (by simp [q])
    have g2 : ¬ often < 1 := fun q => hc (by simp [q])
    have g3 : ¬ often ≤ 0 := by
      rw [i_le]; rw [i_lt] at g2
      have e0 : (0 : Int32).toInt = 0 := rfl
      have e1 : (1 : Int32).toInt = 1 := rfl
      omega
    have hid : id.toNatClampNeg < 256 := (i_8k (k := 0) (by decide) g0 g1).2.2.2.2
    refine ⟨h00, fun i => ?_, fun i => ?_, h3, ?_⟩
    · show ¬ upd f.1 id.toNatClampNeg often i < 0
      unfold upd
      by_cases hi : i = id.toNatClampNeg
      · rw [if_pos hi]
        rw [i_lt]; rw [i_lt] at g2
        have e0 : (0 : Int32).toInt = 0 := rfl
        have e1 : (1 : Int32).toInt = 1 := rfl
        omega
      · rw [if_neg hi]; exact h1 i
    · show upd f.2.2.2.1 id.toNatClampNeg t.2 i ≤ 8
      unfold upd
      by_cases hi : i = id.toNatClampNeg
      · rw [if_pos hi, e]; exact nI_le (b := 8) hj (by decide)
      · rw [if_neg hi]; exact h2 i
    · show f.2.2.2.2 + 1 = nI (cnt (upd f.1 id.toNatClampNeg often) 256)
      have hcn := cnt_in (e := f.1) (v := often) hid
      rw [if_pos h9, if_neg g3] at hcn
      rw [Nat.add_zero] at hcn
      rw [h4, hcn]
      exact nI_1 _
  · rw [if_neg h9]; exact ⟨h00, h1, h2, h3, h4⟩
theorem inv_0 : Inv (fun _ => 0, fun _ => 0, fun _ => 0, fun _ => 0, 0) (fun _ => 0, 0) := by
  refine ⟨⟨0, by decide, rfl⟩, fun _ => show ¬ (0 : Int32) < 0 by decide, fun _ => show (0 : Int32) ≤ 8 by decide, fun _ => show fits .byte (.int 0) = true by decide, ?_⟩
  have h : ∀ n, cnt (fun _ => 0) n = 0 := fun n => by
    induction n with
    | zero => rfl
    | succ n ih => show cnt (fun _ => 0) n + 0 = 0; rw [ih]
  show (0 : Int32) = nI (cnt (fun _ => 0) 256)
  rw [h 256]; rfl
theorem duA_1 {f : FS} {tick : Int32} {j : Nat} (hj : j < 256) : duA f tick j (256 - j) = if hit f tick j then nI j else duA f tick (j + 1) (256 - (j + 1)) := by
  rw [show 256 - j = (256 - (j + 1)) + 1 by omega]
  rfl
end
section
def wC (h1 : Nat) (ch : Int32) : va_W := [(h1, .inr (1, [.int ch]))]
def wM (X : GG) (h1 h2 h3 h4 : Nat) (z : MS) : va_W := [(h2, .inr (2, [.ref h1, .ref h3, .ref h4, .int z.2.1, .int z.2.2.1, .int z.2.2.2.1])), (h3, .inl (X.2.1, 8, .inl safeF)), (h4, .inl (X.2.1, 8, .inl z.1)), (h1, .inr (1, [.int z.2.2.2.2]))]
def wF (X : GG) (h5 h6 h7 h8 h9 : Nat) (f : FS) : va_W := [(h5, .inr (3, [.ref h6, .ref h7, .ref h8, .ref h9, .int f.2.2.2.2])), (h6, .inl (X.2.1, 256, .inl f.1)), (h7, .inl (X.2.2.1, 256, .inl f.2.1)), (h8, .inl (X.2.2.2, 2048, .inl f.2.2.1)), (h9, .inl (X.2.1, 256, .inl f.2.2.2.1))]
def wFT (X : GG) (h5 h6 h7 h8 h9 h10 : Nat) (row : Nat → Int32) (f : FS) : va_W := [(h5, .inr (3, [.ref h6, .ref h7, .ref h8, .ref h9, .int f.2.2.2.2])), (h6, .inl (X.2.1, 256, .inl f.1)), (h7, .inl (X.2.2.1, 256, .inl f.2.1)), (h8, .inl (X.2.2.2, 2048, .inl f.2.2.1)), (h9, .inl (X.2.1, 256, .inl f.2.2.2.1)), (h10, .inl (X.2.2.2, 8, .inl row))]
def wK (X : GG) (h0 h1 h2 h3 h4 h5 h6 h7 h8 h9 h10 : Nat) (zft : MS × FS × TS) : va_W := [(h0, .inr (0, [.ref h1, .ref h2, .ref h5, .ref h10, .int zft.2.2.2])), (h2, .inr (2, [.ref h1, .ref h3, .ref h4, .int zft.1.2.1, .int zft.1.2.2.1, .int zft.1.2.2.2.1])), (h3, .inl (X.2.1, 8, .inl safeF)), (h4, .inl (X.2.1, 8, .inl zft.1.1)), (h1, .inr (1, [.int zft.1.2.2.2.2])), (h5, .inr (3, [.ref h6, .ref h7, .ref h8, .ref h9, .int zft.2.1.2.2.2.2])), (h6, .inl (X.2.1, 256, .inl zft.2.1.1)), (h7, .inl (X.2.2.1, 256, .inl zft.2.1.2.1)), (h8, .inl (X.2.2.2, 2048, .inl zft.2.1.2.2.1)), (h9, .inl (X.2.1, 256, .inl zft.2.1.2.2.2.1)), (h10, .inl (X.2.2.2, 8, .inl zft.2.2.1))]
def wX (X : GG) (b0 b1 b2 b3 b4 b5 b6 : Nat) (zft : MS × FS × TS) : va_W := [(b0, .inr (4, [.int 0, .int zft.1.2.1, .ref b1, .int zft.1.2.2.1, .int zft.1.2.2.2.1, .int zft.1.2.2.2.2, .int zft.2.2.2, .ref b2, .ref b3, .ref b4, .ref b5, .ref b6])), (b1, .inl (X.2.1, 8, .inl zft.1.1)), (b2, .inl (X.2.1, 8, .inl zft.2.2.1)), (b3, .inl (X.2.1, 256, .inl zft.2.1.1)), (b4, .inl (X.2.2.1, 256, .inl zft.2.1.2.1)), (b5, .inl (X.2.1, 256, .inl zft.2.1.2.2.2.1)), (b6, .inl (X.2.1, 2048, .inl zft.2.1.2.2.1))]
theorem i_leT {x k b : Int32} (h : b.toInt = k.toInt + 1) (c : x ≤ k) : ¬ b ≤ x := (i_step h).mp c
theorem i_leF {x k b : Int32} (h : b.toInt = k.toInt + 1) (c : ¬ x ≤ k) : b ≤ x := by
  rw [i_le] at c ⊢; omega
theorem i_gtT {x k b : Int32} (h : b.toInt = k.toInt + 1) (c : k < x) : b ≤ x := by
  rw [i_lt] at c; rw [i_le]; omega
theorem i_gtF {x k b : Int32} (h : b.toInt = k.toInt + 1) (c : ¬ k < x) : ¬ b ≤ x := by
  rw [i_lt] at c; rw [i_le]; omega
theorem i_cl8 : (8 : Int32).toNatClampNeg = 8 := rfl
theorem i_cl00 : (0 : Int32).toNatClampNeg = 0 := rfl
theorem mvg_0 {m a : Int32} (h : mvg m a = 0) : ¬ a < 0 ∧ ¬ 8 ≤ a ∧ ¬ m = 0 := by
  unfold mvg at h
  by_cases h1 : a < 0 ∨ 8 ≤ a
  · rw [if_pos h1] at h; exact absurd h (by decide)
  · rw [if_neg h1] at h
    by_cases h2 : m = 0
    · rw [if_pos h2] at h; exact absurd h (by decide)
    · exact ⟨fun q => h1 (Or.inl q), fun q => h1 (Or.inr q), h2⟩
theorem mv_eq {z : MS} {a v : Int32} (h : mvg z.2.1 a = 0) : (mvg z.2.1 a, (upd z.1 a.toNatClampNeg v, z.2)) = mv z a v := by
  obtain ⟨h1, h2, h3⟩ := mvg_0 h
  rw [h]
  unfold mv
  rw [if_neg (fun q => q.elim h1 h2), if_neg h3]
theorem mv_ne {z : MS} {a v : Int32} (h : ¬ mvg z.2.1 a = 0) : (mvg z.2.1 a, z) = mv z a v := by
  unfold mvg at h ⊢
  unfold mv
  by_cases h1 : a < 0 ∨ 8 ≤ a
  · rw [if_pos h1, if_pos h1]
  · rw [if_neg h1] at h
    rw [if_neg h1, if_neg h1]
    by_cases h2 : z.2.1 = 0
    · rw [if_pos h2, if_pos h2]
    · rw [if_neg h2] at h; exact absurd rfl h
theorem en_eq {z : MS} {m0 : Int32} (h : ent z.2.1 m0 = 0) : (ent z.2.1 m0, bc z m0) = en z m0 := by
  rw [h]
  unfold ent at h
  unfold en
  by_cases h1 : m0 < 0 ∨ ¬ m0 ≤ 2
  · rw [if_pos h1] at h; exact absurd h (by decide)
  · rw [if_neg h1] at h
    rw [if_neg h1]
    by_cases h2 : z.2.1 = 0 ∧ m0 = 2
    · rw [if_pos h2] at h; exact absurd h (by decide)
    · rw [if_neg h2]
theorem en_ne {z : MS} {m0 : Int32} (h : ¬ ent z.2.1 m0 = 0) : (ent z.2.1 m0, z) = en z m0 := by
  unfold ent at h ⊢
  unfold en
  by_cases h1 : m0 < 0 ∨ ¬ m0 ≤ 2
  · rw [if_pos h1, if_pos h1]
  · rw [if_neg h1] at h
    rw [if_neg h1, if_neg h1]
    by_cases h2 : z.2.1 = 0 ∧ m0 = 2
    · rw [if_pos h2, if_pos h2]
    · rw [if_neg h2] at h; exact absurd rfl h
set_option maxHeartbeats 4000000 in
set_option maxRecDepth 100000 in
/-- Counter(): the field stays -/
theorem c_Co_init (l : Launch) (X : GG) (h1 : Nat) (ch : Int32) : Ct l y_Co_init b_Co_init 1 none ({ frames := 1, cells := 0, slots := 0, locals := 12 } : Room) X [.ref h1] (wC h1 ch) none (fun _ : Unit => wC h1 ch) := by
  refine ct_enter (by decide) (Nat.le_of_ble_eq_true rfl) ?_
  intro p e s m args below meth c A ls hx hb hC hin hw hl
  have hC : Cx p s m args meth c "ModeKeeper$Counter" b_Co_init 1 none X := hC
  have hin : meth.name = "<init>" := hin
  have hw : Wd X A s.heap [(h1, .inr (1, [.int ch]))] s.heap [] := hw
  have hl : lv_has ls 1 [(0, .ref h1)] := hl
  refine lv_aload_n hx hb d_Co_init_0 rfl (lv_at hl 0 rfl) ?_
  refine ct_objInit hC hl.1 k_24 d_Co_init_1 (by decide) (by decide) ?_
  exact ct_vret hC hw () rfl d_Co_init_4
set_option maxHeartbeats 4000000 in
set_option maxRecDepth 100000 in
/-- changed: one more -/
theorem c_Co_changed (l : Launch) (X : GG) (h1 : Nat) (ch m0 : Int32) : Ct l y_Co_changed b_Co_changed 2 none ({ frames := 0, cells := 0, slots := 0, locals := 0 } : Room) X [.ref h1, .int m0] (wC h1 ch) none (fun _ : Unit => wC h1 (ch + 1)) := by
  refine ct_enter (by decide) (Nat.le_of_ble_eq_true rfl) ?_
  intro p e s m args below meth c A ls hx hb hC hin hw hl
  have hC : Cx p s m args meth c "ModeKeeper$Counter" b_Co_changed 2 none X := hC
  have hw : Wd X A s.heap [(h1, .inr (1, [.int ch]))] s.heap [] := hw
  have hl : lv_has ls 2 [(0, .ref h1), (1, .int m0)] := hl
  refine lv_aload_n hx hb d_Co_changed_0 rfl (lv_at hl 0 rfl) ?_
  refine lv_dup hx hb d_Co_changed_1 rfl ?_
  refine ct_get hC hw 0 0 rfl rfl (by decide) k_25 rfl d_Co_changed_2 ?_
  refine lv_iconst (v := 1) hx hb d_Co_changed_5 (by decide) ?_
  refine lv_iadd hx hb d_Co_changed_6 ?_
  refine ct_put hC hw 0 0 (ty := .int) (ws' := [(h1, .inr (1, [.int (ch + 1)]))]) rfl rfl (by decide) k_25 rfl (by decide +kernel) rfl rfl (Nat.le_of_ble_eq_true rfl) rfl d_Co_changed_7 (fun H locs hw => ?_)
  exact ct_vret hC hw () rfl d_Co_changed_10
set_option maxHeartbeats 4000000 in
set_option maxRecDepth 100000 in
/-- what is wrong with a move -/
theorem c_Mo_moving (l : Launch) (X : GG) (h1 h2 h3 h4 : Nat) (z : MS) (a : Int32) : Ct l y_Mo_moving b_Mo_moving 2 (some .int) ({ frames := 0, cells := 0, slots := 0, locals := 0 } : Room) X [.ref h2, .int a] (wM X h1 h2 h3 h4 z) (some (.int (mvg z.2.1 a))) (fun _ : Unit => wM X h1 h2 h3 h4 z) := by
  refine ct_enter (by decide) (Nat.le_of_ble_eq_true rfl) ?_
  intro p e s m args below meth c A ls hx hb hC hin hw hl
  have hC : Cx p s m args meth c "ModeKeeper$Modes" b_Mo_moving 2 (some .int) X := hC
  have hw : Wd X A s.heap [(h2, .inr (2, [.ref h1, .ref h3, .ref h4, .int z.2.1, .int z.2.2.1, .int z.2.2.2.1])), (h3, .inl (X.2.1, 8, .inl safeF)), (h4, .inl (X.2.1, 8, .inl z.1)), (h1, .inr (1, [.int z.2.2.2.2]))] s.heap [] := hw
  have hl : lv_has ls 2 [(0, .ref h2), (1, .int a)] := hl
  refine lv_iload_n hx hb d_Mo_moving_0 rfl (lv_at hl 1 rfl) ?_
  refine lv_if_lt (tgt := 10) hx hb d_Mo_moving_1 (by decide) (fun c_1 => ?_) (fun c_1 => ?_)
  · refine lv_bipush (v := 18) hx hb d_Mo_moving_10 (by decide) ?_
    refine lv_goto (tgt := 28) hx hb d_Mo_moving_12 (by decide) ?_
    exact ct_iret (F := wM X h1 h2 h3 h4) (z := z) (sp := (mvg z.2.1 a, z)) hC hw (by simp [mvg, c_1]) rfl d_Mo_moving_28
  · refine lv_iload_n hx hb d_Mo_moving_4 rfl (lv_at hl 1 rfl) ?_
    refine lv_bipush (v := 8) hx hb d_Mo_moving_5 (by decide) ?_
    refine lv_icmp_lt (tgt := 15) hx hb d_Mo_moving_7 (by decide) (fun c_7 => ?_) (fun c_7 => ?_)
    · have n_7 : ¬ 8 ≤ a := Int32.not_le.mpr c_7
      refine lv_aload_n hx hb d_Mo_moving_15 rfl (lv_at hl 0 rfl) ?_
      refine ct_get hC hw 0 3 rfl rfl (by decide) k_40 rfl d_Mo_moving_16 ?_
      refine lv_if_ne (tgt := 27) hx hb d_Mo_moving_19 (by decide) (fun c_19 => ?_) (fun c_19 => ?_)
      · refine lv_iconst (v := 0) hx hb d_Mo_moving_27 (by decide) ?_
        exact ct_iret (F := wM X h1 h2 h3 h4) (z := z) (sp := (mvg z.2.1 a, z)) hC hw (by simp [mvg, c_1, c_7, n_7, c_19]) rfl d_Mo_moving_28
      · refine lv_bipush (v := 19) hx hb d_Mo_moving_22 (by decide) ?_
        refine lv_goto (tgt := 28) hx hb d_Mo_moving_24 (by decide) ?_
        exact ct_iret (F := wM X h1 h2 h3 h4) (z := z) (sp := (mvg z.2.1 a, z)) hC hw (by simp [mvg, c_1, c_7, n_7, c_19]) rfl d_Mo_moving_28
    · have n_7 : 8 ≤ a := Int32.not_lt.mp c_7
      refine lv_bipush (v := 18) hx hb d_Mo_moving_10 (by decide) ?_
      refine lv_goto (tgt := 28) hx hb d_Mo_moving_12 (by decide) ?_
      exact ct_iret (F := wM X h1 h2 h3 h4) (z := z) (sp := (mvg z.2.1 a, z)) hC hw (by simp [mvg, c_1, c_7, n_7]) rfl d_Mo_moving_28
set_option maxHeartbeats 4000000 in
set_option maxRecDepth 100000 in
/-- move -/
theorem c_Mo_move (l : Launch) (X : GG) (h1 h2 h3 h4 : Nat) (z : MS) (a v : Int32) : Ct l y_Mo_move b_Mo_move 4 (some .int) ({ frames := 1, cells := 0, slots := 0, locals := 21 } : Room) X [.ref h2, .int a, .int v] (wM X h1 h2 h3 h4 z) (some (.int ((mv z a v).1))) (fun _ : Unit => wM X h1 h2 h3 h4 (mv z a v).2) := by
  refine ct_enter (by decide) (Nat.le_of_ble_eq_true rfl) ?_
  intro p e s m args below meth c A ls hx hb hC hin hw hl
  have hC : Cx p s m args meth c "ModeKeeper$Modes" b_Mo_move 4 (some .int) X := hC
  have hw : Wd X A s.heap [(h2, .inr (2, [.ref h1, .ref h3, .ref h4, .int z.2.1, .int z.2.2.1, .int z.2.2.2.1])), (h3, .inl (X.2.1, 8, .inl safeF)), (h4, .inl (X.2.1, 8, .inl z.1)), (h1, .inr (1, [.int z.2.2.2.2]))] s.heap [] := hw
  have hl : lv_has ls 4 [(0, .ref h2), (1, .int a), (2, .int v)] := hl
  refine lv_aload_n hx hb d_Mo_move_0 rfl (lv_at hl 0 rfl) ?_
  refine lv_iload_n hx hb d_Mo_move_1 rfl (lv_at hl 1 rfl) ?_
  refine ct_callV (rest := []) (As := [.int a]) (n := 1) (wr := []) (W2 := fun _ : Unit => [(h2, .inr (2, [.ref h1, .ref h3, .ref h4, .int z.2.1, .int z.2.2.1, .int z.2.2.2.1])), (h3, .inl (X.2.1, 8, .inl safeF)), (h4, .inl (X.2.1, 8, .inl z.1)), (h1, .inr (1, [.int z.2.2.2.2]))]) hC hw hl.1 (c_Mo_moving l X h1 h2 h3 h4 z a) k_115 k_112 k_113 k_114 k_7 [0, 1, 2, 3] [] [0, 1, 2, 3] rfl rfl rfl rfl rfl rfl (by decide) rfl (fun _ => rfl) (by decide +kernel) ⟨by decide, by decide⟩ rfl (by decide) ⟨by decide, by decide⟩ rfl d_Mo_move_2 (fun u H locs hw => ?_)
  refine W.eq (g2 := F0 m 5 ls [.int (mvg z.2.1 a)]) rfl ?_
  refine lv_istore_n (lv' := [(3, .int (mvg z.2.1 a)), (0, .ref h2), (1, .int a), (2, .int v)]) hx hb d_Mo_move_5 rfl hl (by decide) rfl (fun ls hl => ?_)
  refine lv_iload_n hx hb d_Mo_move_6 rfl (lv_at hl 0 rfl) ?_
  refine lv_if_ne (tgt := 17) hx hb d_Mo_move_7 (by decide) (fun c_7 => ?_) (fun c_7 => ?_)
  · refine lv_iload_n hx hb d_Mo_move_17 rfl (lv_at hl 0 rfl) ?_
    exact ct_iret (F := wM X h1 h2 h3 h4) (z := z) (sp := mv z a v) hC hw (mv_ne c_7) rfl d_Mo_move_18
  · refine lv_aload_n hx hb d_Mo_move_10 rfl (lv_at hl 1 rfl) ?_
    refine ct_get hC hw 0 2 rfl rfl (by decide) k_38 rfl d_Mo_move_11 ?_
    refine lv_iload_n hx hb d_Mo_move_14 rfl (lv_at hl 2 rfl) ?_
    refine lv_iload_n hx hb d_Mo_move_15 rfl (lv_at hl 3 rfl) ?_
    refine ct_iast hC hw 2 (ws' := [(h2, .inr (2, [.ref h1, .ref h3, .ref h4, .int z.2.1, .int z.2.2.1, .int z.2.2.2.1])), (h3, .inl (X.2.1, 8, .inl safeF)), (h4, .inl (X.2.1, 8, .inl (upd z.1 a.toNatClampNeg v))), (h1, .inr (1, [.int z.2.2.2.2]))]) rfl (i_in (n := 8) rfl (mvg_0 c_7).1 (mvg_0 c_7).2.1) rfl d_Mo_move_16 (fun H locs hw => ?_)
    refine lv_iload_n hx hb d_Mo_move_17 rfl (lv_at hl 0 rfl) ?_
    exact ct_iret (F := wM X h1 h2 h3 h4) (z := (upd z.1 a.toNatClampNeg v, z.2.1, z.2.2.1, z.2.2.2.1, z.2.2.2.2)) (sp := mv z a v) hC hw (mv_eq c_7) rfl d_Mo_move_18
set_option maxHeartbeats 4000000 in
set_option maxRecDepth 100000 in
/-- what is wrong with a mode -/
theorem c_Mo_entering (l : Launch) (X : GG) (h1 h2 h3 h4 : Nat) (z : MS) (m0 : Int32) : Ct l y_Mo_entering b_Mo_entering 2 (some .int) ({ frames := 0, cells := 0, slots := 0, locals := 0 } : Room) X [.ref h2, .int m0] (wM X h1 h2 h3 h4 z) (some (.int (ent z.2.1 m0))) (fun _ : Unit => wM X h1 h2 h3 h4 z) := by
  refine ct_enter (by decide) (Nat.le_of_ble_eq_true rfl) ?_
  intro p e s m args below meth c A ls hx hb hC hin hw hl
  have hC : Cx p s m args meth c "ModeKeeper$Modes" b_Mo_entering 2 (some .int) X := hC
  have hw : Wd X A s.heap [(h2, .inr (2, [.ref h1, .ref h3, .ref h4, .int z.2.1, .int z.2.2.1, .int z.2.2.2.1])), (h3, .inl (X.2.1, 8, .inl safeF)), (h4, .inl (X.2.1, 8, .inl z.1)), (h1, .inr (1, [.int z.2.2.2.2]))] s.heap [] := hw
  have hl : lv_has ls 2 [(0, .ref h2), (1, .int m0)] := hl
  refine lv_iload_n hx hb d_Mo_entering_0 rfl (lv_at hl 1 rfl) ?_
  refine lv_if_lt (tgt := 9) hx hb d_Mo_entering_1 (by decide) (fun c_1 => ?_) (fun c_1 => ?_)
  · refine lv_bipush (v := 18) hx hb d_Mo_entering_9 (by decide) ?_
    refine lv_goto (tgt := 32) hx hb d_Mo_entering_11 (by decide) ?_
    exact ct_iret (F := wM X h1 h2 h3 h4) (z := z) (sp := (ent z.2.1 m0, z)) hC hw (by simp [ent, c_1]) rfl d_Mo_entering_32
  · refine lv_iload_n hx hb d_Mo_entering_4 rfl (lv_at hl 1 rfl) ?_
    refine lv_iconst (v := 2) hx hb d_Mo_entering_5 (by decide) ?_
    refine lv_icmp_le (tgt := 14) hx hb d_Mo_entering_6 (by decide) (fun c_6 => ?_) (fun c_6 => ?_)
    · have n_6 : ¬ 3 ≤ m0 := i_leT (by decide) c_6
      refine lv_aload_n hx hb d_Mo_entering_14 rfl (lv_at hl 0 rfl) ?_
      refine ct_get hC hw 0 3 rfl rfl (by decide) k_40 rfl d_Mo_entering_15 ?_
      refine lv_if_ne (tgt := 31) hx hb d_Mo_entering_18 (by decide) (fun c_18 => ?_) (fun c_18 => ?_)
      · refine lv_iconst (v := 0) hx hb d_Mo_entering_31 (by decide) ?_
        exact ct_iret (F := wM X h1 h2 h3 h4) (z := z) (sp := (ent z.2.1 m0, z)) hC hw (by simp [ent, c_1, c_6, n_6, c_18]) rfl d_Mo_entering_32
      · refine lv_iload_n hx hb d_Mo_entering_21 rfl (lv_at hl 1 rfl) ?_
        refine lv_iconst (v := 2) hx hb d_Mo_entering_22 (by decide) ?_
        refine lv_icmp_ne (tgt := 31) hx hb d_Mo_entering_23 (by decide) (fun c_23 => ?_) (fun c_23 => ?_)
        · refine lv_iconst (v := 0) hx hb d_Mo_entering_31 (by decide) ?_
          exact ct_iret (F := wM X h1 h2 h3 h4) (z := z) (sp := (ent z.2.1 m0, z)) hC hw (by simp [ent, c_1, c_6, n_6, c_18, c_23]) rfl d_Mo_entering_32
        · refine lv_bipush (v := 19) hx hb d_Mo_entering_26 (by decide) ?_
          refine lv_goto (tgt := 32) hx hb d_Mo_entering_28 (by decide) ?_
          exact ct_iret (F := wM X h1 h2 h3 h4) (z := z) (sp := (ent z.2.1 m0, z)) hC hw (by simp [ent, c_1, c_6, n_6, c_18, c_23]) rfl d_Mo_entering_32
    · have n_6 : 3 ≤ m0 := i_leF (by decide) c_6
      refine lv_bipush (v := 18) hx hb d_Mo_entering_9 (by decide) ?_
      refine lv_goto (tgt := 32) hx hb d_Mo_entering_11 (by decide) ?_
      exact ct_iret (F := wM X h1 h2 h3 h4) (z := z) (sp := (ent z.2.1 m0, z)) hC hw (by simp [ent, c_1, c_6, n_6]) rfl d_Mo_entering_32
set_option maxHeartbeats 4000000 in
set_option maxRecDepth 100000 in
/-- become: another mode; the safe one brings the safe values; the listener is told -/
theorem c_Mo_become (l : Launch) (X : GG) (h1 h2 h3 h4 : Nat) (z : MS) (m0 : Int32) : Ct l y_Mo_become b_Mo_become 2 none ({ frames := 1, cells := 0, slots := 0, locals := 21 } : Room) X [.ref h2, .int m0] (wM X h1 h2 h3 h4 z) none (fun _ : Unit => wM X h1 h2 h3 h4 (bc z m0)) := by
  refine ct_enter (by decide) (Nat.le_of_ble_eq_true rfl) ?_
  intro p e s m args below meth c A ls hx hb hC hin hw hl
  have hC : Cx p s m args meth c "ModeKeeper$Modes" b_Mo_become 2 none X := hC
  have hw : Wd X A s.heap [(h2, .inr (2, [.ref h1, .ref h3, .ref h4, .int z.2.1, .int z.2.2.1, .int z.2.2.2.1])), (h3, .inl (X.2.1, 8, .inl safeF)), (h4, .inl (X.2.1, 8, .inl z.1)), (h1, .inr (1, [.int z.2.2.2.2]))] s.heap [] := hw
  have hl : lv_has ls 2 [(0, .ref h2), (1, .int m0)] := hl
  refine lv_iload_n hx hb d_Mo_become_0 rfl (lv_at hl 1 rfl) ?_
  refine lv_aload_n hx hb d_Mo_become_1 rfl (lv_at hl 0 rfl) ?_
  refine ct_get hC hw 0 3 rfl rfl (by decide) k_40 rfl d_Mo_become_2 ?_
  refine lv_icmp_ne (tgt := 9) hx hb d_Mo_become_5 (by decide) (fun c_5 => ?_) (fun c_5 => ?_)
  · refine lv_aload_n hx hb d_Mo_become_9 rfl (lv_at hl 0 rfl) ?_
    refine lv_iload_n hx hb d_Mo_become_10 rfl (lv_at hl 1 rfl) ?_
    refine ct_put hC hw 0 3 (ty := .int) (ws' := [(h2, .inr (2, [.ref h1, .ref h3, .ref h4, .int m0, .int z.2.2.1, .int z.2.2.2.1])), (h3, .inl (X.2.1, 8, .inl safeF)), (h4, .inl (X.2.1, 8, .inl z.1)), (h1, .inr (1, [.int z.2.2.2.2]))]) rfl rfl (by decide) k_40 rfl (by decide +kernel) rfl rfl (Nat.le_of_ble_eq_true rfl) rfl d_Mo_become_11 (fun H locs hw => ?_)
    refine lv_iload_n hx hb d_Mo_become_14 rfl (lv_at hl 1 rfl) ?_
    refine lv_if_ne (tgt := 33) hx hb d_Mo_become_15 (by decide) (fun c_15 => ?_) (fun c_15 => ?_)
    · refine lv_aload_n hx hb d_Mo_become_33 rfl (lv_at hl 0 rfl) ?_
      refine ct_get hC hw 0 0 rfl rfl (by decide) k_36 rfl d_Mo_become_34 ?_
      refine lv_iload_n hx hb d_Mo_become_37 rfl (lv_at hl 1 rfl) ?_
      refine ct_callF (rest := []) (As := [.int m0]) (n := 1) (wr := [(h2, .inr (2, [.ref h1, .ref h3, .ref h4, .int m0, .int z.2.2.1, .int z.2.2.2.1])), (h3, .inl (X.2.1, 8, .inl safeF)), (h4, .inl (X.2.1, 8, .inl z.1))]) (W2 := fun _ : Unit => [(h2, .inr (2, [.ref h1, .ref h3, .ref h4, .int m0, .int z.2.2.1, .int z.2.2.2.1])), (h3, .inl (X.2.1, 8, .inl safeF)), (h4, .inl (X.2.1, 8, .inl z.1)), (h1, .inr (1, [.int (z.2.2.2.2 + 1)]))]) hC hw hl.1 (c_Co_changed l X h1 z.2.2.2.2 m0) k_144 k_136 k_142 k_140 k_6 [3] [0, 1, 2] [0, 1, 2, 3] rfl rfl rfl rfl rfl rfl (by decide) rfl (fun _ => rfl) (by decide +kernel) ⟨by decide, by decide⟩ rfl (by decide) ⟨by decide, by decide⟩ rfl d_Mo_become_38 (fun u H locs hw => ?_)
      refine W.eq (g2 := F0 m 43 ls []) rfl ?_
      exact ct_vret hC hw () (congrArg (wM X h1 h2 h3 h4) (a₁ := (z.1, m0, z.2.2.1, z.2.2.2.1, z.2.2.2.2 + 1)) (by unfold bc; rw [if_neg c_5, if_neg c_15])) d_Mo_become_43
    · refine lv_aload_n hx hb d_Mo_become_18 rfl (lv_at hl 0 rfl) ?_
      refine ct_get hC hw 0 1 rfl rfl (by decide) k_37 rfl d_Mo_become_19 ?_
      refine lv_iconst (v := 0) hx hb d_Mo_become_22 (by decide) ?_
      refine lv_aload_n hx hb d_Mo_become_23 rfl (lv_at hl 0 rfl) ?_
      refine ct_get hC hw 0 2 rfl rfl (by decide) k_38 rfl d_Mo_become_24 ?_
      refine lv_iconst (v := 0) hx hb d_Mo_become_27 (by decide) ?_
      refine lv_bipush (v := 8) hx hb d_Mo_become_28 (by decide) ?_
      refine ct_copy hC hw hl.1 k_132 1 2 0 (ws' := [(h2, .inr (2, [.ref h1, .ref h3, .ref h4, .int m0, .int z.2.2.1, .int z.2.2.2.1])), (h3, .inl (X.2.1, 8, .inl safeF)), (h4, .inl (X.2.1, 8, .inl (va_cpy safeF z.1 (0 : Int32).toNatClampNeg (0 : Int32).toNatClampNeg (8 : Int32).toNatClampNeg))), (h1, .inr (1, [.int z.2.2.2.2]))]) rfl rfl rfl rfl (by decide) (by decide) (by decide) (by decide) (by decide) (fun _ _ => rfl) (by decide) (by decide) rfl d_Mo_become_30 (fun H locs hw => ?_)
      refine lv_aload_n hx hb d_Mo_become_33 rfl (lv_at hl 0 rfl) ?_
      refine ct_get hC hw 0 0 rfl rfl (by decide) k_36 rfl d_Mo_become_34 ?_
      refine lv_iload_n hx hb d_Mo_become_37 rfl (lv_at hl 1 rfl) ?_
      refine ct_callF (rest := []) (As := [.int m0]) (n := 1) (wr := [(h2, .inr (2, [.ref h1, .ref h3, .ref h4, .int m0, .int z.2.2.1, .int z.2.2.2.1])), (h3, .inl (X.2.1, 8, .inl safeF)), (h4, .inl (X.2.1, 8, .inl (va_cpy safeF z.1 (0 : Int32).toNatClampNeg (0 : Int32).toNatClampNeg (8 : Int32).toNatClampNeg)))]) (W2 := fun _ : Unit => [(h2, .inr (2, [.ref h1, .ref h3, .ref h4, .int m0, .int z.2.2.1, .int z.2.2.2.1])), (h3, .inl (X.2.1, 8, .inl safeF)), (h4, .inl (X.2.1, 8, .inl (va_cpy safeF z.1 (0 : Int32).toNatClampNeg (0 : Int32).toNatClampNeg (8 : Int32).toNatClampNeg))), (h1, .inr (1, [.int (z.2.2.2.2 + 1)]))]) hC hw hl.1 (c_Co_changed l X h1 z.2.2.2.2 m0) k_144 k_136 k_142 k_140 k_6 [3] [0, 1, 2] [0, 1, 2, 3] rfl rfl rfl rfl rfl rfl (by decide) rfl (fun _ => rfl) (by decide +kernel) ⟨by decide, by decide⟩ rfl (by decide) ⟨by decide, by decide⟩ rfl d_Mo_become_38 (fun u H locs hw => ?_)
      refine W.eq (g2 := F0 m 43 ls []) rfl ?_
      exact ct_vret hC hw () (congrArg (wM X h1 h2 h3 h4) (a₁ := (va_cpy safeF z.1 (0 : Int32).toNatClampNeg (0 : Int32).toNatClampNeg (8 : Int32).toNatClampNeg, m0, z.2.2.1, z.2.2.2.1, z.2.2.2.2 + 1)) (by unfold bc; rw [if_neg c_5, if_pos c_15]; rfl)) d_Mo_become_43
  · exact ct_vret hC hw () (congrArg (wM X h1 h2 h3 h4) (a₁ := z) (by unfold bc; rw [if_pos c_5])) d_Mo_become_8
set_option maxHeartbeats 4000000 in
set_option maxRecDepth 100000 in
/-- enter -/
theorem c_Mo_enter (l : Launch) (X : GG) (h1 h2 h3 h4 : Nat) (z : MS) (m0 : Int32) : Ct l y_Mo_enter b_Mo_enter 3 (some .int) ({ frames := 2, cells := 0, slots := 0, locals := 42 } : Room) X [.ref h2, .int m0] (wM X h1 h2 h3 h4 z) (some (.int ((en z m0).1))) (fun _ : Unit => wM X h1 h2 h3 h4 (en z m0).2) := by
  refine ct_enter (by decide) (Nat.le_of_ble_eq_true rfl) ?_
  intro p e s m args below meth c A ls hx hb hC hin hw hl
  have hC : Cx p s m args meth c "ModeKeeper$Modes" b_Mo_enter 3 (some .int) X := hC
  have hw : Wd X A s.heap [(h2, .inr (2, [.ref h1, .ref h3, .ref h4, .int z.2.1, .int z.2.2.1, .int z.2.2.2.1])), (h3, .inl (X.2.1, 8, .inl safeF)), (h4, .inl (X.2.1, 8, .inl z.1)), (h1, .inr (1, [.int z.2.2.2.2]))] s.heap [] := hw
  have hl : lv_has ls 3 [(0, .ref h2), (1, .int m0)] := hl
  refine lv_aload_n hx hb d_Mo_enter_0 rfl (lv_at hl 0 rfl) ?_
  refine lv_iload_n hx hb d_Mo_enter_1 rfl (lv_at hl 1 rfl) ?_
  refine ct_callV (rest := []) (As := [.int m0]) (n := 1) (wr := []) (W2 := fun _ : Unit => [(h2, .inr (2, [.ref h1, .ref h3, .ref h4, .int z.2.1, .int z.2.2.1, .int z.2.2.2.1])), (h3, .inl (X.2.1, 8, .inl safeF)), (h4, .inl (X.2.1, 8, .inl z.1)), (h1, .inr (1, [.int z.2.2.2.2]))]) hC hw hl.1 (c_Mo_entering l X h1 h2 h3 h4 z m0) k_127 k_124 k_125 k_126 k_7 [0, 1, 2, 3] [] [0, 1, 2, 3] rfl rfl rfl rfl rfl rfl (by decide) rfl (fun _ => rfl) (by decide +kernel) ⟨by decide, by decide⟩ rfl (by decide) ⟨by decide, by decide⟩ rfl d_Mo_enter_2 (fun u H locs hw => ?_)
  refine W.eq (g2 := F0 m 5 ls [.int (ent z.2.1 m0)]) rfl ?_
  refine lv_istore_n (lv' := [(2, .int (ent z.2.1 m0)), (0, .ref h2), (1, .int m0)]) hx hb d_Mo_enter_5 rfl hl (by decide) rfl (fun ls hl => ?_)
  refine lv_iload_n hx hb d_Mo_enter_6 rfl (lv_at hl 0 rfl) ?_
  refine lv_if_ne (tgt := 15) hx hb d_Mo_enter_7 (by decide) (fun c_7 => ?_) (fun c_7 => ?_)
  · refine lv_iload_n hx hb d_Mo_enter_15 rfl (lv_at hl 0 rfl) ?_
    exact ct_iret (F := wM X h1 h2 h3 h4) (z := z) (sp := en z m0) hC hw (en_ne c_7) rfl d_Mo_enter_16
  · refine lv_aload_n hx hb d_Mo_enter_10 rfl (lv_at hl 1 rfl) ?_
    refine lv_iload_n hx hb d_Mo_enter_11 rfl (lv_at hl 2 rfl) ?_
    refine ct_callV (rest := []) (As := [.int m0]) (n := 1) (wr := []) (W2 := fun _ : Unit => [(h2, .inr (2, [.ref h1, .ref h3, .ref h4, .int ((bc z m0).2.1), .int ((bc z m0).2.2.1), .int ((bc z m0).2.2.2.1)])), (h3, .inl (X.2.1, 8, .inl safeF)), (h4, .inl (X.2.1, 8, .inl ((bc z m0).1))), (h1, .inr (1, [.int ((bc z m0).2.2.2.2)]))]) hC hw hl.1 (c_Mo_become l X h1 h2 h3 h4 z m0) k_131 k_128 k_130 k_0 k_7 [0, 1, 2, 3] [] [0, 1, 2, 3] rfl rfl rfl rfl rfl rfl (by decide) rfl (fun _ => rfl) (by decide +kernel) ⟨by decide, by decide⟩ rfl (by decide) ⟨by decide, by decide⟩ rfl d_Mo_enter_12 (fun u H locs hw => ?_)
    refine W.eq (g2 := F0 m 15 ls []) rfl ?_
    refine lv_iload_n hx hb d_Mo_enter_15 rfl (lv_at hl 0 rfl) ?_
    exact ct_iret (F := wM X h1 h2 h3 h4) (z := (bc z m0)) (sp := en z m0) hC hw (en_eq c_7) rfl d_Mo_enter_16
set_option maxHeartbeats 4000000 in
set_option maxRecDepth 100000 in
/-- alarm -/
theorem c_Mo_alarm (l : Launch) (X : GG) (h1 h2 h3 h4 : Nat) (z : MS) (tk : Int32) : Ct l y_Mo_alarm b_Mo_alarm 2 (some .boolean) ({ frames := 0, cells := 0, slots := 0, locals := 0 } : Room) X [.ref h2, .int tk] (wM X h1 h2 h3 h4 z) (some (.int ((al z tk).1))) (fun _ : Unit => wM X h1 h2 h3 h4 (al z tk).2) := by
  refine ct_enter (by decide) (Nat.le_of_ble_eq_true rfl) ?_
  intro p e s m args below meth c A ls hx hb hC hin hw hl
  have hC : Cx p s m args meth c "ModeKeeper$Modes" b_Mo_alarm 2 (some .boolean) X := hC
  have hw : Wd X A s.heap [(h2, .inr (2, [.ref h1, .ref h3, .ref h4, .int z.2.1, .int z.2.2.1, .int z.2.2.2.1])), (h3, .inl (X.2.1, 8, .inl safeF)), (h4, .inl (X.2.1, 8, .inl z.1)), (h1, .inr (1, [.int z.2.2.2.2]))] s.heap [] := hw
  have hl : lv_has ls 2 [(0, .ref h2), (1, .int tk)] := hl
  refine lv_aload_n hx hb d_Mo_alarm_0 rfl (lv_at hl 0 rfl) ?_
  refine ct_get hC hw 0 4 rfl rfl (by decide) k_42 rfl d_Mo_alarm_1 ?_
  refine lv_if_eq (tgt := 9) hx hb d_Mo_alarm_4 (by decide) (fun c_4 => ?_) (fun c_4 => ?_)
  · refine lv_aload_n hx hb d_Mo_alarm_9 rfl (lv_at hl 0 rfl) ?_
    refine lv_iconst (v := 1) hx hb d_Mo_alarm_10 (by decide) ?_
    refine ct_put hC hw 0 4 (ty := .boolean) (ws' := [(h2, .inr (2, [.ref h1, .ref h3, .ref h4, .int z.2.1, .int 1, .int z.2.2.2.1])), (h3, .inl (X.2.1, 8, .inl safeF)), (h4, .inl (X.2.1, 8, .inl z.1)), (h1, .inr (1, [.int z.2.2.2.2]))]) rfl rfl (by decide) k_42 rfl (by decide +kernel) rfl rfl (Nat.le_of_ble_eq_true rfl) rfl d_Mo_alarm_11 (fun H locs hw => ?_)
    refine lv_aload_n hx hb d_Mo_alarm_14 rfl (lv_at hl 0 rfl) ?_
    refine lv_iload_n hx hb d_Mo_alarm_15 rfl (lv_at hl 1 rfl) ?_
    refine ct_put hC hw 0 5 (ty := .int) (ws' := [(h2, .inr (2, [.ref h1, .ref h3, .ref h4, .int z.2.1, .int 1, .int tk])), (h3, .inl (X.2.1, 8, .inl safeF)), (h4, .inl (X.2.1, 8, .inl z.1)), (h1, .inr (1, [.int z.2.2.2.2]))]) rfl rfl (by decide) k_44 rfl (by decide +kernel) rfl rfl (Nat.le_of_ble_eq_true rfl) rfl d_Mo_alarm_16 (fun H locs hw => ?_)
    refine lv_iconst (v := 1) hx hb d_Mo_alarm_19 (by decide) ?_
    exact ct_zret (F := wM X h1 h2 h3 h4) (z := (z.1, z.2.1, 1, tk, z.2.2.2.2)) (sp := al z tk) hC hw (Or.inr rfl) (by simp [al, c_4]) rfl d_Mo_alarm_20
  · refine lv_iconst (v := 0) hx hb d_Mo_alarm_7 (by decide) ?_
    exact ct_zret (F := wM X h1 h2 h3 h4) (z := z) (sp := al z tk) hC hw (Or.inl rfl) (by simp [al, c_4]) rfl d_Mo_alarm_8
set_option maxHeartbeats 4000000 in
set_option maxRecDepth 100000 in
/-- look -/
theorem c_Mo_look (l : Launch) (X : GG) (h1 h2 h3 h4 : Nat) (z : MS) (tk : Int32) : Ct l y_Mo_look b_Mo_look 3 (some .boolean) ({ frames := 2, cells := 0, slots := 0, locals := 42 } : Room) X [.ref h2, .int tk] (wM X h1 h2 h3 h4 z) (some (.int ((lk z tk).1))) (fun _ : Unit => wM X h1 h2 h3 h4 (lk z tk).2) := by
  refine ct_enter (by decide) (Nat.le_of_ble_eq_true rfl) ?_
  intro p e s m args below meth c A ls hx hb hC hin hw hl
  have hC : Cx p s m args meth c "ModeKeeper$Modes" b_Mo_look 3 (some .boolean) X := hC
  have hw : Wd X A s.heap [(h2, .inr (2, [.ref h1, .ref h3, .ref h4, .int z.2.1, .int z.2.2.1, .int z.2.2.2.1])), (h3, .inl (X.2.1, 8, .inl safeF)), (h4, .inl (X.2.1, 8, .inl z.1)), (h1, .inr (1, [.int z.2.2.2.2]))] s.heap [] := hw
  have hl : lv_has ls 3 [(0, .ref h2), (1, .int tk)] := hl
  refine lv_aload_n hx hb d_Mo_look_0 rfl (lv_at hl 0 rfl) ?_
  refine ct_get hC hw 0 4 rfl rfl (by decide) k_42 rfl d_Mo_look_1 ?_
  refine lv_if_eq (tgt := 15) hx hb d_Mo_look_4 (by decide) (fun c_4 => ?_) (fun c_4 => ?_)
  · refine lv_iconst (v := 0) hx hb d_Mo_look_15 (by decide) ?_
    exact ct_zret (F := wM X h1 h2 h3 h4) (z := z) (sp := lk z tk) hC hw (Or.inl rfl) (by simp [lk, c_4]) rfl d_Mo_look_16
  · refine lv_aload_n hx hb d_Mo_look_7 rfl (lv_at hl 0 rfl) ?_
    refine ct_get hC hw 0 5 rfl rfl (by decide) k_44 rfl d_Mo_look_8 ?_
    refine lv_iload_n hx hb d_Mo_look_11 rfl (lv_at hl 1 rfl) ?_
    refine lv_icmp_le (tgt := 17) hx hb d_Mo_look_12 (by decide) (fun c_12 => ?_) (fun c_12 => ?_)
    · refine lv_aload_n hx hb d_Mo_look_17 rfl (lv_at hl 0 rfl) ?_
      refine lv_iconst (v := 0) hx hb d_Mo_look_18 (by decide) ?_
      refine ct_put hC hw 0 4 (ty := .boolean) (ws' := [(h2, .inr (2, [.ref h1, .ref h3, .ref h4, .int z.2.1, .int 0, .int z.2.2.2.1])), (h3, .inl (X.2.1, 8, .inl safeF)), (h4, .inl (X.2.1, 8, .inl z.1)), (h1, .inr (1, [.int z.2.2.2.2]))]) rfl rfl (by decide) k_42 rfl (by decide +kernel) rfl rfl (Nat.le_of_ble_eq_true rfl) rfl d_Mo_look_19 (fun H locs hw => ?_)
      refine lv_aload_n hx hb d_Mo_look_22 rfl (lv_at hl 0 rfl) ?_
      refine ct_get hC hw 0 3 rfl rfl (by decide) k_40 rfl d_Mo_look_23 ?_
      refine lv_if_eq (tgt := 33) hx hb d_Mo_look_26 (by decide) (fun c_26 => ?_) (fun c_26 => ?_)
      · refine lv_iconst (v := 0) hx hb d_Mo_look_33 (by decide) ?_
        refine lv_istore_n (lv' := [(2, .int 0), (0, .ref h2), (1, .int tk)]) hx hb d_Mo_look_34 rfl hl (by decide) rfl (fun ls hl => ?_)
        refine lv_aload_n hx hb d_Mo_look_35 rfl (lv_at hl 1 rfl) ?_
        refine lv_iconst (v := 0) hx hb d_Mo_look_36 (by decide) ?_
        refine ct_callV (rest := []) (As := [.int 0]) (n := 1) (wr := []) (W2 := fun _ : Unit => [(h2, .inr (2, [.ref h1, .ref h3, .ref h4, .int ((bc (z.1, z.2.1, 0, z.2.2.2.1, z.2.2.2.2) 0).2.1), .int ((bc (z.1, z.2.1, 0, z.2.2.2.1, z.2.2.2.2) 0).2.2.1), .int ((bc (z.1, z.2.1, 0, z.2.2.2.1, z.2.2.2.2) 0).2.2.2.1)])), (h3, .inl (X.2.1, 8, .inl safeF)), (h4, .inl (X.2.1, 8, .inl ((bc (z.1, z.2.1, 0, z.2.2.2.1, z.2.2.2.2) 0).1))), (h1, .inr (1, [.int ((bc (z.1, z.2.1, 0, z.2.2.2.1, z.2.2.2.2) 0).2.2.2.2)]))]) hC hw hl.1 (c_Mo_become l X h1 h2 h3 h4 (z.1, z.2.1, 0, z.2.2.2.1, z.2.2.2.2) 0) k_131 k_128 k_130 k_0 k_7 [0, 1, 2, 3] [] [0, 1, 2, 3] rfl rfl rfl rfl rfl rfl (by decide) rfl (fun _ => rfl) (by decide +kernel) ⟨by decide, by decide⟩ rfl (by decide) ⟨by decide, by decide⟩ rfl d_Mo_look_37 (fun u H locs hw => ?_)
        refine W.eq (g2 := F0 m 40 ls []) rfl ?_
        refine lv_iload_n hx hb d_Mo_look_40 rfl (lv_at hl 0 rfl) ?_
        exact ct_zret (F := wM X h1 h2 h3 h4) (z := (bc (z.1, z.2.1, 0, z.2.2.2.1, z.2.2.2.2) 0)) (sp := lk z tk) hC hw (Or.inl rfl) (by simp [lk, c_4, c_12, c_26]) rfl d_Mo_look_41
      · refine lv_iconst (v := 1) hx hb d_Mo_look_29 (by decide) ?_
        refine lv_goto (tgt := 34) hx hb d_Mo_look_30 (by decide) ?_
        refine lv_istore_n (lv' := [(2, .int 1), (0, .ref h2), (1, .int tk)]) hx hb d_Mo_look_34 rfl hl (by decide) rfl (fun ls hl => ?_)
        refine lv_aload_n hx hb d_Mo_look_35 rfl (lv_at hl 1 rfl) ?_
        refine lv_iconst (v := 0) hx hb d_Mo_look_36 (by decide) ?_
        refine ct_callV (rest := []) (As := [.int 0]) (n := 1) (wr := []) (W2 := fun _ : Unit => [(h2, .inr (2, [.ref h1, .ref h3, .ref h4, .int ((bc (z.1, z.2.1, 0, z.2.2.2.1, z.2.2.2.2) 0).2.1), .int ((bc (z.1, z.2.1, 0, z.2.2.2.1, z.2.2.2.2) 0).2.2.1), .int ((bc (z.1, z.2.1, 0, z.2.2.2.1, z.2.2.2.2) 0).2.2.2.1)])), (h3, .inl (X.2.1, 8, .inl safeF)), (h4, .inl (X.2.1, 8, .inl ((bc (z.1, z.2.1, 0, z.2.2.2.1, z.2.2.2.2) 0).1))), (h1, .inr (1, [.int ((bc (z.1, z.2.1, 0, z.2.2.2.1, z.2.2.2.2) 0).2.2.2.2)]))]) hC hw hl.1 (c_Mo_become l X h1 h2 h3 h4 (z.1, z.2.1, 0, z.2.2.2.1, z.2.2.2.2) 0) k_131 k_128 k_130 k_0 k_7 [0, 1, 2, 3] [] [0, 1, 2, 3] rfl rfl rfl rfl rfl rfl (by decide) rfl (fun _ => rfl) (by decide +kernel) ⟨by decide, by decide⟩ rfl (by decide) ⟨by decide, by decide⟩ rfl d_Mo_look_37 (fun u H locs hw => ?_)
        refine W.eq (g2 := F0 m 40 ls []) rfl ?_
        refine lv_iload_n hx hb d_Mo_look_40 rfl (lv_at hl 0 rfl) ?_
        exact ct_zret (F := wM X h1 h2 h3 h4) (z := (bc (z.1, z.2.1, 0, z.2.2.2.1, z.2.2.2.2) 0)) (sp := lk z tk) hC hw (Or.inr rfl) (by simp [lk, c_4, c_12, c_26]) rfl d_Mo_look_41
    · refine lv_iconst (v := 0) hx hb d_Mo_look_15 (by decide) ?_
      exact ct_zret (F := wM X h1 h2 h3 h4) (z := z) (sp := lk z tk) hC hw (Or.inl rfl) (by simp [lk, c_4, c_12]) rfl d_Mo_look_16
end
section
theorem add_ok {i0 n : Int32} (h0 : ¬ i0 < 0) (h1 : ¬ 256 ≤ i0) (h2 : ¬ n < 1) (h3 : ¬ 8 < n) : ¬ 8 * i0 < 0 ∧ ¬ n < 0 ∧ (0 : Int32).toNatClampNeg + n.toNatClampNeg ≤ 8 ∧ (8 * i0).toNatClampNeg + n.toNatClampNeg ≤ 2048 := by
  obtain ⟨g1, -, g3, -, g5⟩ := i_8k (k := 0) (by decide) h0 h1
  rw [i_lt] at h2 h3
  have e1 : (1 : Int32).toInt = 1 := rfl
  have e8 : (8 : Int32).toInt = 8 := rfl
  have e0 : (0 : Int32).toInt = 0 := rfl
  have hn : ¬ n < 0 := by rw [i_lt]; omega
  have hc := i_clN hn
  rw [g1, i_cl00]
  exact ⟨g3, hn, by omega, by omega⟩
theorem du_out {f : FS} {tk i : Int32} (h0 : ¬ i < 0) (h : 256 ≤ i) : duA f tk i.toNatClampNeg (256 - i.toNatClampNeg) = -1 := by
  have hc := i_clN h0
  rw [i_le] at h
  have e1 : (256 : Int32).toInt = 256 := rfl
  rw [show 256 - i.toNatClampNeg = 0 by omega]
  rfl
theorem du_cl {i : Int32} (h0 : ¬ i < 0) (h1 : ¬ 256 ≤ i) : i.toNatClampNeg < 256 ∧ nI i.toNatClampNeg = i ∧ (i + 1).toNatClampNeg = i.toNatClampNeg + 1 ∧ ¬ i + 1 < 0 := by
  obtain ⟨j, hj, rfl⟩ := i_nat (n := 256) rfl (by decide) h0 h1
  rw [nI_1, nI_clamp (by omega), nI_clamp (by omega)]
  exact ⟨hj, rfl, rfl, nI_pos (by omega)⟩
theorem du_hit {f : FS} {tk i : Int32} (h0 : ¬ i < 0) (h1 : ¬ 256 ≤ i) (hh : hit f tk i.toNatClampNeg) : duA f tk i.toNatClampNeg (256 - i.toNatClampNeg) = i := by
  obtain ⟨g1, g2, -, -⟩ := du_cl h0 h1
  rw [duA_1 g1, if_pos hh, g2]
theorem du_miss {f : FS} {tk i : Int32} (h0 : ¬ i < 0) (h1 : ¬ 256 ≤ i) (hh : ¬ hit f tk i.toNatClampNeg) : duA f tk i.toNatClampNeg (256 - i.toNatClampNeg) = duA f tk (i + 1).toNatClampNeg (256 - (i + 1).toNatClampNeg) ∧ ¬ i + 1 < 0 ∧ 256 - (i + 1).toNatClampNeg < 256 - i.toNatClampNeg := by
  obtain ⟨g1, g2, g3, g4⟩ := du_cl h0 h1
  rw [duA_1 g1, if_neg hh, g3]
  exact ⟨rfl, g4, by omega⟩
theorem pos_of {x : Int32} (h0 : ¬ x < 0) (h1 : ¬ x = 0) : ¬ x ≤ 0 := by
  intro h
  apply h1
  rw [i_le] at h
  rw [i_lt] at h0
  exact Int32.toInt_inj.mp (by omega)
set_option maxHeartbeats 4000000 in
set_option maxRecDepth 100000 in
/-- whether a form is there -/
theorem c_Fo_is (l : Launch) (X : GG) (h5 h6 h7 h8 h9 : Nat) (f : FS) (i0 : Int32) : Ct l y_Fo_is b_Fo_is 2 (some .boolean) ({ frames := 0, cells := 0, slots := 0, locals := 0 } : Room) X [.ref h5, .int i0] (wF X h5 h6 h7 h8 h9 f) (some (.int (isI f.1 i0))) (fun _ : Unit => wF X h5 h6 h7 h8 h9 f) := by
  refine ct_enter (by decide) (Nat.le_of_ble_eq_true rfl) ?_
  intro p e s m args below meth c A ls hx hb hC hin hw hl
  have hC : Cx p s m args meth c "ModeKeeper$Forms" b_Fo_is 2 (some .boolean) X := hC
  have hw : Wd X A s.heap [(h5, .inr (3, [.ref h6, .ref h7, .ref h8, .ref h9, .int f.2.2.2.2])), (h6, .inl (X.2.1, 256, .inl f.1)), (h7, .inl (X.2.2.1, 256, .inl f.2.1)), (h8, .inl (X.2.2.2, 2048, .inl f.2.2.1)), (h9, .inl (X.2.1, 256, .inl f.2.2.2.1))] s.heap [] := hw
  have hl : lv_has ls 2 [(0, .ref h5), (1, .int i0)] := hl
  refine lv_iload_n hx hb d_Fo_is_0 rfl (lv_at hl 1 rfl) ?_
  refine lv_if_lt (tgt := 24) hx hb d_Fo_is_1 (by decide) (fun c_1 => ?_) (fun c_1 => ?_)
  · refine lv_iconst (v := 0) hx hb d_Fo_is_24 (by decide) ?_
    exact ct_zret (F := wF X h5 h6 h7 h8 h9) (z := f) (sp := (isI f.1 i0, f)) hC hw (Or.inl rfl) (by simp [isI, c_1]) rfl d_Fo_is_25
  · refine lv_iload_n hx hb d_Fo_is_4 rfl (lv_at hl 1 rfl) ?_
    refine lv_sipush (v := 256) hx hb d_Fo_is_5 (by decide) ?_
    refine lv_icmp_ge (tgt := 24) hx hb d_Fo_is_8 (by decide) (fun c_8 => ?_) (fun c_8 => ?_)
    · refine lv_iconst (v := 0) hx hb d_Fo_is_24 (by decide) ?_
      exact ct_zret (F := wF X h5 h6 h7 h8 h9) (z := f) (sp := (isI f.1 i0, f)) hC hw (Or.inl rfl) (by simp [isI, c_1, c_8]) rfl d_Fo_is_25
    · refine lv_aload_n hx hb d_Fo_is_11 rfl (lv_at hl 0 rfl) ?_
      refine ct_get hC hw 0 0 rfl rfl (by decide) k_66 rfl d_Fo_is_12 ?_
      refine lv_iload_n hx hb d_Fo_is_15 rfl (lv_at hl 1 rfl) ?_
      refine ct_iald hC hw 1 rfl (i_in (n := 256) rfl c_1 c_8) d_Fo_is_16 ?_
      refine lv_if_le (tgt := 24) hx hb d_Fo_is_17 (by decide) (fun c_17 => ?_) (fun c_17 => ?_)
      · refine lv_iconst (v := 0) hx hb d_Fo_is_24 (by decide) ?_
        exact ct_zret (F := wF X h5 h6 h7 h8 h9) (z := f) (sp := (isI f.1 i0, f)) hC hw (Or.inl rfl) (by simp [isI, c_1, c_8, c_17]) rfl d_Fo_is_25
      · refine lv_iconst (v := 1) hx hb d_Fo_is_20 (by decide) ?_
        refine lv_goto (tgt := 25) hx hb d_Fo_is_21 (by decide) ?_
        exact ct_zret (F := wF X h5 h6 h7 h8 h9) (z := f) (sp := (isI f.1 i0, f)) hC hw (Or.inr rfl) (by simp [isI, c_1, c_8, c_17]) rfl d_Fo_is_25
set_option maxHeartbeats 4000000 in
set_option maxRecDepth 100000 in
/-- remove -/
theorem c_Fo_remove (l : Launch) (X : GG) (h5 h6 h7 h8 h9 : Nat) (f : FS) (i0 : Int32) : Ct l y_Fo_remove b_Fo_remove 2 (some .int) ({ frames := 1, cells := 0, slots := 0, locals := 21 } : Room) X [.ref h5, .int i0] (wF X h5 h6 h7 h8 h9 f) (some (.int ((rv f i0).1))) (fun _ : Unit => wF X h5 h6 h7 h8 h9 (rv f i0).2) := by
  refine ct_enter (by decide) (Nat.le_of_ble_eq_true rfl) ?_
  intro p e s m args below meth c A ls hx hb hC hin hw hl
  have hC : Cx p s m args meth c "ModeKeeper$Forms" b_Fo_remove 2 (some .int) X := hC
  have hw : Wd X A s.heap [(h5, .inr (3, [.ref h6, .ref h7, .ref h8, .ref h9, .int f.2.2.2.2])), (h6, .inl (X.2.1, 256, .inl f.1)), (h7, .inl (X.2.2.1, 256, .inl f.2.1)), (h8, .inl (X.2.2.2, 2048, .inl f.2.2.1)), (h9, .inl (X.2.1, 256, .inl f.2.2.2.1))] s.heap [] := hw
  have hl : lv_has ls 2 [(0, .ref h5), (1, .int i0)] := hl
  refine lv_aload_n hx hb d_Fo_remove_0 rfl (lv_at hl 0 rfl) ?_
  refine lv_iload_n hx hb d_Fo_remove_1 rfl (lv_at hl 1 rfl) ?_
  refine ct_callV (rest := []) (As := [.int i0]) (n := 1) (wr := []) (W2 := fun _ : Unit => [(h5, .inr (3, [.ref h6, .ref h7, .ref h8, .ref h9, .int f.2.2.2.2])), (h6, .inl (X.2.1, 256, .inl f.1)), (h7, .inl (X.2.2.1, 256, .inl f.2.1)), (h8, .inl (X.2.2.2, 2048, .inl f.2.2.1)), (h9, .inl (X.2.1, 256, .inl f.2.2.2.1))]) hC hw hl.1 (c_Fo_is l X h5 h6 h7 h8 h9 f i0) k_185 k_182 k_183 k_184 k_8 [0, 1, 2, 3, 4] [] [0, 1, 2, 3, 4] rfl rfl rfl rfl rfl rfl (by decide) rfl (fun _ => rfl) (by decide +kernel) ⟨by decide, by decide⟩ rfl (by decide) ⟨by decide, by decide⟩ rfl d_Fo_remove_2 (fun u H locs hw => ?_)
  refine W.eq (g2 := F0 m 5 ls [.int (isI f.1 i0)]) rfl ?_
  refine lv_if_ne (tgt := 11) hx hb d_Fo_remove_5 (by decide) (fun c_5 => ?_) (fun c_5 => ?_)
  · refine lv_aload_n hx hb d_Fo_remove_11 rfl (lv_at hl 0 rfl) ?_
    refine ct_get hC hw 0 1 rfl rfl (by decide) k_68 rfl d_Fo_remove_12 ?_
    refine lv_iload_n hx hb d_Fo_remove_15 rfl (lv_at hl 1 rfl) ?_
    refine ct_zald hC hw 2 rfl (i_in (n := 256) rfl (isI_ne c_5).1 (isI_ne c_5).2.1) d_Fo_remove_16 ?_
    refine lv_if_eq (tgt := 23) hx hb d_Fo_remove_17 (by decide) (fun c_17 => ?_) (fun c_17 => ?_)
    · refine lv_aload_n hx hb d_Fo_remove_23 rfl (lv_at hl 0 rfl) ?_
      refine ct_get hC hw 0 0 rfl rfl (by decide) k_66 rfl d_Fo_remove_24 ?_
      refine lv_iload_n hx hb d_Fo_remove_27 rfl (lv_at hl 1 rfl) ?_
      refine lv_iconst (v := 0) hx hb d_Fo_remove_28 (by decide) ?_
      refine ct_iast hC hw 1 (ws' := [(h5, .inr (3, [.ref h6, .ref h7, .ref h8, .ref h9, .int f.2.2.2.2])), (h6, .inl (X.2.1, 256, .inl (upd f.1 i0.toNatClampNeg 0))), (h7, .inl (X.2.2.1, 256, .inl f.2.1)), (h8, .inl (X.2.2.2, 2048, .inl f.2.2.1)), (h9, .inl (X.2.1, 256, .inl f.2.2.2.1))]) rfl (i_in (n := 256) rfl (isI_ne c_5).1 (isI_ne c_5).2.1) rfl d_Fo_remove_29 (fun H locs hw => ?_)
      refine lv_aload_n hx hb d_Fo_remove_30 rfl (lv_at hl 0 rfl) ?_
      refine lv_dup hx hb d_Fo_remove_31 rfl ?_
      refine ct_get hC hw 0 4 rfl rfl (by decide) k_73 rfl d_Fo_remove_32 ?_
      refine lv_iconst (v := 1) hx hb d_Fo_remove_35 (by decide) ?_
      refine lv_isub hx hb d_Fo_remove_36 ?_
      refine ct_put hC hw 0 4 (ty := .int) (ws' := [(h5, .inr (3, [.ref h6, .ref h7, .ref h8, .ref h9, .int (f.2.2.2.2 - 1)])), (h6, .inl (X.2.1, 256, .inl (upd f.1 i0.toNatClampNeg 0))), (h7, .inl (X.2.2.1, 256, .inl f.2.1)), (h8, .inl (X.2.2.2, 2048, .inl f.2.2.1)), (h9, .inl (X.2.1, 256, .inl f.2.2.2.1))]) rfl rfl (by decide) k_73 rfl (by decide +kernel) rfl rfl (Nat.le_of_ble_eq_true rfl) rfl d_Fo_remove_37 (fun H locs hw => ?_)
      refine lv_iconst (v := 0) hx hb d_Fo_remove_40 (by decide) ?_
      exact ct_iret (F := wF X h5 h6 h7 h8 h9) (z := (upd f.1 i0.toNatClampNeg 0, f.2.1, f.2.2.1, f.2.2.2.1, f.2.2.2.2 - 1)) (sp := rv f i0) hC hw (by simp [rv, c_5, c_17]) rfl d_Fo_remove_41
    · refine lv_bipush (v := 15) hx hb d_Fo_remove_20 (by decide) ?_
      exact ct_iret (F := wF X h5 h6 h7 h8 h9) (z := f) (sp := rv f i0) hC hw (by simp [rv, c_5, c_17]) rfl d_Fo_remove_22
  · refine lv_bipush (v := 14) hx hb d_Fo_remove_8 (by decide) ?_
    exact ct_iret (F := wF X h5 h6 h7 h8 h9) (z := f) (sp := rv f i0) hC hw (by simp [rv, c_5]) rfl d_Fo_remove_10
set_option maxHeartbeats 4000000 in
set_option maxRecDepth 100000 in
/-- enable -/
theorem c_Fo_enable (l : Launch) (X : GG) (h5 h6 h7 h8 h9 : Nat) (f : FS) (i0 b0 : Int32) : Ct l y_Fo_enable b_Fo_enable 3 (some .int) ({ frames := 1, cells := 0, slots := 0, locals := 21 } : Room) X [.ref h5, .int i0, .int b0] (wF X h5 h6 h7 h8 h9 f) (some (.int ((eb f i0 b0).1))) (fun _ : Unit => wF X h5 h6 h7 h8 h9 (eb f i0 b0).2) := by
  refine ct_enter (by decide) (Nat.le_of_ble_eq_true rfl) ?_
  intro p e s m args below meth c A ls hx hb hC hin hw hl
  have hC : Cx p s m args meth c "ModeKeeper$Forms" b_Fo_enable 3 (some .int) X := hC
  have hw : Wd X A s.heap [(h5, .inr (3, [.ref h6, .ref h7, .ref h8, .ref h9, .int f.2.2.2.2])), (h6, .inl (X.2.1, 256, .inl f.1)), (h7, .inl (X.2.2.1, 256, .inl f.2.1)), (h8, .inl (X.2.2.2, 2048, .inl f.2.2.1)), (h9, .inl (X.2.1, 256, .inl f.2.2.2.1))] s.heap [] := hw
  have hl : lv_has ls 3 [(0, .ref h5), (1, .int i0), (2, .int b0)] := hl
  refine lv_aload_n hx hb d_Fo_enable_0 rfl (lv_at hl 0 rfl) ?_
  refine lv_iload_n hx hb d_Fo_enable_1 rfl (lv_at hl 1 rfl) ?_
  refine ct_callV (rest := []) (As := [.int i0]) (n := 1) (wr := []) (W2 := fun _ : Unit => [(h5, .inr (3, [.ref h6, .ref h7, .ref h8, .ref h9, .int f.2.2.2.2])), (h6, .inl (X.2.1, 256, .inl f.1)), (h7, .inl (X.2.2.1, 256, .inl f.2.1)), (h8, .inl (X.2.2.2, 2048, .inl f.2.2.1)), (h9, .inl (X.2.1, 256, .inl f.2.2.2.1))]) hC hw hl.1 (c_Fo_is l X h5 h6 h7 h8 h9 f i0) k_185 k_182 k_183 k_184 k_8 [0, 1, 2, 3, 4] [] [0, 1, 2, 3, 4] rfl rfl rfl rfl rfl rfl (by decide) rfl (fun _ => rfl) (by decide +kernel) ⟨by decide, by decide⟩ rfl (by decide) ⟨by decide, by decide⟩ rfl d_Fo_enable_2 (fun u H locs hw => ?_)
  refine W.eq (g2 := F0 m 5 ls [.int (isI f.1 i0)]) rfl ?_
  refine lv_if_ne (tgt := 11) hx hb d_Fo_enable_5 (by decide) (fun c_5 => ?_) (fun c_5 => ?_)
  · refine lv_aload_n hx hb d_Fo_enable_11 rfl (lv_at hl 0 rfl) ?_
    refine ct_get hC hw 0 1 rfl rfl (by decide) k_68 rfl d_Fo_enable_12 ?_
    refine lv_iload_n hx hb d_Fo_enable_15 rfl (lv_at hl 1 rfl) ?_
    refine lv_iload_n hx hb d_Fo_enable_16 rfl (lv_at hl 2 rfl) ?_
    refine ct_zast hC hw 2 (ws' := [(h5, .inr (3, [.ref h6, .ref h7, .ref h8, .ref h9, .int f.2.2.2.2])), (h6, .inl (X.2.1, 256, .inl f.1)), (h7, .inl (X.2.2.1, 256, .inl (upd f.2.1 i0.toNatClampNeg (vp_nar .boolean b0)))), (h8, .inl (X.2.2.2, 2048, .inl f.2.2.1)), (h9, .inl (X.2.1, 256, .inl f.2.2.2.1))]) rfl (i_in (n := 256) rfl (isI_ne c_5).1 (isI_ne c_5).2.1) rfl d_Fo_enable_17 (fun H locs hw => ?_)
    refine lv_iconst (v := 0) hx hb d_Fo_enable_18 (by decide) ?_
    exact ct_iret (F := wF X h5 h6 h7 h8 h9) (z := (f.1, upd f.2.1 i0.toNatClampNeg (vp_nar .boolean b0), f.2.2.1, f.2.2.2.1, f.2.2.2.2)) (sp := eb f i0 b0) hC hw (by simp [eb, c_5]) rfl d_Fo_enable_19
  · refine lv_bipush (v := 14) hx hb d_Fo_enable_8 (by decide) ?_
    exact ct_iret (F := wF X h5 h6 h7 h8 h9) (z := f) (sp := eb f i0 b0) hC hw (by simp [eb, c_5]) rfl d_Fo_enable_10
set_option maxHeartbeats 4000000 in
set_option maxRecDepth 100000 in
/-- a parameter, at a place that is there -/
theorem c_Fo_parameter (l : Launch) (X : GG) (h5 h6 h7 h8 h9 : Nat) (f : FS) (i0 j0 : Int32) (hj : vp_in (8 * i0 + j0) 2048) : Ct l y_Fo_parameter b_Fo_parameter 3 (some .int) ({ frames := 0, cells := 0, slots := 0, locals := 0 } : Room) X [.ref h5, .int i0, .int j0] (wF X h5 h6 h7 h8 h9 f) (some (.int (f.2.2.1 (8 * i0 + j0).toNatClampNeg))) (fun _ : Unit => wF X h5 h6 h7 h8 h9 f) := by
  refine ct_enter (by decide) (Nat.le_of_ble_eq_true rfl) ?_
  intro p e s m args below meth c A ls hx hb hC hin hw hl
  have hC : Cx p s m args meth c "ModeKeeper$Forms" b_Fo_parameter 3 (some .int) X := hC
  have hw : Wd X A s.heap [(h5, .inr (3, [.ref h6, .ref h7, .ref h8, .ref h9, .int f.2.2.2.2])), (h6, .inl (X.2.1, 256, .inl f.1)), (h7, .inl (X.2.2.1, 256, .inl f.2.1)), (h8, .inl (X.2.2.2, 2048, .inl f.2.2.1)), (h9, .inl (X.2.1, 256, .inl f.2.2.2.1))] s.heap [] := hw
  have hl : lv_has ls 3 [(0, .ref h5), (1, .int i0), (2, .int j0)] := hl
  refine lv_aload_n hx hb d_Fo_parameter_0 rfl (lv_at hl 0 rfl) ?_
  refine ct_get hC hw 0 2 rfl rfl (by decide) k_70 rfl d_Fo_parameter_1 ?_
  refine lv_bipush (v := 8) hx hb d_Fo_parameter_4 (by decide) ?_
  refine lv_iload_n hx hb d_Fo_parameter_6 rfl (lv_at hl 1 rfl) ?_
  refine lv_imul hx hb d_Fo_parameter_7 ?_
  refine lv_iload_n hx hb d_Fo_parameter_8 rfl (lv_at hl 2 rfl) ?_
  refine lv_iadd hx hb d_Fo_parameter_9 ?_
  refine ct_bald hC hw 3 rfl hj d_Fo_parameter_10 ?_
  exact ct_iret (F := wF X h5 h6 h7 h8 h9) (z := f) (sp := (f.2.2.1 (8 * i0 + j0).toNatClampNeg, f)) hC hw (rfl) rfl d_Fo_parameter_11
set_option maxHeartbeats 4000000 in
set_option maxRecDepth 100000 in
/-- add: a new form -/
theorem c_Fo_add (l : Launch) (X : GG) (h5 h6 h7 h8 h9 h10 : Nat) (row : Nat → Int32) (f : FS) (i0 of n0 : Int32) (hrow : ∀ j, fits .byte (.int (row j)) = true) : Ct l y_Fo_add b_Fo_add 6 (some .int) ({ frames := 1, cells := 0, slots := 0, locals := 21 } : Room) X [.ref h5, .int i0, .int of, .ref h10, .int 0, .int n0] (wFT X h5 h6 h7 h8 h9 h10 row f) (some (.int ((ad f i0 of row n0).1))) (fun _ : Unit => wFT X h5 h6 h7 h8 h9 h10 row (ad f i0 of row n0).2) := by
  refine ct_enter (by decide) (Nat.le_of_ble_eq_true rfl) ?_
  intro p e s m args below meth c A ls hx hb hC hin hw hl
  have hC : Cx p s m args meth c "ModeKeeper$Forms" b_Fo_add 6 (some .int) X := hC
  have hw : Wd X A s.heap [(h5, .inr (3, [.ref h6, .ref h7, .ref h8, .ref h9, .int f.2.2.2.2])), (h6, .inl (X.2.1, 256, .inl f.1)), (h7, .inl (X.2.2.1, 256, .inl f.2.1)), (h8, .inl (X.2.2.2, 2048, .inl f.2.2.1)), (h9, .inl (X.2.1, 256, .inl f.2.2.2.1)), (h10, .inl (X.2.2.2, 8, .inl row))] s.heap [] := hw
  have hl : lv_has ls 6 [(0, .ref h5), (1, .int i0), (2, .int of), (3, .ref h10), (4, .int 0), (5, .int n0)] := hl
  refine lv_iload hx hb d_Fo_add_0 (lv_at hl 5 rfl) ?_
  refine lv_iconst (v := 1) hx hb d_Fo_add_2 (by decide) ?_
  refine lv_icmp_lt (tgt := 36) hx hb d_Fo_add_3 (by decide) (fun c_3 => ?_) (fun c_3 => ?_)
  · have n_3 : ¬ 1 ≤ n0 := Int32.not_le.mpr c_3
    refine lv_bipush (v := 13) hx hb d_Fo_add_36 (by decide) ?_
    exact ct_iret (F := wFT X h5 h6 h7 h8 h9 h10 row) (z := f) (sp := ad f i0 of row n0) hC hw (by simp [ad, c_3, n_3]) rfl d_Fo_add_38
  · have n_3 : 1 ≤ n0 := Int32.not_lt.mp c_3
    refine lv_iload hx hb d_Fo_add_6 (lv_at hl 5 rfl) ?_
    refine lv_bipush (v := 8) hx hb d_Fo_add_8 (by decide) ?_
    refine lv_icmp_gt (tgt := 36) hx hb d_Fo_add_10 (by decide) (fun c_10 => ?_) (fun c_10 => ?_)
    · have n_10 : 9 ≤ n0 := i_gtT (by decide) c_10
      refine lv_bipush (v := 13) hx hb d_Fo_add_36 (by decide) ?_
      exact ct_iret (F := wFT X h5 h6 h7 h8 h9 h10 row) (z := f) (sp := ad f i0 of row n0) hC hw (by simp [ad, c_3, n_3, c_10, n_10]) rfl d_Fo_add_38
    · have n_10 : ¬ 9 ≤ n0 := i_gtF (by decide) c_10
      refine lv_iload_n hx hb d_Fo_add_13 rfl (lv_at hl 2 rfl) ?_
      refine lv_iconst (v := 1) hx hb d_Fo_add_14 (by decide) ?_
      refine lv_icmp_lt (tgt := 36) hx hb d_Fo_add_15 (by decide) (fun c_15 => ?_) (fun c_15 => ?_)
      · have n_15 : ¬ 1 ≤ of := Int32.not_le.mpr c_15
        refine lv_bipush (v := 13) hx hb d_Fo_add_36 (by decide) ?_
        exact ct_iret (F := wFT X h5 h6 h7 h8 h9 h10 row) (z := f) (sp := ad f i0 of row n0) hC hw (by simp [ad, c_3, n_3, c_10, n_10, c_15, n_15]) rfl d_Fo_add_38
      · have n_15 : 1 ≤ of := Int32.not_lt.mp c_15
        refine lv_iload_n hx hb d_Fo_add_18 rfl (lv_at hl 2 rfl) ?_
        refine lv_sipush (v := 255) hx hb d_Fo_add_19 (by decide) ?_
        refine lv_icmp_gt (tgt := 36) hx hb d_Fo_add_22 (by decide) (fun c_22 => ?_) (fun c_22 => ?_)
        · have n_22 : 256 ≤ of := i_gtT (by decide) c_22
          refine lv_bipush (v := 13) hx hb d_Fo_add_36 (by decide) ?_
          exact ct_iret (F := wFT X h5 h6 h7 h8 h9 h10 row) (z := f) (sp := ad f i0 of row n0) hC hw (by simp [ad, c_3, n_3, c_10, n_10, c_15, n_15, c_22, n_22]) rfl d_Fo_add_38
        · have n_22 : ¬ 256 ≤ of := i_gtF (by decide) c_22
          refine lv_iload_n hx hb d_Fo_add_25 rfl (lv_at hl 1 rfl) ?_
          refine lv_if_lt (tgt := 36) hx hb d_Fo_add_26 (by decide) (fun c_26 => ?_) (fun c_26 => ?_)
          · refine lv_bipush (v := 13) hx hb d_Fo_add_36 (by decide) ?_
            exact ct_iret (F := wFT X h5 h6 h7 h8 h9 h10 row) (z := f) (sp := ad f i0 of row n0) hC hw (by simp [ad, c_3, n_3, c_10, n_10, c_15, n_15, c_22, n_22, c_26]) rfl d_Fo_add_38
          · refine lv_iload_n hx hb d_Fo_add_29 rfl (lv_at hl 1 rfl) ?_
            refine lv_sipush (v := 256) hx hb d_Fo_add_30 (by decide) ?_
            refine lv_icmp_lt (tgt := 39) hx hb d_Fo_add_33 (by decide) (fun c_33 => ?_) (fun c_33 => ?_)
            · have n_33 : ¬ 256 ≤ i0 := Int32.not_le.mpr c_33
              refine lv_aload_n hx hb d_Fo_add_39 rfl (lv_at hl 0 rfl) ?_
              refine ct_get hC hw 0 0 rfl rfl (by decide) k_66 rfl d_Fo_add_40 ?_
              refine lv_iload_n hx hb d_Fo_add_43 rfl (lv_at hl 1 rfl) ?_
              refine ct_iald hC hw 1 rfl (i_in (n := 256) rfl c_26 n_33) d_Fo_add_44 ?_
              refine lv_if_le (tgt := 51) hx hb d_Fo_add_45 (by decide) (fun c_45 => ?_) (fun c_45 => ?_)
              · refine lv_aload_n hx hb d_Fo_add_51 rfl (lv_at hl 0 rfl) ?_
                refine ct_get hC hw 0 4 rfl rfl (by decide) k_73 rfl d_Fo_add_52 ?_
                refine lv_bipush (v := 8) hx hb d_Fo_add_55 (by decide) ?_
                refine lv_icmp_ne (tgt := 63) hx hb d_Fo_add_57 (by decide) (fun c_57 => ?_) (fun c_57 => ?_)
                · refine lv_aload_n hx hb d_Fo_add_63 rfl (lv_at hl 3 rfl) ?_
                  refine lv_iload hx hb d_Fo_add_64 (lv_at hl 4 rfl) ?_
                  refine lv_aload_n hx hb d_Fo_add_66 rfl (lv_at hl 0 rfl) ?_
                  refine ct_get hC hw 0 2 rfl rfl (by decide) k_70 rfl d_Fo_add_67 ?_
                  refine lv_bipush (v := 8) hx hb d_Fo_add_70 (by decide) ?_
                  refine lv_iload_n hx hb d_Fo_add_72 rfl (lv_at hl 1 rfl) ?_
                  refine lv_imul hx hb d_Fo_add_73 ?_
                  refine lv_iload hx hb d_Fo_add_74 (lv_at hl 5 rfl) ?_
                  refine ct_copy hC hw hl.1 k_173 5 3 2 (ws' := [(h5, .inr (3, [.ref h6, .ref h7, .ref h8, .ref h9, .int f.2.2.2.2])), (h6, .inl (X.2.1, 256, .inl f.1)), (h7, .inl (X.2.2.1, 256, .inl f.2.1)), (h8, .inl (X.2.2.2, 2048, .inl (va_cpy row f.2.2.1 (0 : Int32).toNatClampNeg (8 * i0).toNatClampNeg n0.toNatClampNeg))), (h9, .inl (X.2.1, 256, .inl f.2.2.2.1)), (h10, .inl (X.2.2.2, 8, .inl row))]) rfl rfl rfl rfl (by decide) (add_ok c_26 n_33 c_3 c_10).1 (add_ok c_26 n_33 c_3 c_10).2.1 (add_ok c_26 n_33 c_3 c_10).2.2.1 (add_ok c_26 n_33 c_3 c_10).2.2.2 (fun _ _ => hrow _) (by decide) (by decide) rfl d_Fo_add_76 (fun H locs hw => ?_)
                  refine lv_aload_n hx hb d_Fo_add_79 rfl (lv_at hl 0 rfl) ?_
                  refine ct_get hC hw 0 3 rfl rfl (by decide) k_71 rfl d_Fo_add_80 ?_
                  refine lv_iload_n hx hb d_Fo_add_83 rfl (lv_at hl 1 rfl) ?_
                  refine lv_iload hx hb d_Fo_add_84 (lv_at hl 5 rfl) ?_
                  refine ct_iast hC hw 4 (ws' := [(h5, .inr (3, [.ref h6, .ref h7, .ref h8, .ref h9, .int f.2.2.2.2])), (h6, .inl (X.2.1, 256, .inl f.1)), (h7, .inl (X.2.2.1, 256, .inl f.2.1)), (h8, .inl (X.2.2.2, 2048, .inl (va_cpy row f.2.2.1 (0 : Int32).toNatClampNeg (8 * i0).toNatClampNeg n0.toNatClampNeg))), (h9, .inl (X.2.1, 256, .inl (upd f.2.2.2.1 i0.toNatClampNeg n0))), (h10, .inl (X.2.2.2, 8, .inl row))]) rfl (i_in (n := 256) rfl c_26 n_33) rfl d_Fo_add_86 (fun H locs hw => ?_)
                  refine lv_aload_n hx hb d_Fo_add_87 rfl (lv_at hl 0 rfl) ?_
                  refine ct_get hC hw 0 0 rfl rfl (by decide) k_66 rfl d_Fo_add_88 ?_
                  refine lv_iload_n hx hb d_Fo_add_91 rfl (lv_at hl 1 rfl) ?_
                  refine lv_iload_n hx hb d_Fo_add_92 rfl (lv_at hl 2 rfl) ?_
                  refine ct_iast hC hw 1 (ws' := [(h5, .inr (3, [.ref h6, .ref h7, .ref h8, .ref h9, .int f.2.2.2.2])), (h6, .inl (X.2.1, 256, .inl (upd f.1 i0.toNatClampNeg of))), (h7, .inl (X.2.2.1, 256, .inl f.2.1)), (h8, .inl (X.2.2.2, 2048, .inl (va_cpy row f.2.2.1 (0 : Int32).toNatClampNeg (8 * i0).toNatClampNeg n0.toNatClampNeg))), (h9, .inl (X.2.1, 256, .inl (upd f.2.2.2.1 i0.toNatClampNeg n0))), (h10, .inl (X.2.2.2, 8, .inl row))]) rfl (i_in (n := 256) rfl c_26 n_33) rfl d_Fo_add_93 (fun H locs hw => ?_)
                  refine lv_aload_n hx hb d_Fo_add_94 rfl (lv_at hl 0 rfl) ?_
                  refine ct_get hC hw 0 1 rfl rfl (by decide) k_68 rfl d_Fo_add_95 ?_
                  refine lv_iload_n hx hb d_Fo_add_98 rfl (lv_at hl 1 rfl) ?_
                  refine lv_iconst (v := 0) hx hb d_Fo_add_99 (by decide) ?_
                  refine ct_zast hC hw 2 (ws' := [(h5, .inr (3, [.ref h6, .ref h7, .ref h8, .ref h9, .int f.2.2.2.2])), (h6, .inl (X.2.1, 256, .inl (upd f.1 i0.toNatClampNeg of))), (h7, .inl (X.2.2.1, 256, .inl (upd f.2.1 i0.toNatClampNeg (vp_nar .boolean 0)))), (h8, .inl (X.2.2.2, 2048, .inl (va_cpy row f.2.2.1 (0 : Int32).toNatClampNeg (8 * i0).toNatClampNeg n0.toNatClampNeg))), (h9, .inl (X.2.1, 256, .inl (upd f.2.2.2.1 i0.toNatClampNeg n0))), (h10, .inl (X.2.2.2, 8, .inl row))]) rfl (i_in (n := 256) rfl c_26 n_33) rfl d_Fo_add_100 (fun H locs hw => ?_)
                  refine lv_aload_n hx hb d_Fo_add_101 rfl (lv_at hl 0 rfl) ?_
                  refine lv_dup hx hb d_Fo_add_102 rfl ?_
                  refine ct_get hC hw 0 4 rfl rfl (by decide) k_73 rfl d_Fo_add_103 ?_
                  refine lv_iconst (v := 1) hx hb d_Fo_add_106 (by decide) ?_
                  refine lv_iadd hx hb d_Fo_add_107 ?_
                  refine ct_put hC hw 0 4 (ty := .int) (ws' := [(h5, .inr (3, [.ref h6, .ref h7, .ref h8, .ref h9, .int (f.2.2.2.2 + 1)])), (h6, .inl (X.2.1, 256, .inl (upd f.1 i0.toNatClampNeg of))), (h7, .inl (X.2.2.1, 256, .inl (upd f.2.1 i0.toNatClampNeg (vp_nar .boolean 0)))), (h8, .inl (X.2.2.2, 2048, .inl (va_cpy row f.2.2.1 (0 : Int32).toNatClampNeg (8 * i0).toNatClampNeg n0.toNatClampNeg))), (h9, .inl (X.2.1, 256, .inl (upd f.2.2.2.1 i0.toNatClampNeg n0))), (h10, .inl (X.2.2.2, 8, .inl row))]) rfl rfl (by decide) k_73 rfl (by decide +kernel) rfl rfl (Nat.le_of_ble_eq_true rfl) rfl d_Fo_add_108 (fun H locs hw => ?_)
                  refine lv_iconst (v := 0) hx hb d_Fo_add_111 (by decide) ?_
                  exact ct_iret (F := wFT X h5 h6 h7 h8 h9 h10 row) (z := (upd f.1 i0.toNatClampNeg of, upd f.2.1 i0.toNatClampNeg (vp_nar .boolean 0), va_cpy row f.2.2.1 (0 : Int32).toNatClampNeg (8 * i0).toNatClampNeg n0.toNatClampNeg, upd f.2.2.2.1 i0.toNatClampNeg n0, f.2.2.2.2 + 1)) (sp := ad f i0 of row n0) hC hw (by unfold ad; rw [if_neg (by simp [c_3, n_3, c_10, n_10, c_15, n_15, c_22, n_22, c_26, c_33, n_33, c_45, c_57]), if_pos c_45, if_neg c_57]; rfl) rfl d_Fo_add_112
                · refine lv_bipush (v := 12) hx hb d_Fo_add_60 (by decide) ?_
                  exact ct_iret (F := wFT X h5 h6 h7 h8 h9 h10 row) (z := f) (sp := ad f i0 of row n0) hC hw (by simp [ad, c_3, n_3, c_10, n_10, c_15, n_15, c_22, n_22, c_26, c_33, n_33, c_45, c_57]) rfl d_Fo_add_62
              · refine lv_bipush (v := 11) hx hb d_Fo_add_48 (by decide) ?_
                exact ct_iret (F := wFT X h5 h6 h7 h8 h9 h10 row) (z := f) (sp := ad f i0 of row n0) hC hw (by simp [ad, c_3, n_3, c_10, n_10, c_15, n_15, c_22, n_22, c_26, c_33, n_33, c_45]) rfl d_Fo_add_50
            · have n_33 : 256 ≤ i0 := Int32.not_lt.mp c_33
              refine lv_bipush (v := 13) hx hb d_Fo_add_36 (by decide) ?_
              exact ct_iret (F := wFT X h5 h6 h7 h8 h9 h10 row) (z := f) (sp := ad f i0 of row n0) hC hw (by simp [ad, c_3, n_3, c_10, n_10, c_15, n_15, c_22, n_22, c_26, c_33, n_33]) rfl d_Fo_add_38
set_option maxHeartbeats 4000000 in
set_option maxRecDepth 100000 in
theorem l_Fo_due {l : Launch} {p : Program} {e : Env} {s : State} {m : MethodId} {args : Array Value} {below : List Frame} {meth : Method} {c : Code} {A : Nat → Prop} {X : GG} {h5 h6 h7 h8 h9 : Nat} {f : FS} {tk fr R0 : Int32} (hx : p.tables.exec = Jvm.exec) (hb : c.code = b_Fo_due) (hC : Cx p s m args meth c "ModeKeeper$Forms" b_Fo_due 4 (some .int) X) (hf : ∀ j, ¬ f.1 j < 0) :
    ∀ (n : Nat) (i : Int32) (ls : Array Slot) (H : Heap) (locs : List Loc), ¬ i < 0 → 256 - i.toNatClampNeg < n → R0 = duA f tk i.toNatClampNeg (256 - i.toNatClampNeg) → lv_has ls 4 [(3, .int i), (0, .ref h5), (1, .int tk), (2, .int fr)] → Wd X A s.heap [(h5, .inr (3, [.ref h6, .ref h7, .ref h8, .ref h9, .int f.2.2.2.2])), (h6, .inl (X.2.1, 256, .inl f.1)), (h7, .inl (X.2.2.1, 256, .inl f.2.1)), (h8, .inl (X.2.2.2, 2048, .inl f.2.2.1)), (h9, .inl (X.2.1, 256, .inl f.2.2.2.1))] H locs → W p l e ({ frames := 0, cells := 0, slots := 0, locals := 0 } : Room) s m args below meth c H locs 0 0 (Fin' X below args s A (some (.int R0)) (fun _ : Unit => wF X h5 h6 h7 h8 h9 f) 0 0) (F0 m 10 ls []) := by
  intro n
  induction n with
  | zero => intro i ls H locs h0 h1; exact absurd h1 (by omega)
  | succ n ih =>
    intro i ls H locs h0 h1 hR hl hw
    refine lv_iload_n hx hb d_Fo_due_10 rfl (lv_at hl 0 rfl) ?_
    refine lv_sipush (v := 256) hx hb d_Fo_due_11 (by decide) ?_
    refine lv_icmp_ge (tgt := 52) hx hb d_Fo_due_14 (by decide) (fun c_14 => ?_) (fun c_14 => ?_)
    · refine lv_iload_n hx hb d_Fo_due_52 rfl (lv_at hl 0 rfl) ?_
      refine lv_sipush (v := 256) hx hb d_Fo_due_53 (by decide) ?_
      refine lv_icmp_ge (tgt := 63) hx hb d_Fo_due_56 (by decide) (fun c_56 => ?_) (fun c_56 => ?_)
      · refine lv_iconst (v := -1) hx hb d_Fo_due_63 (by decide) ?_
        exact ct_iret (F := wF X h5 h6 h7 h8 h9) (z := f) (sp := (R0, f)) hC hw (by rw [hR, du_out (tk := tk) h0 c_14]) rfl d_Fo_due_64
      · exact absurd c_14 c_56
    · refine lv_aload_n hx hb d_Fo_due_17 rfl (lv_at hl 1 rfl) ?_
      refine ct_get hC hw 0 0 rfl rfl (by decide) k_66 rfl d_Fo_due_18 ?_
      refine lv_iload_n hx hb d_Fo_due_21 rfl (lv_at hl 0 rfl) ?_
      refine ct_iald hC hw 1 rfl (i_in (n := 256) rfl h0 c_14) d_Fo_due_22 ?_
      refine lv_if_eq (tgt := 46) hx hb d_Fo_due_23 (by decide) (fun c_23 => ?_) (fun c_23 => ?_)
      · refine lv_iinc (v := i + 1) (lv' := [(3, .int (i + 1)), (0, .ref h5), (1, .int tk), (2, .int fr)]) hx hb d_Fo_due_46 hl (k := 0) rfl rfl (by decide) rfl (fun ls hl => ?_)
        refine lv_goto (tgt := 10) hx hb d_Fo_due_49 (by decide) ?_
        exact ih (i + 1) ls H locs (du_miss (tk := tk) h0 c_14 (fun q => q.1 (by rw [c_23]; decide))).2.1 (Nat.lt_of_lt_of_le (du_miss (tk := tk) h0 c_14 (fun q => q.1 (by rw [c_23]; decide))).2.2 (Nat.le_of_lt_succ h1)) (hR.trans (du_miss (tk := tk) h0 c_14 (fun q => q.1 (by rw [c_23]; decide))).1) hl hw
      · refine lv_aload_n hx hb d_Fo_due_26 rfl (lv_at hl 1 rfl) ?_
        refine ct_get hC hw 0 1 rfl rfl (by decide) k_68 rfl d_Fo_due_27 ?_
        refine lv_iload_n hx hb d_Fo_due_30 rfl (lv_at hl 0 rfl) ?_
        refine ct_zald hC hw 2 rfl (i_in (n := 256) rfl h0 c_14) d_Fo_due_31 ?_
        refine lv_if_eq (tgt := 46) hx hb d_Fo_due_32 (by decide) (fun c_32 => ?_) (fun c_32 => ?_)
        · refine lv_iinc (v := i + 1) (lv' := [(3, .int (i + 1)), (0, .ref h5), (1, .int tk), (2, .int fr)]) hx hb d_Fo_due_46 hl (k := 0) rfl rfl (by decide) rfl (fun ls hl => ?_)
          refine lv_goto (tgt := 10) hx hb d_Fo_due_49 (by decide) ?_
          exact ih (i + 1) ls H locs (du_miss (tk := tk) h0 c_14 (fun q => q.2.1 c_32)).2.1 (Nat.lt_of_lt_of_le (du_miss (tk := tk) h0 c_14 (fun q => q.2.1 c_32)).2.2 (Nat.le_of_lt_succ h1)) (hR.trans (du_miss (tk := tk) h0 c_14 (fun q => q.2.1 c_32)).1) hl hw
        · refine lv_iload_n hx hb d_Fo_due_35 rfl (lv_at hl 2 rfl) ?_
          refine lv_aload_n hx hb d_Fo_due_36 rfl (lv_at hl 1 rfl) ?_
          refine ct_get hC hw 0 0 rfl rfl (by decide) k_66 rfl d_Fo_due_37 ?_
          refine lv_iload_n hx hb d_Fo_due_40 rfl (lv_at hl 0 rfl) ?_
          refine ct_iald hC hw 1 rfl (i_in (n := 256) rfl h0 c_14) d_Fo_due_41 ?_
          refine lv_irem hx hb d_Fo_due_42 c_23 ?_
          refine lv_if_eq (tgt := 52) hx hb d_Fo_due_43 (by decide) (fun c_43 => ?_) (fun c_43 => ?_)
          · refine lv_iload_n hx hb d_Fo_due_52 rfl (lv_at hl 0 rfl) ?_
            refine lv_sipush (v := 256) hx hb d_Fo_due_53 (by decide) ?_
            refine lv_icmp_ge (tgt := 63) hx hb d_Fo_due_56 (by decide) (fun c_56 => ?_) (fun c_56 => ?_)
            · exact absurd c_56 c_14
            · refine lv_iload_n hx hb d_Fo_due_59 rfl (lv_at hl 0 rfl) ?_
              refine lv_goto (tgt := 64) hx hb d_Fo_due_60 (by decide) ?_
              exact ct_iret (F := wF X h5 h6 h7 h8 h9) (z := f) (sp := (R0, f)) hC hw (by rw [hR, du_hit (tk := tk) h0 c_14 ⟨pos_of (hf _) c_23, c_32, c_43⟩]) rfl d_Fo_due_64
          · refine lv_iinc (v := i + 1) (lv' := [(3, .int (i + 1)), (0, .ref h5), (1, .int tk), (2, .int fr)]) hx hb d_Fo_due_46 hl (k := 0) rfl rfl (by decide) rfl (fun ls hl => ?_)
            refine lv_goto (tgt := 10) hx hb d_Fo_due_49 (by decide) ?_
            exact ih (i + 1) ls H locs (du_miss (tk := tk) h0 c_14 (fun q => c_43 q.2.2)).2.1 (Nat.lt_of_lt_of_le (du_miss (tk := tk) h0 c_14 (fun q => c_43 q.2.2)).2.2 (Nat.le_of_lt_succ h1)) (hR.trans (du_miss (tk := tk) h0 c_14 (fun q => c_43 q.2.2)).1) hl hw
set_option maxHeartbeats 4000000 in
set_option maxRecDepth 100000 in
/-- due: the least form from a place on whose turn it is -/
theorem c_Fo_due (l : Launch) (X : GG) (h5 h6 h7 h8 h9 : Nat) (f : FS) (tk fr : Int32) (hf : ∀ j, ¬ f.1 j < 0) : Ct l y_Fo_due b_Fo_due 4 (some .int) ({ frames := 0, cells := 0, slots := 0, locals := 0 } : Room) X [.ref h5, .int tk, .int fr] (wF X h5 h6 h7 h8 h9 f) (some (.int (du f tk fr))) (fun _ : Unit => wF X h5 h6 h7 h8 h9 f) := by
  refine ct_enter (by decide) (Nat.le_of_ble_eq_true rfl) ?_
  intro p e s m args below meth c A ls hx hb hC hin hw hl
  have hC : Cx p s m args meth c "ModeKeeper$Forms" b_Fo_due 4 (some .int) X := hC
  have hw : Wd X A s.heap [(h5, .inr (3, [.ref h6, .ref h7, .ref h8, .ref h9, .int f.2.2.2.2])), (h6, .inl (X.2.1, 256, .inl f.1)), (h7, .inl (X.2.2.1, 256, .inl f.2.1)), (h8, .inl (X.2.2.2, 2048, .inl f.2.2.1)), (h9, .inl (X.2.1, 256, .inl f.2.2.2.1))] s.heap [] := hw
  have hl : lv_has ls 4 [(0, .ref h5), (1, .int tk), (2, .int fr)] := hl
  refine lv_iload_n hx hb d_Fo_due_0 rfl (lv_at hl 2 rfl) ?_
  refine lv_if_ge (tgt := 8) hx hb d_Fo_due_1 (by decide) (fun c_1 => ?_) (fun c_1 => ?_)
  · have n_1 : ¬ fr < 0 := Int32.not_lt.mpr c_1
    refine lv_iload_n hx hb d_Fo_due_8 rfl (lv_at hl 2 rfl) ?_
    refine lv_istore_n (lv' := [(3, .int fr), (0, .ref h5), (1, .int tk), (2, .int fr)]) hx hb d_Fo_due_9 rfl hl (by decide) rfl (fun ls hl => ?_)
    exact l_Fo_due hx hb hC hf 257 fr ls _ _ n_1 (by omega) rfl hl hw
  · have n_1 : fr < 0 := Int32.not_le.mp c_1
    refine lv_iconst (v := 0) hx hb d_Fo_due_4 (by decide) ?_
    refine lv_goto (tgt := 9) hx hb d_Fo_due_5 (by decide) ?_
    refine lv_istore_n (lv' := [(3, .int 0), (0, .ref h5), (1, .int tk), (2, .int fr)]) hx hb d_Fo_due_9 rfl hl (by decide) rfl (fun ls hl => ?_)
    exact l_Fo_due hx hb hC hf 257 0 ls _ _ (by decide) (by omega) (by unfold du; rw [i_cl0 n_1]; rfl) hl hw
end
section
theorem Wd.perm {X : GG} {A : Nat → Prop} {H0 H : Heap} {ws ws' : va_W} {locs : List Loc} (hw : Wd X A H0 ws H locs) (is : List Nat) (hn : va_nd is = true) (h : is.map (fun i => ws[i]?) = ws'.map some) : Wd X A H0 ws' H locs :=
  ⟨hw.1.sub is (fm_of_map h), hw.2.1.sub is hn h, hw.2.2.1, hw.2.2.2⟩
theorem size_in {x : Int32} (hi : ∃ j : Nat, j ≤ 8 ∧ x = nI j) (h : ¬ x = 8) : vp_in x 8 := by
  obtain ⟨j, hj, rfl⟩ := hi
  have h8 : j ≠ 8 := fun e => h (by rw [e]; rfl)
  exact vp_in_nI (by omega) (by decide)
theorem par_in {i0 j0 sz : Int32} (h0 : ¬ i0 < 0) (h1 : ¬ 256 ≤ i0) (hk1 : ¬ j0 < -1) (hk2 : ¬ j0 = -1) (hk3 : ¬ sz ≤ j0) (hsz : sz ≤ 8) : vp_in (8 * i0 + j0) 2048 := by
  have g0 : ¬ j0 < 0 := by
    intro h
    apply hk2
    rw [i_lt] at h hk1
    have e0 : (0 : Int32).toInt = 0 := rfl
    have e1 : (-1 : Int32).toInt = -1 := rfl
    exact Int32.toInt_inj.mp (by omega)
  have g1 : ¬ 8 ≤ j0 := by
    rw [i_le] at hk3 hsz ⊢
    omega
  obtain ⟨k, hk, rfl⟩ := i_nat (n := 8) rfl (by decide) g0 g1
  exact (i_8k hk h0 h1).2.2.2.1
theorem sw_out {w : Int32} (h8 : ¬ w = 8) (h9 : ¬ w = 9) (h10 : ¬ w = 10) (h11 : ¬ w = 11) : w.toInt < 8 ∨ 11 < w.toInt := by
  have g8 : w.toInt ≠ 8 := fun e => h8 (Int32.toInt_inj.mp e)
  have g9 : w.toInt ≠ 9 := fun e => h9 (Int32.toInt_inj.mp e)
  have g10 : w.toInt ≠ 10 := fun e => h10 (Int32.toInt_inj.mp e)
  have g11 : w.toInt ≠ 11 := fun e => h11 (Int32.toInt_inj.mp e)
  omega
theorem al_01 (z : MS) (t : Int32) : (al z t).1 = 0 ∨ (al z t).1 = 1 := by
  unfold al
  by_cases h : z.2.2.1 = 0
  · rw [if_pos h]; exact Or.inr rfl
  · rw [if_neg h]; exact Or.inl rfl
theorem lk_01 (z : MS) (t : Int32) : (lk z t).1 = 0 ∨ (lk z t).1 = 1 := by
  unfold lk
  by_cases h : z.2.2.1 = 0 ∨ ¬ z.2.2.2.1 ≤ t
  · rw [if_pos h]; exact Or.inl rfl
  · rw [if_neg h]
    by_cases h2 : z.2.1 = 0
    · exact Or.inl (if_pos h2)
    · exact Or.inr (if_neg h2)
set_option maxHeartbeats 4000000 in
set_option maxRecDepth 100000 in
/-- Modes(listener) -/
theorem c_Mo_init (l : Launch) (X : GG) (h1 h2 : Nat) : Ct l y_Mo_init b_Mo_init 2 none ({ frames := 1, cells := 2, slots := 16, locals := 12 } : Room) X [.ref h2, .ref h1] ([(h2, .inr (2, [.null, .null, .null, .int 0, .int 0, .int 0]))]) none (fun u : Nat × Nat => [(h2, .inr (2, [.ref h1, .ref u.1, .ref u.2, .int 1, .int 0, .int 0])), (u.1, .inl (X.2.1, 8, .inl safeF)), (u.2, .inl (X.2.1, 8, .inl (fun _ => 0)))]) := by
  refine ct_enter (by decide) (Nat.le_of_ble_eq_true rfl) ?_
  intro p e s m args below meth c A ls hx hb hC hin hw hl
  have hC : Cx p s m args meth c "ModeKeeper$Modes" b_Mo_init 2 none X := hC
  have hin : meth.name = "<init>" := hin
  have hw : Wd X A s.heap [(h2, .inr (2, [.null, .null, .null, .int 0, .int 0, .int 0]))] s.heap [] := hw
  have hl : lv_has ls 2 [(0, .ref h2), (1, .ref h1)] := hl
  refine lv_aload_n hx hb d_Mo_init_0 rfl (lv_at hl 0 rfl) ?_
  refine ct_objInit hC hl.1 k_35 d_Mo_init_1 (by decide) (by decide) ?_
  refine lv_aload_n hx hb d_Mo_init_4 rfl (lv_at hl 0 rfl) ?_
  refine lv_bipush (v := 8) hx hb d_Mo_init_5 (by decide) ?_
  refine ct_newa hC hw (ws' := fun q0 => [(h2, .inr (2, [.null, .null, .null, .int 0, .int 0, .int 0])), (q0, .inl (X.2.1, 8, .inl (fun _ => 0)))]) (N' := 8) (atype := .int) (ty := .int) 0 rfl k_59 rfl rfl (by decide) rfl (by decide) (by decide) (by decide) (fun _ => rfl) d_Mo_init_7 (fun q0 H hw => ?_)
  refine W.widen (k := 1) (n := 8) (by decide) (by decide) ?_
  refine lv_dup hx hb d_Mo_init_9 rfl ?_
  refine lv_iconst (v := 0) hx hb d_Mo_init_10 (by decide) ?_
  refine lv_iconst (v := 0) hx hb d_Mo_init_11 (by decide) ?_
  refine ct_iast hC hw 1 (ws' := [(h2, .inr (2, [.null, .null, .null, .int 0, .int 0, .int 0])), (q0, .inl (X.2.1, 8, .inl (upd (fun _ => 0) (0 : Int32).toNatClampNeg 0)))]) rfl (i_in (M := 8) (n := 8) rfl (by decide) (by decide)) rfl d_Mo_init_12 (fun H locs hw => ?_)
  refine lv_dup hx hb d_Mo_init_13 rfl ?_
  refine lv_iconst (v := 1) hx hb d_Mo_init_14 (by decide) ?_
  refine lv_iconst (v := 0) hx hb d_Mo_init_15 (by decide) ?_
  refine ct_iast hC hw 1 (ws' := [(h2, .inr (2, [.null, .null, .null, .int 0, .int 0, .int 0])), (q0, .inl (X.2.1, 8, .inl (upd (upd (fun _ => 0) (0 : Int32).toNatClampNeg 0) (1 : Int32).toNatClampNeg 0)))]) rfl (i_in (M := 8) (n := 8) rfl (by decide) (by decide)) rfl d_Mo_init_16 (fun H locs hw => ?_)
  refine lv_dup hx hb d_Mo_init_17 rfl ?_
  refine lv_iconst (v := 2) hx hb d_Mo_init_18 (by decide) ?_
  refine lv_iconst (v := 0) hx hb d_Mo_init_19 (by decide) ?_
  refine ct_iast hC hw 1 (ws' := [(h2, .inr (2, [.null, .null, .null, .int 0, .int 0, .int 0])), (q0, .inl (X.2.1, 8, .inl (upd (upd (upd (fun _ => 0) (0 : Int32).toNatClampNeg 0) (1 : Int32).toNatClampNeg 0) (2 : Int32).toNatClampNeg 0)))]) rfl (i_in (M := 8) (n := 8) rfl (by decide) (by decide)) rfl d_Mo_init_20 (fun H locs hw => ?_)
  refine lv_dup hx hb d_Mo_init_21 rfl ?_
  refine lv_iconst (v := 3) hx hb d_Mo_init_22 (by decide) ?_
  refine lv_iconst (v := 0) hx hb d_Mo_init_23 (by decide) ?_
  refine ct_iast hC hw 1 (ws' := [(h2, .inr (2, [.null, .null, .null, .int 0, .int 0, .int 0])), (q0, .inl (X.2.1, 8, .inl (upd (upd (upd (upd (fun _ => 0) (0 : Int32).toNatClampNeg 0) (1 : Int32).toNatClampNeg 0) (2 : Int32).toNatClampNeg 0) (3 : Int32).toNatClampNeg 0)))]) rfl (i_in (M := 8) (n := 8) rfl (by decide) (by decide)) rfl d_Mo_init_24 (fun H locs hw => ?_)
  refine lv_dup hx hb d_Mo_init_25 rfl ?_
  refine lv_iconst (v := 4) hx hb d_Mo_init_26 (by decide) ?_
  refine lv_bipush (v := 50) hx hb d_Mo_init_27 (by decide) ?_
  refine ct_iast hC hw 1 (ws' := [(h2, .inr (2, [.null, .null, .null, .int 0, .int 0, .int 0])), (q0, .inl (X.2.1, 8, .inl (upd (upd (upd (upd (upd (fun _ => 0) (0 : Int32).toNatClampNeg 0) (1 : Int32).toNatClampNeg 0) (2 : Int32).toNatClampNeg 0) (3 : Int32).toNatClampNeg 0) (4 : Int32).toNatClampNeg 50)))]) rfl (i_in (M := 8) (n := 8) rfl (by decide) (by decide)) rfl d_Mo_init_29 (fun H locs hw => ?_)
  refine lv_dup hx hb d_Mo_init_30 rfl ?_
  refine lv_iconst (v := 5) hx hb d_Mo_init_31 (by decide) ?_
  refine lv_bipush (v := 50) hx hb d_Mo_init_32 (by decide) ?_
  refine ct_iast hC hw 1 (ws' := [(h2, .inr (2, [.null, .null, .null, .int 0, .int 0, .int 0])), (q0, .inl (X.2.1, 8, .inl (upd (upd (upd (upd (upd (upd (fun _ => 0) (0 : Int32).toNatClampNeg 0) (1 : Int32).toNatClampNeg 0) (2 : Int32).toNatClampNeg 0) (3 : Int32).toNatClampNeg 0) (4 : Int32).toNatClampNeg 50) (5 : Int32).toNatClampNeg 50)))]) rfl (i_in (M := 8) (n := 8) rfl (by decide) (by decide)) rfl d_Mo_init_34 (fun H locs hw => ?_)
  refine lv_dup hx hb d_Mo_init_35 rfl ?_
  refine lv_bipush (v := 6) hx hb d_Mo_init_36 (by decide) ?_
  refine lv_bipush (v := 100) hx hb d_Mo_init_38 (by decide) ?_
  refine ct_iast hC hw 1 (ws' := [(h2, .inr (2, [.null, .null, .null, .int 0, .int 0, .int 0])), (q0, .inl (X.2.1, 8, .inl (upd (upd (upd (upd (upd (upd (upd (fun _ => 0) (0 : Int32).toNatClampNeg 0) (1 : Int32).toNatClampNeg 0) (2 : Int32).toNatClampNeg 0) (3 : Int32).toNatClampNeg 0) (4 : Int32).toNatClampNeg 50) (5 : Int32).toNatClampNeg 50) (6 : Int32).toNatClampNeg 100)))]) rfl (i_in (M := 8) (n := 8) rfl (by decide) (by decide)) rfl d_Mo_init_40 (fun H locs hw => ?_)
  refine lv_dup hx hb d_Mo_init_41 rfl ?_
  refine lv_bipush (v := 7) hx hb d_Mo_init_42 (by decide) ?_
  refine lv_iconst (v := 1) hx hb d_Mo_init_44 (by decide) ?_
  refine ct_iast hC hw 1 (ws' := [(h2, .inr (2, [.null, .null, .null, .int 0, .int 0, .int 0])), (q0, .inl (X.2.1, 8, .inl (upd (upd (upd (upd (upd (upd (upd (upd (fun _ => 0) (0 : Int32).toNatClampNeg 0) (1 : Int32).toNatClampNeg 0) (2 : Int32).toNatClampNeg 0) (3 : Int32).toNatClampNeg 0) (4 : Int32).toNatClampNeg 50) (5 : Int32).toNatClampNeg 50) (6 : Int32).toNatClampNeg 100) (7 : Int32).toNatClampNeg 1)))]) rfl (i_in (M := 8) (n := 8) rfl (by decide) (by decide)) rfl d_Mo_init_45 (fun H locs hw => ?_)
  refine ct_putF hC hin hw 0 1 (ty := .array .int) (ws' := [(h2, .inr (2, [.null, .ref q0, .null, .int 0, .int 0, .int 0])), (q0, .inl (X.2.1, 8, .inl (upd (upd (upd (upd (upd (upd (upd (upd (fun _ => 0) (0 : Int32).toNatClampNeg 0) (1 : Int32).toNatClampNeg 0) (2 : Int32).toNatClampNeg 0) (3 : Int32).toNatClampNeg 0) (4 : Int32).toNatClampNeg 50) (5 : Int32).toNatClampNeg 50) (6 : Int32).toNatClampNeg 100) (7 : Int32).toNatClampNeg 1)))]) rfl rfl (by decide) k_37 rfl rfl (by decide +kernel) rfl rfl (Nat.le_of_ble_eq_true rfl) rfl d_Mo_init_46 (fun H locs hw => ?_)
  refine lv_aload_n hx hb d_Mo_init_49 rfl (lv_at hl 0 rfl) ?_
  refine lv_bipush (v := 8) hx hb d_Mo_init_50 (by decide) ?_
  refine ct_newa hC hw (ws' := fun q1 => [(h2, .inr (2, [.null, .ref q0, .null, .int 0, .int 0, .int 0])), (q0, .inl (X.2.1, 8, .inl (upd (upd (upd (upd (upd (upd (upd (upd (fun _ => 0) (0 : Int32).toNatClampNeg 0) (1 : Int32).toNatClampNeg 0) (2 : Int32).toNatClampNeg 0) (3 : Int32).toNatClampNeg 0) (4 : Int32).toNatClampNeg 50) (5 : Int32).toNatClampNeg 50) (6 : Int32).toNatClampNeg 100) (7 : Int32).toNatClampNeg 1))), (q1, .inl (X.2.1, 8, .inl (fun _ => 0)))]) (N' := 8) (atype := .int) (ty := .int) 0 rfl k_59 rfl rfl (by decide) rfl (by decide) (by decide) (by decide) (fun _ => rfl) d_Mo_init_52 (fun q1 H hw => ?_)
  refine W.widen (k := 2) (n := 16) (by decide) (by decide) ?_
  refine ct_putF hC hin hw 0 2 (ty := .array .int) (ws' := [(h2, .inr (2, [.null, .ref q0, .ref q1, .int 0, .int 0, .int 0])), (q0, .inl (X.2.1, 8, .inl (upd (upd (upd (upd (upd (upd (upd (upd (fun _ => 0) (0 : Int32).toNatClampNeg 0) (1 : Int32).toNatClampNeg 0) (2 : Int32).toNatClampNeg 0) (3 : Int32).toNatClampNeg 0) (4 : Int32).toNatClampNeg 50) (5 : Int32).toNatClampNeg 50) (6 : Int32).toNatClampNeg 100) (7 : Int32).toNatClampNeg 1))), (q1, .inl (X.2.1, 8, .inl (fun _ => 0)))]) rfl rfl (by decide) k_38 rfl rfl (by decide +kernel) rfl rfl (Nat.le_of_ble_eq_true rfl) rfl d_Mo_init_54 (fun H locs hw => ?_)
  refine lv_aload_n hx hb d_Mo_init_57 rfl (lv_at hl 0 rfl) ?_
  refine lv_iconst (v := 1) hx hb d_Mo_init_58 (by decide) ?_
  refine ct_put hC hw 0 3 (ty := .int) (ws' := [(h2, .inr (2, [.null, .ref q0, .ref q1, .int 1, .int 0, .int 0])), (q0, .inl (X.2.1, 8, .inl (upd (upd (upd (upd (upd (upd (upd (upd (fun _ => 0) (0 : Int32).toNatClampNeg 0) (1 : Int32).toNatClampNeg 0) (2 : Int32).toNatClampNeg 0) (3 : Int32).toNatClampNeg 0) (4 : Int32).toNatClampNeg 50) (5 : Int32).toNatClampNeg 50) (6 : Int32).toNatClampNeg 100) (7 : Int32).toNatClampNeg 1))), (q1, .inl (X.2.1, 8, .inl (fun _ => 0)))]) rfl rfl (by decide) k_40 rfl (by decide +kernel) rfl rfl (Nat.le_of_ble_eq_true rfl) rfl d_Mo_init_59 (fun H locs hw => ?_)
  refine lv_aload_n hx hb d_Mo_init_62 rfl (lv_at hl 0 rfl) ?_
  refine lv_aload_n hx hb d_Mo_init_63 rfl (lv_at hl 1 rfl) ?_
  refine ct_putF hC hin hw 0 0 (ty := .object "ModeKeeper$Listener") (ws' := [(h2, .inr (2, [.ref h1, .ref q0, .ref q1, .int 1, .int 0, .int 0])), (q0, .inl (X.2.1, 8, .inl (upd (upd (upd (upd (upd (upd (upd (upd (fun _ => 0) (0 : Int32).toNatClampNeg 0) (1 : Int32).toNatClampNeg 0) (2 : Int32).toNatClampNeg 0) (3 : Int32).toNatClampNeg 0) (4 : Int32).toNatClampNeg 50) (5 : Int32).toNatClampNeg 50) (6 : Int32).toNatClampNeg 100) (7 : Int32).toNatClampNeg 1))), (q1, .inl (X.2.1, 8, .inl (fun _ => 0)))]) rfl rfl (by decide) k_36 rfl rfl (by decide +kernel) rfl rfl (Nat.le_of_ble_eq_true rfl) rfl d_Mo_init_64 (fun H locs hw => ?_)
  exact ct_vret hC hw (q0, q1) (congrArg (fun g : Nat → Int32 => ([(h2, .inr (2, [.ref h1, .ref q0, .ref q1, .int 1, .int 0, .int 0])), (q0, .inl (X.2.1, 8, .inl g)), (q1, .inl (X.2.1, 8, .inl (fun _ => 0)))] : va_W)) safe_eq) d_Mo_init_67
set_option maxHeartbeats 4000000 in
set_option maxRecDepth 100000 in
/-- Forms() -/
theorem c_Fo_init (l : Launch) (X : GG) (h5 : Nat) : Ct l y_Fo_init b_Fo_init 1 none ({ frames := 1, cells := 4, slots := 2816, locals := 12 } : Room) X [.ref h5] ([(h5, .inr (3, [.null, .null, .null, .null, .int 0]))]) none (fun u : Nat × Nat × Nat × Nat => wF X h5 u.1 u.2.1 u.2.2.1 u.2.2.2 (fun _ => 0, fun _ => 0, fun _ => 0, fun _ => 0, 0)) := by
  refine ct_enter (by decide) (Nat.le_of_ble_eq_true rfl) ?_
  intro p e s m args below meth c A ls hx hb hC hin hw hl
  have hC : Cx p s m args meth c "ModeKeeper$Forms" b_Fo_init 1 none X := hC
  have hin : meth.name = "<init>" := hin
  have hw : Wd X A s.heap [(h5, .inr (3, [.null, .null, .null, .null, .int 0]))] s.heap [] := hw
  have hl : lv_has ls 1 [(0, .ref h5)] := hl
  refine lv_aload_n hx hb d_Fo_init_0 rfl (lv_at hl 0 rfl) ?_
  refine ct_objInit hC hl.1 k_65 d_Fo_init_1 (by decide) (by decide) ?_
  refine lv_aload_n hx hb d_Fo_init_4 rfl (lv_at hl 0 rfl) ?_
  refine lv_sipush (v := 256) hx hb d_Fo_init_5 (by decide) ?_
  refine ct_newa hC hw (ws' := fun q0 => [(h5, .inr (3, [.null, .null, .null, .null, .int 0])), (q0, .inl (X.2.1, 256, .inl (fun _ => 0)))]) (N' := 256) (atype := .int) (ty := .int) 0 rfl k_59 rfl rfl (by decide) rfl (by decide) (by decide) (by decide) (fun _ => rfl) d_Fo_init_8 (fun q0 H hw => ?_)
  refine W.widen (k := 1) (n := 256) (by decide) (by decide) ?_
  refine ct_putF hC hin hw 0 0 (ty := .array .int) (ws' := [(h5, .inr (3, [.ref q0, .null, .null, .null, .int 0])), (q0, .inl (X.2.1, 256, .inl (fun _ => 0)))]) rfl rfl (by decide) k_66 rfl rfl (by decide +kernel) rfl rfl (Nat.le_of_ble_eq_true rfl) rfl d_Fo_init_10 (fun H locs hw => ?_)
  refine lv_aload_n hx hb d_Fo_init_13 rfl (lv_at hl 0 rfl) ?_
  refine lv_sipush (v := 256) hx hb d_Fo_init_14 (by decide) ?_
  refine ct_newa hC hw (ws' := fun q1 => [(h5, .inr (3, [.ref q0, .null, .null, .null, .int 0])), (q0, .inl (X.2.1, 256, .inl (fun _ => 0))), (q1, .inl (X.2.2.1, 256, .inl (fun _ => 0)))]) (N' := 256) (atype := .boolean) (ty := .boolean) 1 rfl k_86 rfl rfl (by decide) rfl (by decide) (by decide) (by decide) (fun _ => rfl) d_Fo_init_17 (fun q1 H hw => ?_)
  refine W.widen (k := 2) (n := 512) (by decide) (by decide) ?_
  refine ct_putF hC hin hw 0 1 (ty := .array .boolean) (ws' := [(h5, .inr (3, [.ref q0, .ref q1, .null, .null, .int 0])), (q0, .inl (X.2.1, 256, .inl (fun _ => 0))), (q1, .inl (X.2.2.1, 256, .inl (fun _ => 0)))]) rfl rfl (by decide) k_68 rfl rfl (by decide +kernel) rfl rfl (Nat.le_of_ble_eq_true rfl) rfl d_Fo_init_19 (fun H locs hw => ?_)
  refine lv_aload_n hx hb d_Fo_init_22 rfl (lv_at hl 0 rfl) ?_
  refine lv_sipush (v := 2048) hx hb d_Fo_init_23 (by decide) ?_
  refine ct_newa hC hw (ws' := fun q2 => [(h5, .inr (3, [.ref q0, .ref q1, .null, .null, .int 0])), (q0, .inl (X.2.1, 256, .inl (fun _ => 0))), (q1, .inl (X.2.2.1, 256, .inl (fun _ => 0))), (q2, .inl (X.2.2.2, 2048, .inl (fun _ => 0)))]) (N' := 2048) (atype := .byte) (ty := .byte) 2 rfl k_87 rfl rfl (by decide) rfl (by decide) (by decide) (by decide) (fun _ => rfl) d_Fo_init_26 (fun q2 H hw => ?_)
  refine W.widen (k := 3) (n := 2560) (by decide) (by decide) ?_
  refine ct_putF hC hin hw 0 2 (ty := .array .byte) (ws' := [(h5, .inr (3, [.ref q0, .ref q1, .ref q2, .null, .int 0])), (q0, .inl (X.2.1, 256, .inl (fun _ => 0))), (q1, .inl (X.2.2.1, 256, .inl (fun _ => 0))), (q2, .inl (X.2.2.2, 2048, .inl (fun _ => 0)))]) rfl rfl (by decide) k_70 rfl rfl (by decide +kernel) rfl rfl (Nat.le_of_ble_eq_true rfl) rfl d_Fo_init_28 (fun H locs hw => ?_)
  refine lv_aload_n hx hb d_Fo_init_31 rfl (lv_at hl 0 rfl) ?_
  refine lv_sipush (v := 256) hx hb d_Fo_init_32 (by decide) ?_
  refine ct_newa hC hw (ws' := fun q3 => [(h5, .inr (3, [.ref q0, .ref q1, .ref q2, .null, .int 0])), (q0, .inl (X.2.1, 256, .inl (fun _ => 0))), (q1, .inl (X.2.2.1, 256, .inl (fun _ => 0))), (q2, .inl (X.2.2.2, 2048, .inl (fun _ => 0))), (q3, .inl (X.2.1, 256, .inl (fun _ => 0)))]) (N' := 256) (atype := .int) (ty := .int) 0 rfl k_59 rfl rfl (by decide) rfl (by decide) (by decide) (by decide) (fun _ => rfl) d_Fo_init_35 (fun q3 H hw => ?_)
  refine W.widen (k := 4) (n := 2816) (by decide) (by decide) ?_
  refine ct_putF hC hin hw 0 3 (ty := .array .int) (ws' := [(h5, .inr (3, [.ref q0, .ref q1, .ref q2, .ref q3, .int 0])), (q0, .inl (X.2.1, 256, .inl (fun _ => 0))), (q1, .inl (X.2.2.1, 256, .inl (fun _ => 0))), (q2, .inl (X.2.2.2, 2048, .inl (fun _ => 0))), (q3, .inl (X.2.1, 256, .inl (fun _ => 0)))]) rfl rfl (by decide) k_71 rfl rfl (by decide +kernel) rfl rfl (Nat.le_of_ble_eq_true rfl) rfl d_Fo_init_37 (fun H locs hw => ?_)
  exact ct_vret hC hw (q0, q1, q2, q3) rfl d_Fo_init_40
set_option maxHeartbeats 4000000 in
set_option maxRecDepth 100000 in
/-- ModeKeeper() -/
theorem c_MK_init (l : Launch) (X : GG) (h0 : Nat) : Ct l y_MK_init b_MK_init 1 none ({ frames := 2, cells := 10, slots := 2852, locals := 33 } : Room) X [.ref h0] ([(h0, .inr (0, [.null, .null, .null, .null, .int 0]))]) none (fun u : Nat × Nat × Nat × Nat × Nat × Nat × Nat × Nat × Nat × Nat => wK X h0 u.1 u.2.1 u.2.2.1 u.2.2.2.1 u.2.2.2.2.1 u.2.2.2.2.2.1 u.2.2.2.2.2.2.1 u.2.2.2.2.2.2.2.1 u.2.2.2.2.2.2.2.2.1 u.2.2.2.2.2.2.2.2.2 ((fun _ => 0, 1, 0, 0, 0), (fun _ => 0, fun _ => 0, fun _ => 0, fun _ => 0, 0), (fun _ => 0, 0))) := by
  refine ct_enter (by decide) (Nat.le_of_ble_eq_true rfl) ?_
  intro p e s m args below meth c A ls hx hb hC hin hw hl
  have hC : Cx p s m args meth c "ModeKeeper" b_MK_init 1 none X := hC
  have hin : meth.name = "<init>" := hin
  have hw : Wd X A s.heap [(h0, .inr (0, [.null, .null, .null, .null, .int 0]))] s.heap [] := hw
  have hl : lv_has ls 1 [(0, .ref h0)] := hl
  refine lv_aload_n hx hb d_MK_init_0 rfl (lv_at hl 0 rfl) ?_
  refine ct_objInit hC hl.1 k_16 d_MK_init_1 (by decide) (by decide) ?_
  refine lv_aload_n hx hb d_MK_init_4 rfl (lv_at hl 0 rfl) ?_
  refine ct_new hC hw 1 (ws' := fun q0 => [(h0, .inr (0, [.null, .null, .null, .null, .int 0])), (q0, .inr (1, [.int 0]))]) (fs := [.int 0]) rfl k_19 k_20 k_6 (by decide +kernel) (by decide) (by decide) (fun _ => rfl) d_MK_init_5 (fun q0 H hw => ?_)
  refine W.widen (k := 1) (n := 1) (by decide) (by decide) ?_
  refine lv_dup hx hb d_MK_init_8 rfl ?_
  refine ct_callIN (rest := [.ref q0, .ref h0]) (As := []) (n := 0) (wr := [(h0, .inr (0, [.null, .null, .null, .null, .int 0]))]) (W2 := fun _ : Unit => [(h0, .inr (0, [.null, .null, .null, .null, .int 0])), (q0, .inr (1, [.int 0]))]) hC hw hl.1 (c_Co_init l X q0 0) k_23 (by decide +kernel) k_22 k_6 [1] [0] [0, 1] rfl rfl rfl rfl (by decide) rfl (fun _ => rfl) rfl (by decide +kernel) ⟨by decide, by decide⟩ rfl (Nat.le_of_ble_eq_true rfl) ⟨by decide, by decide⟩ rfl d_MK_init_9 (fun u H locs hw => ?_)
  refine W.eq (g2 := F0 m 12 ls [.ref q0, .ref h0]) rfl ?_
  refine ct_putF hC hin hw 0 0 (ty := .object "ModeKeeper$Counter") (ws' := [(h0, .inr (0, [.ref q0, .null, .null, .null, .int 0])), (q0, .inr (1, [.int 0]))]) rfl rfl (by decide) k_88 rfl rfl (by decide +kernel) rfl rfl (Nat.le_of_ble_eq_true rfl) rfl d_MK_init_12 (fun H locs hw => ?_)
  refine lv_aload_n hx hb d_MK_init_15 rfl (lv_at hl 0 rfl) ?_
  refine ct_new hC hw 2 (ws' := fun q1 => [(h0, .inr (0, [.ref q0, .null, .null, .null, .int 0])), (q0, .inr (1, [.int 0])), (q1, .inr (2, [.null, .null, .null, .int 0, .int 0, .int 0]))]) (fs := [.null, .null, .null, .int 0, .int 0, .int 0]) rfl k_30 k_31 k_7 (by decide +kernel) (by decide) (by decide) (fun _ => rfl) d_MK_init_16 (fun q1 H hw => ?_)
  refine W.widen (k := 2) (n := 7) (by decide) (by decide) ?_
  refine lv_dup hx hb d_MK_init_19 rfl ?_
  refine lv_aload_n hx hb d_MK_init_20 rfl (lv_at hl 0 rfl) ?_
  refine ct_get hC hw 0 0 rfl rfl (by decide) k_88 rfl d_MK_init_21 ?_
  refine ct_callI (rest := [.ref q1, .ref h0]) (As := [.ref q0]) (n := 1) (wr := [(h0, .inr (0, [.ref q0, .null, .null, .null, .int 0])), (q0, .inr (1, [.int 0]))]) (W2 := fun u : Nat × Nat => [(h0, .inr (0, [.ref q0, .null, .null, .null, .int 0])), (q0, .inr (1, [.int 0])), (q1, .inr (2, [.ref q0, .ref u.1, .ref u.2, .int 1, .int 0, .int 0])), (u.1, .inl (X.2.1, 8, .inl safeF)), (u.2, .inl (X.2.1, 8, .inl (fun _ => 0)))]) hC hw hl.1 (c_Mo_init l X q0 q1) k_34 k_32 k_33 k_7 [2] [0, 1] [0, 1, 2, 3, 4] rfl rfl rfl rfl (by decide) rfl (fun _ => rfl) rfl (by decide +kernel) ⟨by decide, by decide⟩ rfl (Nat.le_of_ble_eq_true rfl) ⟨by decide, by decide⟩ rfl d_MK_init_24 (fun u H locs hw => ?_)
  obtain ⟨qs, qa⟩ := u
  have hw : Wd X _ s.heap [(h0, .inr (0, [.ref q0, .null, .null, .null, .int 0])), (q0, .inr (1, [.int 0])), (q1, .inr (2, [.ref q0, .ref qs, .ref qa, .int 1, .int 0, .int 0])), (qs, .inl (X.2.1, 8, .inl safeF)), (qa, .inl (X.2.1, 8, .inl (fun _ => 0)))] H locs := hw
  refine W.widen (k := 4) (n := 23) (by decide) (by decide) ?_
  refine W.eq (g2 := F0 m 27 ls [.ref q1, .ref h0]) rfl ?_
  refine ct_putF hC hin hw 0 1 (ty := .object "ModeKeeper$Modes") (ws' := [(h0, .inr (0, [.ref q0, .ref q1, .null, .null, .int 0])), (q0, .inr (1, [.int 0])), (q1, .inr (2, [.ref q0, .ref qs, .ref qa, .int 1, .int 0, .int 0])), (qs, .inl (X.2.1, 8, .inl safeF)), (qa, .inl (X.2.1, 8, .inl (fun _ => 0)))]) rfl rfl (by decide) k_89 rfl rfl (by decide +kernel) rfl rfl (Nat.le_of_ble_eq_true rfl) rfl d_MK_init_27 (fun H locs hw => ?_)
  refine lv_aload_n hx hb d_MK_init_30 rfl (lv_at hl 0 rfl) ?_
  refine ct_new hC hw 3 (ws' := fun q2 => [(h0, .inr (0, [.ref q0, .ref q1, .null, .null, .int 0])), (q0, .inr (1, [.int 0])), (q1, .inr (2, [.ref q0, .ref qs, .ref qa, .int 1, .int 0, .int 0])), (qs, .inl (X.2.1, 8, .inl safeF)), (qa, .inl (X.2.1, 8, .inl (fun _ => 0))), (q2, .inr (3, [.null, .null, .null, .null, .int 0]))]) (fs := [.null, .null, .null, .null, .int 0]) rfl k_60 k_61 k_8 (by decide +kernel) (by decide) (by decide) (fun _ => rfl) d_MK_init_31 (fun q2 H hw => ?_)
  refine W.widen (k := 5) (n := 28) (by decide) (by decide) ?_
  refine lv_dup hx hb d_MK_init_34 rfl ?_
  refine ct_callIN (rest := [.ref q2, .ref h0]) (As := []) (n := 0) (wr := [(h0, .inr (0, [.ref q0, .ref q1, .null, .null, .int 0])), (q0, .inr (1, [.int 0])), (q1, .inr (2, [.ref q0, .ref qs, .ref qa, .int 1, .int 0, .int 0])), (qs, .inl (X.2.1, 8, .inl safeF)), (qa, .inl (X.2.1, 8, .inl (fun _ => 0)))]) (W2 := fun u : Nat × Nat × Nat × Nat => [(h0, .inr (0, [.ref q0, .ref q1, .null, .null, .int 0])), (q0, .inr (1, [.int 0])), (q1, .inr (2, [.ref q0, .ref qs, .ref qa, .int 1, .int 0, .int 0])), (qs, .inl (X.2.1, 8, .inl safeF)), (qa, .inl (X.2.1, 8, .inl (fun _ => 0))), (q2, .inr (3, [.ref u.1, .ref u.2.1, .ref u.2.2.1, .ref u.2.2.2, .int 0])), (u.1, .inl (X.2.1, 256, .inl (fun _ => 0))), (u.2.1, .inl (X.2.2.1, 256, .inl (fun _ => 0))), (u.2.2.1, .inl (X.2.2.2, 2048, .inl (fun _ => 0))), (u.2.2.2, .inl (X.2.1, 256, .inl (fun _ => 0)))]) hC hw hl.1 (c_Fo_init l X q2) k_64 (by decide +kernel) k_63 k_8 [5] [0, 1, 2, 3, 4] [0, 1, 2, 3, 4, 5, 6, 7, 8, 9] rfl rfl rfl rfl (by decide) rfl (fun _ => rfl) rfl (by decide +kernel) ⟨by decide, by decide⟩ rfl (Nat.le_of_ble_eq_true rfl) ⟨by decide, by decide⟩ rfl d_MK_init_35 (fun u H locs hw => ?_)
  obtain ⟨qe, qo, qp, qz⟩ := u
  have hw : Wd X _ s.heap [(h0, .inr (0, [.ref q0, .ref q1, .null, .null, .int 0])), (q0, .inr (1, [.int 0])), (q1, .inr (2, [.ref q0, .ref qs, .ref qa, .int 1, .int 0, .int 0])), (qs, .inl (X.2.1, 8, .inl safeF)), (qa, .inl (X.2.1, 8, .inl (fun _ => 0))), (q2, .inr (3, [.ref qe, .ref qo, .ref qp, .ref qz, .int 0])), (qe, .inl (X.2.1, 256, .inl (fun _ => 0))), (qo, .inl (X.2.2.1, 256, .inl (fun _ => 0))), (qp, .inl (X.2.2.2, 2048, .inl (fun _ => 0))), (qz, .inl (X.2.1, 256, .inl (fun _ => 0)))] H locs := hw
  refine W.widen (k := 9) (n := 2844) (by decide) (by decide) ?_
  refine W.eq (g2 := F0 m 38 ls [.ref q2, .ref h0]) rfl ?_
  refine ct_putF hC hin hw 0 2 (ty := .object "ModeKeeper$Forms") (ws' := [(h0, .inr (0, [.ref q0, .ref q1, .ref q2, .null, .int 0])), (q0, .inr (1, [.int 0])), (q1, .inr (2, [.ref q0, .ref qs, .ref qa, .int 1, .int 0, .int 0])), (qs, .inl (X.2.1, 8, .inl safeF)), (qa, .inl (X.2.1, 8, .inl (fun _ => 0))), (q2, .inr (3, [.ref qe, .ref qo, .ref qp, .ref qz, .int 0])), (qe, .inl (X.2.1, 256, .inl (fun _ => 0))), (qo, .inl (X.2.2.1, 256, .inl (fun _ => 0))), (qp, .inl (X.2.2.2, 2048, .inl (fun _ => 0))), (qz, .inl (X.2.1, 256, .inl (fun _ => 0)))]) rfl rfl (by decide) k_90 rfl rfl (by decide +kernel) rfl rfl (Nat.le_of_ble_eq_true rfl) rfl d_MK_init_38 (fun H locs hw => ?_)
  refine lv_aload_n hx hb d_MK_init_41 rfl (lv_at hl 0 rfl) ?_
  refine lv_bipush (v := 8) hx hb d_MK_init_42 (by decide) ?_
  refine ct_newa hC hw (ws' := fun q3 => [(h0, .inr (0, [.ref q0, .ref q1, .ref q2, .null, .int 0])), (q0, .inr (1, [.int 0])), (q1, .inr (2, [.ref q0, .ref qs, .ref qa, .int 1, .int 0, .int 0])), (qs, .inl (X.2.1, 8, .inl safeF)), (qa, .inl (X.2.1, 8, .inl (fun _ => 0))), (q2, .inr (3, [.ref qe, .ref qo, .ref qp, .ref qz, .int 0])), (qe, .inl (X.2.1, 256, .inl (fun _ => 0))), (qo, .inl (X.2.2.1, 256, .inl (fun _ => 0))), (qp, .inl (X.2.2.2, 2048, .inl (fun _ => 0))), (qz, .inl (X.2.1, 256, .inl (fun _ => 0))), (q3, .inl (X.2.2.2, 8, .inl (fun _ => 0)))]) (N' := 8) (atype := .byte) (ty := .byte) 2 rfl k_87 rfl rfl (by decide) rfl (by decide) (by decide) (by decide) (fun _ => rfl) d_MK_init_44 (fun q3 H hw => ?_)
  refine W.widen (k := 10) (n := 2852) (by decide) (by decide) ?_
  refine ct_putF hC hin hw 0 3 (ty := .array .byte) (ws' := [(h0, .inr (0, [.ref q0, .ref q1, .ref q2, .ref q3, .int 0])), (q0, .inr (1, [.int 0])), (q1, .inr (2, [.ref q0, .ref qs, .ref qa, .int 1, .int 0, .int 0])), (qs, .inl (X.2.1, 8, .inl safeF)), (qa, .inl (X.2.1, 8, .inl (fun _ => 0))), (q2, .inr (3, [.ref qe, .ref qo, .ref qp, .ref qz, .int 0])), (qe, .inl (X.2.1, 256, .inl (fun _ => 0))), (qo, .inl (X.2.2.1, 256, .inl (fun _ => 0))), (qp, .inl (X.2.2.2, 2048, .inl (fun _ => 0))), (qz, .inl (X.2.1, 256, .inl (fun _ => 0))), (q3, .inl (X.2.2.2, 8, .inl (fun _ => 0)))]) rfl rfl (by decide) k_91 rfl rfl (by decide +kernel) rfl rfl (Nat.le_of_ble_eq_true rfl) rfl d_MK_init_46 (fun H locs hw => ?_)
  exact ct_vret hC (hw.perm (ws' := [(h0, .inr (0, [.ref q0, .ref q1, .ref q2, .ref q3, .int 0])), (q1, .inr (2, [.ref q0, .ref qs, .ref qa, .int 1, .int 0, .int 0])), (qs, .inl (X.2.1, 8, .inl safeF)), (qa, .inl (X.2.1, 8, .inl (fun _ => 0))), (q0, .inr (1, [.int 0])), (q2, .inr (3, [.ref qe, .ref qo, .ref qp, .ref qz, .int 0])), (qe, .inl (X.2.1, 256, .inl (fun _ => 0))), (qo, .inl (X.2.2.1, 256, .inl (fun _ => 0))), (qp, .inl (X.2.2.2, 2048, .inl (fun _ => 0))), (qz, .inl (X.2.1, 256, .inl (fun _ => 0))), (q3, .inl (X.2.2.2, 8, .inl (fun _ => 0)))]) [0, 2, 3, 4, 1, 5, 6, 7, 8, 9, 10] rfl rfl) (q0, q1, qs, qa, q2, qe, qo, qp, qz, q3) rfl d_MK_init_49
set_option maxHeartbeats 4000000 in
set_option maxRecDepth 100000 in
/-- move -/
theorem c_MK_move (l : Launch) (X : GG) (h0 h1 h2 h3 h4 h5 h6 h7 h8 h9 h10 : Nat) (z : MS) (f : FS) (t : TS) (a0 v0 : Int32) : Ct l y_MK_move b_MK_move 3 (some .int) ({ frames := 2, cells := 0, slots := 0, locals := 44 } : Room) X [.ref h0, .int a0, .int v0] (wK X h0 h1 h2 h3 h4 h5 h6 h7 h8 h9 h10 (z, f, t)) (some (.int ((mv z a0 v0).1))) (fun _ : Unit => wK X h0 h1 h2 h3 h4 h5 h6 h7 h8 h9 h10 ((mv z a0 v0).2, f, t)) := by
  refine ct_enter (by decide) (Nat.le_of_ble_eq_true rfl) ?_
  intro p e s m args below meth c A ls hx hb hC hin hw hl
  have hC : Cx p s m args meth c "ModeKeeper" b_MK_move 3 (some .int) X := hC
  have hw : Wd X A s.heap [(h0, .inr (0, [.ref h1, .ref h2, .ref h5, .ref h10, .int t.2])), (h2, .inr (2, [.ref h1, .ref h3, .ref h4, .int z.2.1, .int z.2.2.1, .int z.2.2.2.1])), (h3, .inl (X.2.1, 8, .inl safeF)), (h4, .inl (X.2.1, 8, .inl z.1)), (h1, .inr (1, [.int z.2.2.2.2])), (h5, .inr (3, [.ref h6, .ref h7, .ref h8, .ref h9, .int f.2.2.2.2])), (h6, .inl (X.2.1, 256, .inl f.1)), (h7, .inl (X.2.2.1, 256, .inl f.2.1)), (h8, .inl (X.2.2.2, 2048, .inl f.2.2.1)), (h9, .inl (X.2.1, 256, .inl f.2.2.2.1)), (h10, .inl (X.2.2.2, 8, .inl t.1))] s.heap [] := hw
  have hl : lv_has ls 3 [(0, .ref h0), (1, .int a0), (2, .int v0)] := hl
  refine lv_aload_n hx hb d_MK_move_0 rfl (lv_at hl 0 rfl) ?_
  refine ct_get hC hw 0 1 rfl rfl (by decide) k_89 rfl d_MK_move_1 ?_
  refine lv_iload_n hx hb d_MK_move_4 rfl (lv_at hl 1 rfl) ?_
  refine lv_iload_n hx hb d_MK_move_5 rfl (lv_at hl 2 rfl) ?_
  refine ct_callV (rest := []) (As := [.int a0, .int v0]) (n := 2) (wr := [(h0, .inr (0, [.ref h1, .ref h2, .ref h5, .ref h10, .int t.2])), (h5, .inr (3, [.ref h6, .ref h7, .ref h8, .ref h9, .int f.2.2.2.2])), (h6, .inl (X.2.1, 256, .inl f.1)), (h7, .inl (X.2.2.1, 256, .inl f.2.1)), (h8, .inl (X.2.2.2, 2048, .inl f.2.2.1)), (h9, .inl (X.2.1, 256, .inl f.2.2.2.1)), (h10, .inl (X.2.2.2, 8, .inl t.1))]) (W2 := fun _ : Unit => [(h0, .inr (0, [.ref h1, .ref h2, .ref h5, .ref h10, .int t.2])), (h2, .inr (2, [.ref h1, .ref h3, .ref h4, .int (((mv z a0 v0).2).2.1), .int (((mv z a0 v0).2).2.2.1), .int (((mv z a0 v0).2).2.2.2.1)])), (h3, .inl (X.2.1, 8, .inl safeF)), (h4, .inl (X.2.1, 8, .inl (((mv z a0 v0).2).1))), (h1, .inr (1, [.int (((mv z a0 v0).2).2.2.2.2)])), (h5, .inr (3, [.ref h6, .ref h7, .ref h8, .ref h9, .int f.2.2.2.2])), (h6, .inl (X.2.1, 256, .inl f.1)), (h7, .inl (X.2.2.1, 256, .inl f.2.1)), (h8, .inl (X.2.2.2, 2048, .inl f.2.2.1)), (h9, .inl (X.2.1, 256, .inl f.2.2.2.1)), (h10, .inl (X.2.2.2, 8, .inl t.1))]) hC hw hl.1 (c_Mo_move l X h1 h2 h3 h4 z a0 v0) k_111 k_108 k_109 k_110 k_7 [1, 2, 3, 4] [0, 5, 6, 7, 8, 9, 10] [0, 7, 8, 9, 10, 1, 2, 3, 4, 5, 6] rfl rfl rfl rfl rfl rfl (by decide) rfl (fun _ => rfl) (by decide +kernel) ⟨by decide, by decide⟩ rfl (Nat.le_of_ble_eq_true rfl) ⟨by decide, by decide⟩ rfl d_MK_move_6 (fun u H locs hw => ?_)
  refine W.eq (g2 := F0 m 9 ls [.int ((mv z a0 v0).1)]) rfl ?_
  exact ct_iret (F := wK X h0 h1 h2 h3 h4 h5 h6 h7 h8 h9 h10) (z := (((mv z a0 v0).2), f, t)) (sp := ((mv z a0 v0).1, ((mv z a0 v0).2, f, t))) hC hw (rfl) rfl d_MK_move_9
set_option maxHeartbeats 4000000 in
set_option maxRecDepth 100000 in
/-- enter -/
theorem c_MK_enter (l : Launch) (X : GG) (h0 h1 h2 h3 h4 h5 h6 h7 h8 h9 h10 : Nat) (z : MS) (f : FS) (t : TS) (m0 : Int32) : Ct l y_MK_enter b_MK_enter 2 (some .int) ({ frames := 3, cells := 0, slots := 0, locals := 64 } : Room) X [.ref h0, .int m0] (wK X h0 h1 h2 h3 h4 h5 h6 h7 h8 h9 h10 (z, f, t)) (some (.int ((en z m0).1))) (fun _ : Unit => wK X h0 h1 h2 h3 h4 h5 h6 h7 h8 h9 h10 ((en z m0).2, f, t)) := by
  refine ct_enter (by decide) (Nat.le_of_ble_eq_true rfl) ?_
  intro p e s m args below meth c A ls hx hb hC hin hw hl
  have hC : Cx p s m args meth c "ModeKeeper" b_MK_enter 2 (some .int) X := hC
  have hw : Wd X A s.heap [(h0, .inr (0, [.ref h1, .ref h2, .ref h5, .ref h10, .int t.2])), (h2, .inr (2, [.ref h1, .ref h3, .ref h4, .int z.2.1, .int z.2.2.1, .int z.2.2.2.1])), (h3, .inl (X.2.1, 8, .inl safeF)), (h4, .inl (X.2.1, 8, .inl z.1)), (h1, .inr (1, [.int z.2.2.2.2])), (h5, .inr (3, [.ref h6, .ref h7, .ref h8, .ref h9, .int f.2.2.2.2])), (h6, .inl (X.2.1, 256, .inl f.1)), (h7, .inl (X.2.2.1, 256, .inl f.2.1)), (h8, .inl (X.2.2.2, 2048, .inl f.2.2.1)), (h9, .inl (X.2.1, 256, .inl f.2.2.2.1)), (h10, .inl (X.2.2.2, 8, .inl t.1))] s.heap [] := hw
  have hl : lv_has ls 2 [(0, .ref h0), (1, .int m0)] := hl
  refine lv_aload_n hx hb d_MK_enter_0 rfl (lv_at hl 0 rfl) ?_
  refine ct_get hC hw 0 1 rfl rfl (by decide) k_89 rfl d_MK_enter_1 ?_
  refine lv_iload_n hx hb d_MK_enter_4 rfl (lv_at hl 1 rfl) ?_
  refine ct_callV (rest := []) (As := [.int m0]) (n := 1) (wr := [(h0, .inr (0, [.ref h1, .ref h2, .ref h5, .ref h10, .int t.2])), (h5, .inr (3, [.ref h6, .ref h7, .ref h8, .ref h9, .int f.2.2.2.2])), (h6, .inl (X.2.1, 256, .inl f.1)), (h7, .inl (X.2.2.1, 256, .inl f.2.1)), (h8, .inl (X.2.2.2, 2048, .inl f.2.2.1)), (h9, .inl (X.2.1, 256, .inl f.2.2.2.1)), (h10, .inl (X.2.2.2, 8, .inl t.1))]) (W2 := fun _ : Unit => [(h0, .inr (0, [.ref h1, .ref h2, .ref h5, .ref h10, .int t.2])), (h2, .inr (2, [.ref h1, .ref h3, .ref h4, .int (((en z m0).2).2.1), .int (((en z m0).2).2.2.1), .int (((en z m0).2).2.2.2.1)])), (h3, .inl (X.2.1, 8, .inl safeF)), (h4, .inl (X.2.1, 8, .inl (((en z m0).2).1))), (h1, .inr (1, [.int (((en z m0).2).2.2.2.2)])), (h5, .inr (3, [.ref h6, .ref h7, .ref h8, .ref h9, .int f.2.2.2.2])), (h6, .inl (X.2.1, 256, .inl f.1)), (h7, .inl (X.2.2.1, 256, .inl f.2.1)), (h8, .inl (X.2.2.2, 2048, .inl f.2.2.1)), (h9, .inl (X.2.1, 256, .inl f.2.2.2.1)), (h10, .inl (X.2.2.2, 8, .inl t.1))]) hC hw hl.1 (c_Mo_enter l X h1 h2 h3 h4 z m0) k_123 k_120 k_121 k_122 k_7 [1, 2, 3, 4] [0, 5, 6, 7, 8, 9, 10] [0, 7, 8, 9, 10, 1, 2, 3, 4, 5, 6] rfl rfl rfl rfl rfl rfl (by decide) rfl (fun _ => rfl) (by decide +kernel) ⟨by decide, by decide⟩ rfl (Nat.le_of_ble_eq_true rfl) ⟨by decide, by decide⟩ rfl d_MK_enter_5 (fun u H locs hw => ?_)
  refine W.eq (g2 := F0 m 8 ls [.int ((en z m0).1)]) rfl ?_
  exact ct_iret (F := wK X h0 h1 h2 h3 h4 h5 h6 h7 h8 h9 h10) (z := (((en z m0).2), f, t)) (sp := ((en z m0).1, ((en z m0).2, f, t))) hC hw (rfl) rfl d_MK_enter_8
set_option maxHeartbeats 4000000 in
set_option maxRecDepth 100000 in
/-- alarm -/
theorem c_MK_alarm (l : Launch) (X : GG) (h0 h1 h2 h3 h4 h5 h6 h7 h8 h9 h10 : Nat) (z : MS) (f : FS) (t : TS) (tk : Int32) : Ct l y_MK_alarm b_MK_alarm 2 (some .boolean) ({ frames := 1, cells := 0, slots := 0, locals := 21 } : Room) X [.ref h0, .int tk] (wK X h0 h1 h2 h3 h4 h5 h6 h7 h8 h9 h10 (z, f, t)) (some (.int ((al z tk).1))) (fun _ : Unit => wK X h0 h1 h2 h3 h4 h5 h6 h7 h8 h9 h10 ((al z tk).2, f, t)) := by
  refine ct_enter (by decide) (Nat.le_of_ble_eq_true rfl) ?_
  intro p e s m args below meth c A ls hx hb hC hin hw hl
  have hC : Cx p s m args meth c "ModeKeeper" b_MK_alarm 2 (some .boolean) X := hC
  have hw : Wd X A s.heap [(h0, .inr (0, [.ref h1, .ref h2, .ref h5, .ref h10, .int t.2])), (h2, .inr (2, [.ref h1, .ref h3, .ref h4, .int z.2.1, .int z.2.2.1, .int z.2.2.2.1])), (h3, .inl (X.2.1, 8, .inl safeF)), (h4, .inl (X.2.1, 8, .inl z.1)), (h1, .inr (1, [.int z.2.2.2.2])), (h5, .inr (3, [.ref h6, .ref h7, .ref h8, .ref h9, .int f.2.2.2.2])), (h6, .inl (X.2.1, 256, .inl f.1)), (h7, .inl (X.2.2.1, 256, .inl f.2.1)), (h8, .inl (X.2.2.2, 2048, .inl f.2.2.1)), (h9, .inl (X.2.1, 256, .inl f.2.2.2.1)), (h10, .inl (X.2.2.2, 8, .inl t.1))] s.heap [] := hw
  have hl : lv_has ls 2 [(0, .ref h0), (1, .int tk)] := hl
  refine lv_aload_n hx hb d_MK_alarm_0 rfl (lv_at hl 0 rfl) ?_
  refine ct_get hC hw 0 1 rfl rfl (by decide) k_89 rfl d_MK_alarm_1 ?_
  refine lv_iload_n hx hb d_MK_alarm_4 rfl (lv_at hl 1 rfl) ?_
  refine ct_callV (rest := []) (As := [.int tk]) (n := 1) (wr := [(h0, .inr (0, [.ref h1, .ref h2, .ref h5, .ref h10, .int t.2])), (h5, .inr (3, [.ref h6, .ref h7, .ref h8, .ref h9, .int f.2.2.2.2])), (h6, .inl (X.2.1, 256, .inl f.1)), (h7, .inl (X.2.2.1, 256, .inl f.2.1)), (h8, .inl (X.2.2.2, 2048, .inl f.2.2.1)), (h9, .inl (X.2.1, 256, .inl f.2.2.2.1)), (h10, .inl (X.2.2.2, 8, .inl t.1))]) (W2 := fun _ : Unit => [(h0, .inr (0, [.ref h1, .ref h2, .ref h5, .ref h10, .int t.2])), (h2, .inr (2, [.ref h1, .ref h3, .ref h4, .int (((al z tk).2).2.1), .int (((al z tk).2).2.2.1), .int (((al z tk).2).2.2.2.1)])), (h3, .inl (X.2.1, 8, .inl safeF)), (h4, .inl (X.2.1, 8, .inl (((al z tk).2).1))), (h1, .inr (1, [.int (((al z tk).2).2.2.2.2)])), (h5, .inr (3, [.ref h6, .ref h7, .ref h8, .ref h9, .int f.2.2.2.2])), (h6, .inl (X.2.1, 256, .inl f.1)), (h7, .inl (X.2.2.1, 256, .inl f.2.1)), (h8, .inl (X.2.2.2, 2048, .inl f.2.2.1)), (h9, .inl (X.2.1, 256, .inl f.2.2.2.1)), (h10, .inl (X.2.2.2, 8, .inl t.1))]) hC hw hl.1 (c_Mo_alarm l X h1 h2 h3 h4 z tk) k_152 k_149 k_150 k_151 k_7 [1, 2, 3, 4] [0, 5, 6, 7, 8, 9, 10] [0, 7, 8, 9, 10, 1, 2, 3, 4, 5, 6] rfl rfl rfl rfl rfl rfl (by decide) rfl (fun _ => rfl) (by decide +kernel) ⟨by decide, by decide⟩ rfl (Nat.le_of_ble_eq_true rfl) ⟨by decide, by decide⟩ rfl d_MK_alarm_5 (fun u H locs hw => ?_)
  refine W.eq (g2 := F0 m 8 ls [.int ((al z tk).1)]) rfl ?_
  exact ct_zret (F := wK X h0 h1 h2 h3 h4 h5 h6 h7 h8 h9 h10) (z := (((al z tk).2), f, t)) (sp := ((al z tk).1, ((al z tk).2, f, t))) hC hw (al_01 z tk) (rfl) rfl d_MK_alarm_8
set_option maxHeartbeats 4000000 in
set_option maxRecDepth 100000 in
/-- look -/
theorem c_MK_look (l : Launch) (X : GG) (h0 h1 h2 h3 h4 h5 h6 h7 h8 h9 h10 : Nat) (z : MS) (f : FS) (t : TS) (tk : Int32) : Ct l y_MK_look b_MK_look 2 (some .boolean) ({ frames := 3, cells := 0, slots := 0, locals := 64 } : Room) X [.ref h0, .int tk] (wK X h0 h1 h2 h3 h4 h5 h6 h7 h8 h9 h10 (z, f, t)) (some (.int ((lk z tk).1))) (fun _ : Unit => wK X h0 h1 h2 h3 h4 h5 h6 h7 h8 h9 h10 ((lk z tk).2, f, t)) := by
  refine ct_enter (by decide) (Nat.le_of_ble_eq_true rfl) ?_
  intro p e s m args below meth c A ls hx hb hC hin hw hl
  have hC : Cx p s m args meth c "ModeKeeper" b_MK_look 2 (some .boolean) X := hC
  have hw : Wd X A s.heap [(h0, .inr (0, [.ref h1, .ref h2, .ref h5, .ref h10, .int t.2])), (h2, .inr (2, [.ref h1, .ref h3, .ref h4, .int z.2.1, .int z.2.2.1, .int z.2.2.2.1])), (h3, .inl (X.2.1, 8, .inl safeF)), (h4, .inl (X.2.1, 8, .inl z.1)), (h1, .inr (1, [.int z.2.2.2.2])), (h5, .inr (3, [.ref h6, .ref h7, .ref h8, .ref h9, .int f.2.2.2.2])), (h6, .inl (X.2.1, 256, .inl f.1)), (h7, .inl (X.2.2.1, 256, .inl f.2.1)), (h8, .inl (X.2.2.2, 2048, .inl f.2.2.1)), (h9, .inl (X.2.1, 256, .inl f.2.2.2.1)), (h10, .inl (X.2.2.2, 8, .inl t.1))] s.heap [] := hw
  have hl : lv_has ls 2 [(0, .ref h0), (1, .int tk)] := hl
  refine lv_aload_n hx hb d_MK_look_0 rfl (lv_at hl 0 rfl) ?_
  refine ct_get hC hw 0 1 rfl rfl (by decide) k_89 rfl d_MK_look_1 ?_
  refine lv_iload_n hx hb d_MK_look_4 rfl (lv_at hl 1 rfl) ?_
  refine ct_callV (rest := []) (As := [.int tk]) (n := 1) (wr := [(h0, .inr (0, [.ref h1, .ref h2, .ref h5, .ref h10, .int t.2])), (h5, .inr (3, [.ref h6, .ref h7, .ref h8, .ref h9, .int f.2.2.2.2])), (h6, .inl (X.2.1, 256, .inl f.1)), (h7, .inl (X.2.2.1, 256, .inl f.2.1)), (h8, .inl (X.2.2.2, 2048, .inl f.2.2.1)), (h9, .inl (X.2.1, 256, .inl f.2.2.2.1)), (h10, .inl (X.2.2.2, 8, .inl t.1))]) (W2 := fun _ : Unit => [(h0, .inr (0, [.ref h1, .ref h2, .ref h5, .ref h10, .int t.2])), (h2, .inr (2, [.ref h1, .ref h3, .ref h4, .int (((lk z tk).2).2.1), .int (((lk z tk).2).2.2.1), .int (((lk z tk).2).2.2.2.1)])), (h3, .inl (X.2.1, 8, .inl safeF)), (h4, .inl (X.2.1, 8, .inl (((lk z tk).2).1))), (h1, .inr (1, [.int (((lk z tk).2).2.2.2.2)])), (h5, .inr (3, [.ref h6, .ref h7, .ref h8, .ref h9, .int f.2.2.2.2])), (h6, .inl (X.2.1, 256, .inl f.1)), (h7, .inl (X.2.2.1, 256, .inl f.2.1)), (h8, .inl (X.2.2.2, 2048, .inl f.2.2.1)), (h9, .inl (X.2.1, 256, .inl f.2.2.2.1)), (h10, .inl (X.2.2.2, 8, .inl t.1))]) hC hw hl.1 (c_Mo_look l X h1 h2 h3 h4 z tk) k_160 k_157 k_158 k_159 k_7 [1, 2, 3, 4] [0, 5, 6, 7, 8, 9, 10] [0, 7, 8, 9, 10, 1, 2, 3, 4, 5, 6] rfl rfl rfl rfl rfl rfl (by decide) rfl (fun _ => rfl) (by decide +kernel) ⟨by decide, by decide⟩ rfl (Nat.le_of_ble_eq_true rfl) ⟨by decide, by decide⟩ rfl d_MK_look_5 (fun u H locs hw => ?_)
  refine W.eq (g2 := F0 m 8 ls [.int ((lk z tk).1)]) rfl ?_
  exact ct_zret (F := wK X h0 h1 h2 h3 h4 h5 h6 h7 h8 h9 h10) (z := (((lk z tk).2), f, t)) (sp := ((lk z tk).1, ((lk z tk).2, f, t))) hC hw (lk_01 z tk) (rfl) rfl d_MK_look_8
set_option maxHeartbeats 4000000 in
set_option maxRecDepth 100000 in
/-- put -/
theorem c_MK_put (l : Launch) (X : GG) (h0 h1 h2 h3 h4 h5 h6 h7 h8 h9 h10 : Nat) (z : MS) (f : FS) (t : TS) (x0 : Int32) (hI : Inv f t) : Ct l y_MK_put b_MK_put 2 (some .int) ({ frames := 0, cells := 0, slots := 0, locals := 0 } : Room) X [.ref h0, .int x0] (wK X h0 h1 h2 h3 h4 h5 h6 h7 h8 h9 h10 (z, f, t)) (some (.int ((pt t x0).1))) (fun _ : Unit => wK X h0 h1 h2 h3 h4 h5 h6 h7 h8 h9 h10 (z, f, (pt t x0).2)) := by
  refine ct_enter (by decide) (Nat.le_of_ble_eq_true rfl) ?_
  intro p e s m args below meth c A ls hx hb hC hin hw hl
  have hC : Cx p s m args meth c "ModeKeeper" b_MK_put 2 (some .int) X := hC
  have hw : Wd X A s.heap [(h0, .inr (0, [.ref h1, .ref h2, .ref h5, .ref h10, .int t.2])), (h2, .inr (2, [.ref h1, .ref h3, .ref h4, .int z.2.1, .int z.2.2.1, .int z.2.2.2.1])), (h3, .inl (X.2.1, 8, .inl safeF)), (h4, .inl (X.2.1, 8, .inl z.1)), (h1, .inr (1, [.int z.2.2.2.2])), (h5, .inr (3, [.ref h6, .ref h7, .ref h8, .ref h9, .int f.2.2.2.2])), (h6, .inl (X.2.1, 256, .inl f.1)), (h7, .inl (X.2.2.1, 256, .inl f.2.1)), (h8, .inl (X.2.2.2, 2048, .inl f.2.2.1)), (h9, .inl (X.2.1, 256, .inl f.2.2.2.1)), (h10, .inl (X.2.2.2, 8, .inl t.1))] s.heap [] := hw
  have hl : lv_has ls 2 [(0, .ref h0), (1, .int x0)] := hl
  refine lv_aload_n hx hb d_MK_put_0 rfl (lv_at hl 0 rfl) ?_
  refine ct_get hC hw 0 4 rfl rfl (by decide) k_92 rfl d_MK_put_1 ?_
  refine lv_bipush (v := 8) hx hb d_MK_put_4 (by decide) ?_
  refine lv_icmp_eq (tgt := 19) hx hb d_MK_put_6 (by decide) (fun c_6 => ?_) (fun c_6 => ?_)
  · refine lv_iconst (v := -1) hx hb d_MK_put_19 (by decide) ?_
    exact ct_iret (F := wK X h0 h1 h2 h3 h4 h5 h6 h7 h8 h9 h10) (z := (z, f, t)) (sp := ((pt t x0).1, (z, f, (pt t x0).2))) hC hw (by simp [pt, c_6]) rfl d_MK_put_20
  · refine lv_iload_n hx hb d_MK_put_9 rfl (lv_at hl 1 rfl) ?_
    refine lv_if_lt (tgt := 19) hx hb d_MK_put_10 (by decide) (fun c_10 => ?_) (fun c_10 => ?_)
    · refine lv_iconst (v := -1) hx hb d_MK_put_19 (by decide) ?_
      exact ct_iret (F := wK X h0 h1 h2 h3 h4 h5 h6 h7 h8 h9 h10) (z := (z, f, t)) (sp := ((pt t x0).1, (z, f, (pt t x0).2))) hC hw (by simp [pt, c_6, c_10]) rfl d_MK_put_20
    · refine lv_iload_n hx hb d_MK_put_13 rfl (lv_at hl 1 rfl) ?_
      refine lv_bipush (v := 32) hx hb d_MK_put_14 (by decide) ?_
      refine lv_icmp_lt (tgt := 21) hx hb d_MK_put_16 (by decide) (fun c_16 => ?_) (fun c_16 => ?_)
      · have n_16 : ¬ 32 ≤ x0 := Int32.not_le.mpr c_16
        refine lv_aload_n hx hb d_MK_put_21 rfl (lv_at hl 0 rfl) ?_
        refine ct_get hC hw 0 3 rfl rfl (by decide) k_91 rfl d_MK_put_22 ?_
        refine lv_aload_n hx hb d_MK_put_25 rfl (lv_at hl 0 rfl) ?_
        refine lv_dup hx hb d_MK_put_26 rfl ?_
        refine ct_get hC hw 0 4 rfl rfl (by decide) k_92 rfl d_MK_put_27 ?_
        refine lv_dup_x1 hx hb d_MK_put_30 rfl rfl ?_
        refine lv_iconst (v := 1) hx hb d_MK_put_31 (by decide) ?_
        refine lv_iadd hx hb d_MK_put_32 ?_
        refine ct_put hC hw 0 4 (ty := .int) (ws' := [(h0, .inr (0, [.ref h1, .ref h2, .ref h5, .ref h10, .int (t.2 + 1)])), (h2, .inr (2, [.ref h1, .ref h3, .ref h4, .int z.2.1, .int z.2.2.1, .int z.2.2.2.1])), (h3, .inl (X.2.1, 8, .inl safeF)), (h4, .inl (X.2.1, 8, .inl z.1)), (h1, .inr (1, [.int z.2.2.2.2])), (h5, .inr (3, [.ref h6, .ref h7, .ref h8, .ref h9, .int f.2.2.2.2])), (h6, .inl (X.2.1, 256, .inl f.1)), (h7, .inl (X.2.2.1, 256, .inl f.2.1)), (h8, .inl (X.2.2.2, 2048, .inl f.2.2.1)), (h9, .inl (X.2.1, 256, .inl f.2.2.2.1)), (h10, .inl (X.2.2.2, 8, .inl t.1))]) rfl rfl (by decide) k_92 rfl (by decide +kernel) rfl rfl (Nat.le_of_ble_eq_true rfl) rfl d_MK_put_33 (fun H locs hw => ?_)
        refine lv_iload_n hx hb d_MK_put_36 rfl (lv_at hl 1 rfl) ?_
        refine lv_i2b (v := x0.toInt8.toInt32) hx hb d_MK_put_37 rfl ?_
        refine ct_bast hC hw 10 (ws' := [(h0, .inr (0, [.ref h1, .ref h2, .ref h5, .ref h10, .int (t.2 + 1)])), (h2, .inr (2, [.ref h1, .ref h3, .ref h4, .int z.2.1, .int z.2.2.1, .int z.2.2.2.1])), (h3, .inl (X.2.1, 8, .inl safeF)), (h4, .inl (X.2.1, 8, .inl z.1)), (h1, .inr (1, [.int z.2.2.2.2])), (h5, .inr (3, [.ref h6, .ref h7, .ref h8, .ref h9, .int f.2.2.2.2])), (h6, .inl (X.2.1, 256, .inl f.1)), (h7, .inl (X.2.2.1, 256, .inl f.2.1)), (h8, .inl (X.2.2.2, 2048, .inl f.2.2.1)), (h9, .inl (X.2.1, 256, .inl f.2.2.2.1)), (h10, .inl (X.2.2.2, 8, .inl (upd t.1 t.2.toNatClampNeg (vp_nar .byte x0.toInt8.toInt32))))]) rfl (size_in hI.1 c_6) rfl d_MK_put_38 (fun H locs hw => ?_)
        refine lv_aload_n hx hb d_MK_put_39 rfl (lv_at hl 0 rfl) ?_
        refine ct_get hC hw 0 4 rfl rfl (by decide) k_92 rfl d_MK_put_40 ?_
        exact ct_iret (F := wK X h0 h1 h2 h3 h4 h5 h6 h7 h8 h9 h10) (z := (z, f, (upd t.1 t.2.toNatClampNeg (vp_nar .byte x0.toInt8.toInt32), t.2 + 1))) (sp := ((pt t x0).1, (z, f, (pt t x0).2))) hC hw (by rw [(nar_small c_10 n_16).1]; unfold pt; rw [if_neg (by simp [c_6, c_10, c_16, n_16])]) rfl d_MK_put_43
      · have n_16 : 32 ≤ x0 := Int32.not_lt.mp c_16
        refine lv_iconst (v := -1) hx hb d_MK_put_19 (by decide) ?_
        exact ct_iret (F := wK X h0 h1 h2 h3 h4 h5 h6 h7 h8 h9 h10) (z := (z, f, t)) (sp := ((pt t x0).1, (z, f, (pt t x0).2))) hC hw (by simp [pt, c_6, c_10, c_16, n_16]) rfl d_MK_put_20
set_option maxHeartbeats 4000000 in
set_option maxRecDepth 100000 in
/-- form -/
theorem c_MK_form (l : Launch) (X : GG) (h0 h1 h2 h3 h4 h5 h6 h7 h8 h9 h10 : Nat) (z : MS) (f : FS) (t : TS) (i0 of : Int32) (hI : Inv f t) : Ct l y_MK_form b_MK_form 4 (some .int) ({ frames := 2, cells := 0, slots := 0, locals := 46 } : Room) X [.ref h0, .int i0, .int of] (wK X h0 h1 h2 h3 h4 h5 h6 h7 h8 h9 h10 (z, f, t)) (some (.int ((ad f i0 of t.1 t.2).1))) (fun _ : Unit => wK X h0 h1 h2 h3 h4 h5 h6 h7 h8 h9 h10 (z, (ad f i0 of t.1 t.2).2, (t.1, 0))) := by
  refine ct_enter (by decide) (Nat.le_of_ble_eq_true rfl) ?_
  intro p e s m args below meth c A ls hx hb hC hin hw hl
  have hC : Cx p s m args meth c "ModeKeeper" b_MK_form 4 (some .int) X := hC
  have hw : Wd X A s.heap [(h0, .inr (0, [.ref h1, .ref h2, .ref h5, .ref h10, .int t.2])), (h2, .inr (2, [.ref h1, .ref h3, .ref h4, .int z.2.1, .int z.2.2.1, .int z.2.2.2.1])), (h3, .inl (X.2.1, 8, .inl safeF)), (h4, .inl (X.2.1, 8, .inl z.1)), (h1, .inr (1, [.int z.2.2.2.2])), (h5, .inr (3, [.ref h6, .ref h7, .ref h8, .ref h9, .int f.2.2.2.2])), (h6, .inl (X.2.1, 256, .inl f.1)), (h7, .inl (X.2.2.1, 256, .inl f.2.1)), (h8, .inl (X.2.2.2, 2048, .inl f.2.2.1)), (h9, .inl (X.2.1, 256, .inl f.2.2.2.1)), (h10, .inl (X.2.2.2, 8, .inl t.1))] s.heap [] := hw
  have hl : lv_has ls 4 [(0, .ref h0), (1, .int i0), (2, .int of)] := hl
  refine lv_aload_n hx hb d_MK_form_0 rfl (lv_at hl 0 rfl) ?_
  refine ct_get hC hw 0 4 rfl rfl (by decide) k_92 rfl d_MK_form_1 ?_
  refine lv_istore_n (lv' := [(3, .int t.2), (0, .ref h0), (1, .int i0), (2, .int of)]) hx hb d_MK_form_4 rfl hl (by decide) rfl (fun ls hl => ?_)
  refine lv_aload_n hx hb d_MK_form_5 rfl (lv_at hl 1 rfl) ?_
  refine lv_iconst (v := 0) hx hb d_MK_form_6 (by decide) ?_
  refine ct_put hC hw 0 4 (ty := .int) (ws' := [(h0, .inr (0, [.ref h1, .ref h2, .ref h5, .ref h10, .int 0])), (h2, .inr (2, [.ref h1, .ref h3, .ref h4, .int z.2.1, .int z.2.2.1, .int z.2.2.2.1])), (h3, .inl (X.2.1, 8, .inl safeF)), (h4, .inl (X.2.1, 8, .inl z.1)), (h1, .inr (1, [.int z.2.2.2.2])), (h5, .inr (3, [.ref h6, .ref h7, .ref h8, .ref h9, .int f.2.2.2.2])), (h6, .inl (X.2.1, 256, .inl f.1)), (h7, .inl (X.2.2.1, 256, .inl f.2.1)), (h8, .inl (X.2.2.2, 2048, .inl f.2.2.1)), (h9, .inl (X.2.1, 256, .inl f.2.2.2.1)), (h10, .inl (X.2.2.2, 8, .inl t.1))]) rfl rfl (by decide) k_92 rfl (by decide +kernel) rfl rfl (Nat.le_of_ble_eq_true rfl) rfl d_MK_form_7 (fun H locs hw => ?_)
  refine lv_aload_n hx hb d_MK_form_10 rfl (lv_at hl 1 rfl) ?_
  refine ct_get hC hw 0 2 rfl rfl (by decide) k_90 rfl d_MK_form_11 ?_
  refine lv_iload_n hx hb d_MK_form_14 rfl (lv_at hl 2 rfl) ?_
  refine lv_iload_n hx hb d_MK_form_15 rfl (lv_at hl 3 rfl) ?_
  refine lv_aload_n hx hb d_MK_form_16 rfl (lv_at hl 1 rfl) ?_
  refine ct_get hC hw 0 3 rfl rfl (by decide) k_91 rfl d_MK_form_17 ?_
  refine lv_iconst (v := 0) hx hb d_MK_form_20 (by decide) ?_
  refine lv_iload_n hx hb d_MK_form_21 rfl (lv_at hl 0 rfl) ?_
  refine ct_callV (rest := []) (As := [.int i0, .int of, .ref h10, .int 0, .int t.2]) (n := 5) (wr := [(h0, .inr (0, [.ref h1, .ref h2, .ref h5, .ref h10, .int 0])), (h2, .inr (2, [.ref h1, .ref h3, .ref h4, .int z.2.1, .int z.2.2.1, .int z.2.2.2.1])), (h3, .inl (X.2.1, 8, .inl safeF)), (h4, .inl (X.2.1, 8, .inl z.1)), (h1, .inr (1, [.int z.2.2.2.2]))]) (W2 := fun _ : Unit => [(h0, .inr (0, [.ref h1, .ref h2, .ref h5, .ref h10, .int 0])), (h2, .inr (2, [.ref h1, .ref h3, .ref h4, .int z.2.1, .int z.2.2.1, .int z.2.2.2.1])), (h3, .inl (X.2.1, 8, .inl safeF)), (h4, .inl (X.2.1, 8, .inl z.1)), (h1, .inr (1, [.int z.2.2.2.2])), (h5, .inr (3, [.ref h6, .ref h7, .ref h8, .ref h9, .int (((ad f i0 of t.1 t.2).2).2.2.2.2)])), (h6, .inl (X.2.1, 256, .inl (((ad f i0 of t.1 t.2).2).1))), (h7, .inl (X.2.2.1, 256, .inl (((ad f i0 of t.1 t.2).2).2.1))), (h8, .inl (X.2.2.2, 2048, .inl (((ad f i0 of t.1 t.2).2).2.2.1))), (h9, .inl (X.2.1, 256, .inl (((ad f i0 of t.1 t.2).2).2.2.2.1))), (h10, .inl (X.2.2.2, 8, .inl t.1))]) hC hw hl.1 (c_Fo_add l X h5 h6 h7 h8 h9 h10 t.1 f i0 of t.2 hI.2.2.2.1) k_172 k_169 k_170 k_171 k_8 [5, 6, 7, 8, 9, 10] [0, 1, 2, 3, 4] [0, 1, 2, 3, 4, 5, 6, 7, 8, 9, 10] rfl rfl rfl rfl rfl rfl (by decide) rfl (fun _ => rfl) (by decide +kernel) ⟨by decide, by decide⟩ rfl (Nat.le_of_ble_eq_true rfl) ⟨by decide, by decide⟩ rfl d_MK_form_22 (fun u H locs hw => ?_)
  refine W.eq (g2 := F0 m 25 ls [.int ((ad f i0 of t.1 t.2).1)]) rfl ?_
  exact ct_iret (F := wK X h0 h1 h2 h3 h4 h5 h6 h7 h8 h9 h10) (z := (z, ((ad f i0 of t.1 t.2).2), (t.1, 0))) (sp := ((ad f i0 of t.1 t.2).1, (z, (ad f i0 of t.1 t.2).2, (t.1, 0)))) hC hw (rfl) rfl d_MK_form_25
set_option maxHeartbeats 4000000 in
set_option maxRecDepth 100000 in
/-- remove -/
theorem c_MK_remove (l : Launch) (X : GG) (h0 h1 h2 h3 h4 h5 h6 h7 h8 h9 h10 : Nat) (z : MS) (f : FS) (t : TS) (i0 : Int32) : Ct l y_MK_remove b_MK_remove 2 (some .int) ({ frames := 2, cells := 0, slots := 0, locals := 42 } : Room) X [.ref h0, .int i0] (wK X h0 h1 h2 h3 h4 h5 h6 h7 h8 h9 h10 (z, f, t)) (some (.int ((rv f i0).1))) (fun _ : Unit => wK X h0 h1 h2 h3 h4 h5 h6 h7 h8 h9 h10 (z, (rv f i0).2, t)) := by
  refine ct_enter (by decide) (Nat.le_of_ble_eq_true rfl) ?_
  intro p e s m args below meth c A ls hx hb hC hin hw hl
  have hC : Cx p s m args meth c "ModeKeeper" b_MK_remove 2 (some .int) X := hC
  have hw : Wd X A s.heap [(h0, .inr (0, [.ref h1, .ref h2, .ref h5, .ref h10, .int t.2])), (h2, .inr (2, [.ref h1, .ref h3, .ref h4, .int z.2.1, .int z.2.2.1, .int z.2.2.2.1])), (h3, .inl (X.2.1, 8, .inl safeF)), (h4, .inl (X.2.1, 8, .inl z.1)), (h1, .inr (1, [.int z.2.2.2.2])), (h5, .inr (3, [.ref h6, .ref h7, .ref h8, .ref h9, .int f.2.2.2.2])), (h6, .inl (X.2.1, 256, .inl f.1)), (h7, .inl (X.2.2.1, 256, .inl f.2.1)), (h8, .inl (X.2.2.2, 2048, .inl f.2.2.1)), (h9, .inl (X.2.1, 256, .inl f.2.2.2.1)), (h10, .inl (X.2.2.2, 8, .inl t.1))] s.heap [] := hw
  have hl : lv_has ls 2 [(0, .ref h0), (1, .int i0)] := hl
  refine lv_aload_n hx hb d_MK_remove_0 rfl (lv_at hl 0 rfl) ?_
  refine ct_get hC hw 0 2 rfl rfl (by decide) k_90 rfl d_MK_remove_1 ?_
  refine lv_iload_n hx hb d_MK_remove_4 rfl (lv_at hl 1 rfl) ?_
  refine ct_callV (rest := []) (As := [.int i0]) (n := 1) (wr := [(h0, .inr (0, [.ref h1, .ref h2, .ref h5, .ref h10, .int t.2])), (h2, .inr (2, [.ref h1, .ref h3, .ref h4, .int z.2.1, .int z.2.2.1, .int z.2.2.2.1])), (h3, .inl (X.2.1, 8, .inl safeF)), (h4, .inl (X.2.1, 8, .inl z.1)), (h1, .inr (1, [.int z.2.2.2.2])), (h10, .inl (X.2.2.2, 8, .inl t.1))]) (W2 := fun _ : Unit => [(h0, .inr (0, [.ref h1, .ref h2, .ref h5, .ref h10, .int t.2])), (h2, .inr (2, [.ref h1, .ref h3, .ref h4, .int z.2.1, .int z.2.2.1, .int z.2.2.2.1])), (h3, .inl (X.2.1, 8, .inl safeF)), (h4, .inl (X.2.1, 8, .inl z.1)), (h1, .inr (1, [.int z.2.2.2.2])), (h5, .inr (3, [.ref h6, .ref h7, .ref h8, .ref h9, .int (((rv f i0).2).2.2.2.2)])), (h6, .inl (X.2.1, 256, .inl (((rv f i0).2).1))), (h7, .inl (X.2.2.1, 256, .inl (((rv f i0).2).2.1))), (h8, .inl (X.2.2.2, 2048, .inl (((rv f i0).2).2.2.1))), (h9, .inl (X.2.1, 256, .inl (((rv f i0).2).2.2.2.1))), (h10, .inl (X.2.2.2, 8, .inl t.1))]) hC hw hl.1 (c_Fo_remove l X h5 h6 h7 h8 h9 f i0) k_181 k_178 k_179 k_180 k_8 [5, 6, 7, 8, 9] [0, 1, 2, 3, 4, 10] [0, 1, 2, 3, 4, 6, 7, 8, 9, 10, 5] rfl rfl rfl rfl rfl rfl (by decide) rfl (fun _ => rfl) (by decide +kernel) ⟨by decide, by decide⟩ rfl (Nat.le_of_ble_eq_true rfl) ⟨by decide, by decide⟩ rfl d_MK_remove_5 (fun u H locs hw => ?_)
  refine W.eq (g2 := F0 m 8 ls [.int ((rv f i0).1)]) rfl ?_
  exact ct_iret (F := wK X h0 h1 h2 h3 h4 h5 h6 h7 h8 h9 h10) (z := (z, ((rv f i0).2), t)) (sp := ((rv f i0).1, (z, (rv f i0).2, t))) hC hw (rfl) rfl d_MK_remove_8
set_option maxHeartbeats 4000000 in
set_option maxRecDepth 100000 in
/-- enable -/
theorem c_MK_enable (l : Launch) (X : GG) (h0 h1 h2 h3 h4 h5 h6 h7 h8 h9 h10 : Nat) (z : MS) (f : FS) (t : TS) (i0 b0 : Int32) : Ct l y_MK_enable b_MK_enable 3 (some .int) ({ frames := 2, cells := 0, slots := 0, locals := 43 } : Room) X [.ref h0, .int i0, .int b0] (wK X h0 h1 h2 h3 h4 h5 h6 h7 h8 h9 h10 (z, f, t)) (some (.int ((eb f i0 b0).1))) (fun _ : Unit => wK X h0 h1 h2 h3 h4 h5 h6 h7 h8 h9 h10 (z, (eb f i0 b0).2, t)) := by
  refine ct_enter (by decide) (Nat.le_of_ble_eq_true rfl) ?_
  intro p e s m args below meth c A ls hx hb hC hin hw hl
  have hC : Cx p s m args meth c "ModeKeeper" b_MK_enable 3 (some .int) X := hC
  have hw : Wd X A s.heap [(h0, .inr (0, [.ref h1, .ref h2, .ref h5, .ref h10, .int t.2])), (h2, .inr (2, [.ref h1, .ref h3, .ref h4, .int z.2.1, .int z.2.2.1, .int z.2.2.2.1])), (h3, .inl (X.2.1, 8, .inl safeF)), (h4, .inl (X.2.1, 8, .inl z.1)), (h1, .inr (1, [.int z.2.2.2.2])), (h5, .inr (3, [.ref h6, .ref h7, .ref h8, .ref h9, .int f.2.2.2.2])), (h6, .inl (X.2.1, 256, .inl f.1)), (h7, .inl (X.2.2.1, 256, .inl f.2.1)), (h8, .inl (X.2.2.2, 2048, .inl f.2.2.1)), (h9, .inl (X.2.1, 256, .inl f.2.2.2.1)), (h10, .inl (X.2.2.2, 8, .inl t.1))] s.heap [] := hw
  have hl : lv_has ls 3 [(0, .ref h0), (1, .int i0), (2, .int b0)] := hl
  refine lv_aload_n hx hb d_MK_enable_0 rfl (lv_at hl 0 rfl) ?_
  refine ct_get hC hw 0 2 rfl rfl (by decide) k_90 rfl d_MK_enable_1 ?_
  refine lv_iload_n hx hb d_MK_enable_4 rfl (lv_at hl 1 rfl) ?_
  refine lv_iload_n hx hb d_MK_enable_5 rfl (lv_at hl 2 rfl) ?_
  refine ct_callV (rest := []) (As := [.int i0, .int b0]) (n := 2) (wr := [(h0, .inr (0, [.ref h1, .ref h2, .ref h5, .ref h10, .int t.2])), (h2, .inr (2, [.ref h1, .ref h3, .ref h4, .int z.2.1, .int z.2.2.1, .int z.2.2.2.1])), (h3, .inl (X.2.1, 8, .inl safeF)), (h4, .inl (X.2.1, 8, .inl z.1)), (h1, .inr (1, [.int z.2.2.2.2])), (h10, .inl (X.2.2.2, 8, .inl t.1))]) (W2 := fun _ : Unit => [(h0, .inr (0, [.ref h1, .ref h2, .ref h5, .ref h10, .int t.2])), (h2, .inr (2, [.ref h1, .ref h3, .ref h4, .int z.2.1, .int z.2.2.1, .int z.2.2.2.1])), (h3, .inl (X.2.1, 8, .inl safeF)), (h4, .inl (X.2.1, 8, .inl z.1)), (h1, .inr (1, [.int z.2.2.2.2])), (h5, .inr (3, [.ref h6, .ref h7, .ref h8, .ref h9, .int (((eb f i0 b0).2).2.2.2.2)])), (h6, .inl (X.2.1, 256, .inl (((eb f i0 b0).2).1))), (h7, .inl (X.2.2.1, 256, .inl (((eb f i0 b0).2).2.1))), (h8, .inl (X.2.2.2, 2048, .inl (((eb f i0 b0).2).2.2.1))), (h9, .inl (X.2.1, 256, .inl (((eb f i0 b0).2).2.2.2.1))), (h10, .inl (X.2.2.2, 8, .inl t.1))]) hC hw hl.1 (c_Fo_enable l X h5 h6 h7 h8 h9 f i0 b0) k_193 k_190 k_191 k_192 k_8 [5, 6, 7, 8, 9] [0, 1, 2, 3, 4, 10] [0, 1, 2, 3, 4, 6, 7, 8, 9, 10, 5] rfl rfl rfl rfl rfl rfl (by decide) rfl (fun _ => rfl) (by decide +kernel) ⟨by decide, by decide⟩ rfl (Nat.le_of_ble_eq_true rfl) ⟨by decide, by decide⟩ rfl d_MK_enable_6 (fun u H locs hw => ?_)
  refine W.eq (g2 := F0 m 9 ls [.int ((eb f i0 b0).1)]) rfl ?_
  exact ct_iret (F := wK X h0 h1 h2 h3 h4 h5 h6 h7 h8 h9 h10) (z := (z, ((eb f i0 b0).2), t)) (sp := ((eb f i0 b0).1, (z, (eb f i0 b0).2, t))) hC hw (rfl) rfl d_MK_enable_9
set_option maxHeartbeats 4000000 in
set_option maxRecDepth 100000 in
/-- due -/
theorem c_MK_due (l : Launch) (X : GG) (h0 h1 h2 h3 h4 h5 h6 h7 h8 h9 h10 : Nat) (z : MS) (f : FS) (t : TS) (tk fr : Int32) (hI : Inv f t) : Ct l y_MK_due b_MK_due 3 (some .int) ({ frames := 1, cells := 0, slots := 0, locals := 23 } : Room) X [.ref h0, .int tk, .int fr] (wK X h0 h1 h2 h3 h4 h5 h6 h7 h8 h9 h10 (z, f, t)) (some (.int (du f tk fr))) (fun _ : Unit => wK X h0 h1 h2 h3 h4 h5 h6 h7 h8 h9 h10 (z, f, t)) := by
  refine ct_enter (by decide) (Nat.le_of_ble_eq_true rfl) ?_
  intro p e s m args below meth c A ls hx hb hC hin hw hl
  have hC : Cx p s m args meth c "ModeKeeper" b_MK_due 3 (some .int) X := hC
  have hw : Wd X A s.heap [(h0, .inr (0, [.ref h1, .ref h2, .ref h5, .ref h10, .int t.2])), (h2, .inr (2, [.ref h1, .ref h3, .ref h4, .int z.2.1, .int z.2.2.1, .int z.2.2.2.1])), (h3, .inl (X.2.1, 8, .inl safeF)), (h4, .inl (X.2.1, 8, .inl z.1)), (h1, .inr (1, [.int z.2.2.2.2])), (h5, .inr (3, [.ref h6, .ref h7, .ref h8, .ref h9, .int f.2.2.2.2])), (h6, .inl (X.2.1, 256, .inl f.1)), (h7, .inl (X.2.2.1, 256, .inl f.2.1)), (h8, .inl (X.2.2.2, 2048, .inl f.2.2.1)), (h9, .inl (X.2.1, 256, .inl f.2.2.2.1)), (h10, .inl (X.2.2.2, 8, .inl t.1))] s.heap [] := hw
  have hl : lv_has ls 3 [(0, .ref h0), (1, .int tk), (2, .int fr)] := hl
  refine lv_aload_n hx hb d_MK_due_0 rfl (lv_at hl 0 rfl) ?_
  refine ct_get hC hw 0 2 rfl rfl (by decide) k_90 rfl d_MK_due_1 ?_
  refine lv_iload_n hx hb d_MK_due_4 rfl (lv_at hl 1 rfl) ?_
  refine lv_iload_n hx hb d_MK_due_5 rfl (lv_at hl 2 rfl) ?_
  refine ct_callV (rest := []) (As := [.int tk, .int fr]) (n := 2) (wr := [(h0, .inr (0, [.ref h1, .ref h2, .ref h5, .ref h10, .int t.2])), (h2, .inr (2, [.ref h1, .ref h3, .ref h4, .int z.2.1, .int z.2.2.1, .int z.2.2.2.1])), (h3, .inl (X.2.1, 8, .inl safeF)), (h4, .inl (X.2.1, 8, .inl z.1)), (h1, .inr (1, [.int z.2.2.2.2])), (h10, .inl (X.2.2.2, 8, .inl t.1))]) (W2 := fun _ : Unit => [(h0, .inr (0, [.ref h1, .ref h2, .ref h5, .ref h10, .int t.2])), (h2, .inr (2, [.ref h1, .ref h3, .ref h4, .int z.2.1, .int z.2.2.1, .int z.2.2.2.1])), (h3, .inl (X.2.1, 8, .inl safeF)), (h4, .inl (X.2.1, 8, .inl z.1)), (h1, .inr (1, [.int z.2.2.2.2])), (h5, .inr (3, [.ref h6, .ref h7, .ref h8, .ref h9, .int f.2.2.2.2])), (h6, .inl (X.2.1, 256, .inl f.1)), (h7, .inl (X.2.2.1, 256, .inl f.2.1)), (h8, .inl (X.2.2.2, 2048, .inl f.2.2.1)), (h9, .inl (X.2.1, 256, .inl f.2.2.2.1)), (h10, .inl (X.2.2.2, 8, .inl t.1))]) hC hw hl.1 (c_Fo_due l X h5 h6 h7 h8 h9 f tk fr hI.2.1) k_201 k_198 k_199 k_200 k_8 [5, 6, 7, 8, 9] [0, 1, 2, 3, 4, 10] [0, 1, 2, 3, 4, 6, 7, 8, 9, 10, 5] rfl rfl rfl rfl rfl rfl (by decide) rfl (fun _ => rfl) (by decide +kernel) ⟨by decide, by decide⟩ rfl (Nat.le_of_ble_eq_true rfl) ⟨by decide, by decide⟩ rfl d_MK_due_6 (fun u H locs hw => ?_)
  refine W.eq (g2 := F0 m 9 ls [.int (du f tk fr)]) rfl ?_
  exact ct_iret (F := wK X h0 h1 h2 h3 h4 h5 h6 h7 h8 h9 h10) (z := (z, f, t)) (sp := (du f tk fr, (z, f, t))) hC hw (rfl) rfl d_MK_due_9
set_option maxHeartbeats 4000000 in
set_option maxRecDepth 100000 in
/-- parameter -/
theorem c_MK_parameter (l : Launch) (X : GG) (h0 h1 h2 h3 h4 h5 h6 h7 h8 h9 h10 : Nat) (z : MS) (f : FS) (t : TS) (i0 j0 : Int32) (hI : Inv f t) : Ct l y_MK_parameter b_MK_parameter 3 (some .int) ({ frames := 1, cells := 0, slots := 0, locals := 22 } : Room) X [.ref h0, .int i0, .int j0] (wK X h0 h1 h2 h3 h4 h5 h6 h7 h8 h9 h10 (z, f, t)) (some (.int (pr f i0 j0))) (fun _ : Unit => wK X h0 h1 h2 h3 h4 h5 h6 h7 h8 h9 h10 (z, f, t)) := by
  refine ct_enter (by decide) (Nat.le_of_ble_eq_true rfl) ?_
  intro p e s m args below meth c A ls hx hb hC hin hw hl
  have hC : Cx p s m args meth c "ModeKeeper" b_MK_parameter 3 (some .int) X := hC
  have hw : Wd X A s.heap [(h0, .inr (0, [.ref h1, .ref h2, .ref h5, .ref h10, .int t.2])), (h2, .inr (2, [.ref h1, .ref h3, .ref h4, .int z.2.1, .int z.2.2.1, .int z.2.2.2.1])), (h3, .inl (X.2.1, 8, .inl safeF)), (h4, .inl (X.2.1, 8, .inl z.1)), (h1, .inr (1, [.int z.2.2.2.2])), (h5, .inr (3, [.ref h6, .ref h7, .ref h8, .ref h9, .int f.2.2.2.2])), (h6, .inl (X.2.1, 256, .inl f.1)), (h7, .inl (X.2.2.1, 256, .inl f.2.1)), (h8, .inl (X.2.2.2, 2048, .inl f.2.2.1)), (h9, .inl (X.2.1, 256, .inl f.2.2.2.1)), (h10, .inl (X.2.2.2, 8, .inl t.1))] s.heap [] := hw
  have hl : lv_has ls 3 [(0, .ref h0), (1, .int i0), (2, .int j0)] := hl
  refine lv_aload_n hx hb d_MK_parameter_0 rfl (lv_at hl 0 rfl) ?_
  refine ct_get hC hw 0 2 rfl rfl (by decide) k_90 rfl d_MK_parameter_1 ?_
  refine lv_iload_n hx hb d_MK_parameter_4 rfl (lv_at hl 1 rfl) ?_
  refine ct_callV (rest := []) (As := [.int i0]) (n := 1) (wr := [(h0, .inr (0, [.ref h1, .ref h2, .ref h5, .ref h10, .int t.2])), (h2, .inr (2, [.ref h1, .ref h3, .ref h4, .int z.2.1, .int z.2.2.1, .int z.2.2.2.1])), (h3, .inl (X.2.1, 8, .inl safeF)), (h4, .inl (X.2.1, 8, .inl z.1)), (h1, .inr (1, [.int z.2.2.2.2])), (h10, .inl (X.2.2.2, 8, .inl t.1))]) (W2 := fun _ : Unit => [(h0, .inr (0, [.ref h1, .ref h2, .ref h5, .ref h10, .int t.2])), (h2, .inr (2, [.ref h1, .ref h3, .ref h4, .int z.2.1, .int z.2.2.1, .int z.2.2.2.1])), (h3, .inl (X.2.1, 8, .inl safeF)), (h4, .inl (X.2.1, 8, .inl z.1)), (h1, .inr (1, [.int z.2.2.2.2])), (h5, .inr (3, [.ref h6, .ref h7, .ref h8, .ref h9, .int f.2.2.2.2])), (h6, .inl (X.2.1, 256, .inl f.1)), (h7, .inl (X.2.2.1, 256, .inl f.2.1)), (h8, .inl (X.2.2.2, 2048, .inl f.2.2.1)), (h9, .inl (X.2.1, 256, .inl f.2.2.2.1)), (h10, .inl (X.2.2.2, 8, .inl t.1))]) hC hw hl.1 (c_Fo_is l X h5 h6 h7 h8 h9 f i0) k_185 k_206 k_183 k_184 k_8 [5, 6, 7, 8, 9] [0, 1, 2, 3, 4, 10] [0, 1, 2, 3, 4, 6, 7, 8, 9, 10, 5] rfl rfl rfl rfl rfl rfl (by decide) rfl (fun _ => rfl) (by decide +kernel) ⟨by decide, by decide⟩ rfl (Nat.le_of_ble_eq_true rfl) ⟨by decide, by decide⟩ rfl d_MK_parameter_5 (fun u H locs hw => ?_)
  refine W.eq (g2 := F0 m 8 ls [.int (isI f.1 i0)]) rfl ?_
  refine lv_if_eq (tgt := 29) hx hb d_MK_parameter_8 (by decide) (fun c_8 => ?_) (fun c_8 => ?_)
  · refine lv_iconst (v := -1) hx hb d_MK_parameter_29 (by decide) ?_
    exact ct_iret (F := wK X h0 h1 h2 h3 h4 h5 h6 h7 h8 h9 h10) (z := (z, f, t)) (sp := (pr f i0 j0, (z, f, t))) hC hw (by simp [pr, c_8]) rfl d_MK_parameter_30
  · refine lv_iload_n hx hb d_MK_parameter_11 rfl (lv_at hl 2 rfl) ?_
    refine lv_iconst (v := -1) hx hb d_MK_parameter_12 (by decide) ?_
    refine lv_icmp_lt (tgt := 29) hx hb d_MK_parameter_13 (by decide) (fun c_13 => ?_) (fun c_13 => ?_)
    · have n_13 : ¬ (-1) ≤ j0 := Int32.not_le.mpr c_13
      refine lv_iconst (v := -1) hx hb d_MK_parameter_29 (by decide) ?_
      exact ct_iret (F := wK X h0 h1 h2 h3 h4 h5 h6 h7 h8 h9 h10) (z := (z, f, t)) (sp := (pr f i0 j0, (z, f, t))) hC hw (by simp [pr, c_8, c_13, n_13]) rfl d_MK_parameter_30
    · have n_13 : (-1) ≤ j0 := Int32.not_lt.mp c_13
      refine lv_iload_n hx hb d_MK_parameter_16 rfl (lv_at hl 2 rfl) ?_
      refine lv_aload_n hx hb d_MK_parameter_17 rfl (lv_at hl 0 rfl) ?_
      refine ct_get hC hw 0 2 rfl rfl (by decide) k_90 rfl d_MK_parameter_18 ?_
      refine ct_getN hC hw 5 3 rfl rfl (by decide) (by decide +kernel) rfl d_MK_parameter_21 ?_
      refine lv_iload_n hx hb d_MK_parameter_24 rfl (lv_at hl 1 rfl) ?_
      refine ct_iald hC hw 9 rfl (i_in (n := 256) rfl (isI_ne c_8).1 (isI_ne c_8).2.1) d_MK_parameter_25 ?_
      refine lv_icmp_lt (tgt := 31) hx hb d_MK_parameter_26 (by decide) (fun c_26 => ?_) (fun c_26 => ?_)
      · have n_26 : ¬ (f.2.2.2.1 i0.toNatClampNeg) ≤ j0 := Int32.not_le.mpr c_26
        refine lv_iload_n hx hb d_MK_parameter_31 rfl (lv_at hl 2 rfl) ?_
        refine lv_iconst (v := -1) hx hb d_MK_parameter_32 (by decide) ?_
        refine lv_icmp_ne (tgt := 48) hx hb d_MK_parameter_33 (by decide) (fun c_33 => ?_) (fun c_33 => ?_)
        · refine lv_aload_n hx hb d_MK_parameter_48 rfl (lv_at hl 0 rfl) ?_
          refine ct_get hC hw 0 2 rfl rfl (by decide) k_90 rfl d_MK_parameter_49 ?_
          refine lv_iload_n hx hb d_MK_parameter_52 rfl (lv_at hl 1 rfl) ?_
          refine lv_iload_n hx hb d_MK_parameter_53 rfl (lv_at hl 2 rfl) ?_
          refine ct_callV (rest := []) (As := [.int i0, .int j0]) (n := 2) (wr := [(h0, .inr (0, [.ref h1, .ref h2, .ref h5, .ref h10, .int t.2])), (h2, .inr (2, [.ref h1, .ref h3, .ref h4, .int z.2.1, .int z.2.2.1, .int z.2.2.2.1])), (h3, .inl (X.2.1, 8, .inl safeF)), (h4, .inl (X.2.1, 8, .inl z.1)), (h1, .inr (1, [.int z.2.2.2.2])), (h10, .inl (X.2.2.2, 8, .inl t.1))]) (W2 := fun _ : Unit => [(h0, .inr (0, [.ref h1, .ref h2, .ref h5, .ref h10, .int t.2])), (h2, .inr (2, [.ref h1, .ref h3, .ref h4, .int z.2.1, .int z.2.2.1, .int z.2.2.2.1])), (h3, .inl (X.2.1, 8, .inl safeF)), (h4, .inl (X.2.1, 8, .inl z.1)), (h1, .inr (1, [.int z.2.2.2.2])), (h5, .inr (3, [.ref h6, .ref h7, .ref h8, .ref h9, .int f.2.2.2.2])), (h6, .inl (X.2.1, 256, .inl f.1)), (h7, .inl (X.2.2.1, 256, .inl f.2.1)), (h8, .inl (X.2.2.2, 2048, .inl f.2.2.1)), (h9, .inl (X.2.1, 256, .inl f.2.2.2.1)), (h10, .inl (X.2.2.2, 8, .inl t.1))]) hC hw hl.1 (c_Fo_parameter l X h5 h6 h7 h8 h9 f i0 j0 (par_in (isI_ne c_8).1 (isI_ne c_8).2.1 c_13 c_33 n_26 (hI.2.2.1 _))) k_210 k_207 k_208 k_209 k_8 [5, 6, 7, 8, 9] [0, 1, 2, 3, 4, 10] [0, 1, 2, 3, 4, 6, 7, 8, 9, 10, 5] rfl rfl rfl rfl rfl rfl (by decide) rfl (fun _ => rfl) (by decide +kernel) ⟨by decide, by decide⟩ rfl (Nat.le_of_ble_eq_true rfl) ⟨by decide, by decide⟩ rfl d_MK_parameter_54 (fun u H locs hw => ?_)
          refine W.eq (g2 := F0 m 57 ls [.int (f.2.2.1 (8 * i0 + j0).toNatClampNeg)]) rfl ?_
          exact ct_iret (F := wK X h0 h1 h2 h3 h4 h5 h6 h7 h8 h9 h10) (z := (z, f, t)) (sp := (pr f i0 j0, (z, f, t))) hC hw (by simp [pr, c_8, c_13, n_13, c_26, n_26, c_33]) rfl d_MK_parameter_57
        · refine lv_aload_n hx hb d_MK_parameter_36 rfl (lv_at hl 0 rfl) ?_
          refine ct_get hC hw 0 2 rfl rfl (by decide) k_90 rfl d_MK_parameter_37 ?_
          refine ct_getN hC hw 5 3 rfl rfl (by decide) (by decide +kernel) rfl d_MK_parameter_40 ?_
          refine lv_iload_n hx hb d_MK_parameter_43 rfl (lv_at hl 1 rfl) ?_
          refine ct_iald hC hw 9 rfl (i_in (n := 256) rfl (isI_ne c_8).1 (isI_ne c_8).2.1) d_MK_parameter_44 ?_
          refine lv_goto (tgt := 57) hx hb d_MK_parameter_45 (by decide) ?_
          exact ct_iret (F := wK X h0 h1 h2 h3 h4 h5 h6 h7 h8 h9 h10) (z := (z, f, t)) (sp := (pr f i0 j0, (z, f, t))) hC hw (by unfold pr; rw [if_neg (fun q => q.elim c_8 (fun q => q.elim c_13 n_26)), if_pos c_33]) rfl d_MK_parameter_57
      · have n_26 : (f.2.2.2.1 i0.toNatClampNeg) ≤ j0 := Int32.not_lt.mp c_26
        refine lv_iconst (v := -1) hx hb d_MK_parameter_29 (by decide) ?_
        exact ct_iret (F := wK X h0 h1 h2 h3 h4 h5 h6 h7 h8 h9 h10) (z := (z, f, t)) (sp := (pr f i0 j0, (z, f, t))) hC hw (by simp [pr, c_8, c_13, n_13, c_26, n_26]) rfl d_MK_parameter_30
set_option maxHeartbeats 4000000 in
set_option maxRecDepth 100000 in
/-- about -/
theorem c_MK_about (l : Launch) (X : GG) (h0 h1 h2 h3 h4 h5 h6 h7 h8 h9 h10 : Nat) (z : MS) (f : FS) (t : TS) (i0 w0 : Int32) : Ct l y_MK_about b_MK_about 3 (some .int) ({ frames := 1, cells := 0, slots := 0, locals := 21 } : Room) X [.ref h0, .int i0, .int w0] (wK X h0 h1 h2 h3 h4 h5 h6 h7 h8 h9 h10 (z, f, t)) (some (.int (ab f i0 w0))) (fun _ : Unit => wK X h0 h1 h2 h3 h4 h5 h6 h7 h8 h9 h10 (z, f, t)) := by
  refine ct_enter (by decide) (Nat.le_of_ble_eq_true rfl) ?_
  intro p e s m args below meth c A ls hx hb hC hin hw hl
  have hC : Cx p s m args meth c "ModeKeeper" b_MK_about 3 (some .int) X := hC
  have hw : Wd X A s.heap [(h0, .inr (0, [.ref h1, .ref h2, .ref h5, .ref h10, .int t.2])), (h2, .inr (2, [.ref h1, .ref h3, .ref h4, .int z.2.1, .int z.2.2.1, .int z.2.2.2.1])), (h3, .inl (X.2.1, 8, .inl safeF)), (h4, .inl (X.2.1, 8, .inl z.1)), (h1, .inr (1, [.int z.2.2.2.2])), (h5, .inr (3, [.ref h6, .ref h7, .ref h8, .ref h9, .int f.2.2.2.2])), (h6, .inl (X.2.1, 256, .inl f.1)), (h7, .inl (X.2.2.1, 256, .inl f.2.1)), (h8, .inl (X.2.2.2, 2048, .inl f.2.2.1)), (h9, .inl (X.2.1, 256, .inl f.2.2.2.1)), (h10, .inl (X.2.2.2, 8, .inl t.1))] s.heap [] := hw
  have hl : lv_has ls 3 [(0, .ref h0), (1, .int i0), (2, .int w0)] := hl
  refine lv_aload_n hx hb d_MK_about_0 rfl (lv_at hl 0 rfl) ?_
  refine ct_get hC hw 0 2 rfl rfl (by decide) k_90 rfl d_MK_about_1 ?_
  refine lv_iload_n hx hb d_MK_about_4 rfl (lv_at hl 1 rfl) ?_
  refine ct_callV (rest := []) (As := [.int i0]) (n := 1) (wr := [(h0, .inr (0, [.ref h1, .ref h2, .ref h5, .ref h10, .int t.2])), (h2, .inr (2, [.ref h1, .ref h3, .ref h4, .int z.2.1, .int z.2.2.1, .int z.2.2.2.1])), (h3, .inl (X.2.1, 8, .inl safeF)), (h4, .inl (X.2.1, 8, .inl z.1)), (h1, .inr (1, [.int z.2.2.2.2])), (h10, .inl (X.2.2.2, 8, .inl t.1))]) (W2 := fun _ : Unit => [(h0, .inr (0, [.ref h1, .ref h2, .ref h5, .ref h10, .int t.2])), (h2, .inr (2, [.ref h1, .ref h3, .ref h4, .int z.2.1, .int z.2.2.1, .int z.2.2.2.1])), (h3, .inl (X.2.1, 8, .inl safeF)), (h4, .inl (X.2.1, 8, .inl z.1)), (h1, .inr (1, [.int z.2.2.2.2])), (h5, .inr (3, [.ref h6, .ref h7, .ref h8, .ref h9, .int f.2.2.2.2])), (h6, .inl (X.2.1, 256, .inl f.1)), (h7, .inl (X.2.2.1, 256, .inl f.2.1)), (h8, .inl (X.2.2.2, 2048, .inl f.2.2.1)), (h9, .inl (X.2.1, 256, .inl f.2.2.2.1)), (h10, .inl (X.2.2.2, 8, .inl t.1))]) hC hw hl.1 (c_Fo_is l X h5 h6 h7 h8 h9 f i0) k_185 k_206 k_183 k_184 k_8 [5, 6, 7, 8, 9] [0, 1, 2, 3, 4, 10] [0, 1, 2, 3, 4, 6, 7, 8, 9, 10, 5] rfl rfl rfl rfl rfl rfl (by decide) rfl (fun _ => rfl) (by decide +kernel) ⟨by decide, by decide⟩ rfl (Nat.le_of_ble_eq_true rfl) ⟨by decide, by decide⟩ rfl d_MK_about_5 (fun u H locs hw => ?_)
  refine W.eq (g2 := F0 m 8 ls [.int (isI f.1 i0)]) rfl ?_
  refine lv_if_ne (tgt := 13) hx hb d_MK_about_8 (by decide) (fun c_8 => ?_) (fun c_8 => ?_)
  · refine lv_iload_n hx hb d_MK_about_13 rfl (lv_at hl 2 rfl) ?_
    refine lv_if_ne (tgt := 29) hx hb d_MK_about_14 (by decide) (fun c_14 => ?_) (fun c_14 => ?_)
    · refine lv_iload_n hx hb d_MK_about_29 rfl (lv_at hl 2 rfl) ?_
      refine lv_iconst (v := 1) hx hb d_MK_about_30 (by decide) ?_
      refine lv_icmp_ne (tgt := 54) hx hb d_MK_about_31 (by decide) (fun c_31 => ?_) (fun c_31 => ?_)
      · refine lv_iconst (v := -1) hx hb d_MK_about_54 (by decide) ?_
        exact ct_iret (F := wK X h0 h1 h2 h3 h4 h5 h6 h7 h8 h9 h10) (z := (z, f, t)) (sp := (ab f i0 w0, (z, f, t))) hC hw (by simp [ab, c_8, c_14, c_31]) rfl d_MK_about_55
      · refine lv_aload_n hx hb d_MK_about_34 rfl (lv_at hl 0 rfl) ?_
        refine ct_get hC hw 0 2 rfl rfl (by decide) k_90 rfl d_MK_about_35 ?_
        refine ct_getN hC hw 5 1 rfl rfl (by decide) (by decide +kernel) rfl d_MK_about_38 ?_
        refine lv_iload_n hx hb d_MK_about_41 rfl (lv_at hl 1 rfl) ?_
        refine ct_zald hC hw 7 rfl (i_in (n := 256) rfl (isI_ne c_8).1 (isI_ne c_8).2.1) d_MK_about_42 ?_
        refine lv_if_eq (tgt := 50) hx hb d_MK_about_43 (by decide) (fun c_43 => ?_) (fun c_43 => ?_)
        · refine lv_iconst (v := 0) hx hb d_MK_about_50 (by decide) ?_
          refine lv_goto (tgt := 55) hx hb d_MK_about_51 (by decide) ?_
          exact ct_iret (F := wK X h0 h1 h2 h3 h4 h5 h6 h7 h8 h9 h10) (z := (z, f, t)) (sp := (ab f i0 w0, (z, f, t))) hC hw (by simp [ab, c_8, c_14, c_31, c_43]) rfl d_MK_about_55
        · refine lv_iconst (v := 1) hx hb d_MK_about_46 (by decide) ?_
          refine lv_goto (tgt := 55) hx hb d_MK_about_47 (by decide) ?_
          exact ct_iret (F := wK X h0 h1 h2 h3 h4 h5 h6 h7 h8 h9 h10) (z := (z, f, t)) (sp := (ab f i0 w0, (z, f, t))) hC hw (by simp [ab, c_8, c_14, c_31, c_43]) rfl d_MK_about_55
    · refine lv_aload_n hx hb d_MK_about_17 rfl (lv_at hl 0 rfl) ?_
      refine ct_get hC hw 0 2 rfl rfl (by decide) k_90 rfl d_MK_about_18 ?_
      refine ct_getN hC hw 5 0 rfl rfl (by decide) (by decide +kernel) rfl d_MK_about_21 ?_
      refine lv_iload_n hx hb d_MK_about_24 rfl (lv_at hl 1 rfl) ?_
      refine ct_iald hC hw 6 rfl (i_in (n := 256) rfl (isI_ne c_8).1 (isI_ne c_8).2.1) d_MK_about_25 ?_
      refine lv_goto (tgt := 55) hx hb d_MK_about_26 (by decide) ?_
      exact ct_iret (F := wK X h0 h1 h2 h3 h4 h5 h6 h7 h8 h9 h10) (z := (z, f, t)) (sp := (ab f i0 w0, (z, f, t))) hC hw (by simp [ab, c_8, c_14]) rfl d_MK_about_55
  · refine lv_iconst (v := -1) hx hb d_MK_about_11 (by decide) ?_
    exact ct_iret (F := wK X h0 h1 h2 h3 h4 h5 h6 h7 h8 h9 h10) (z := (z, f, t)) (sp := (ab f i0 w0, (z, f, t))) hC hw (by simp [ab, c_8]) rfl d_MK_about_12
set_option maxHeartbeats 4000000 in
set_option maxRecDepth 100000 in
/-- value -/
theorem c_MK_value (l : Launch) (X : GG) (h0 h1 h2 h3 h4 h5 h6 h7 h8 h9 h10 : Nat) (z : MS) (f : FS) (t : TS) (w0 : Int32) : Ct l y_MK_value b_MK_value 2 (some .int) ({ frames := 0, cells := 0, slots := 0, locals := 0 } : Room) X [.ref h0, .int w0] (wK X h0 h1 h2 h3 h4 h5 h6 h7 h8 h9 h10 (z, f, t)) (some (.int (vl z f w0))) (fun _ : Unit => wK X h0 h1 h2 h3 h4 h5 h6 h7 h8 h9 h10 (z, f, t)) := by
  refine ct_enter (by decide) (Nat.le_of_ble_eq_true rfl) ?_
  intro p e s m args below meth c A ls hx hb hC hin hw hl
  have hC : Cx p s m args meth c "ModeKeeper" b_MK_value 2 (some .int) X := hC
  have hw : Wd X A s.heap [(h0, .inr (0, [.ref h1, .ref h2, .ref h5, .ref h10, .int t.2])), (h2, .inr (2, [.ref h1, .ref h3, .ref h4, .int z.2.1, .int z.2.2.1, .int z.2.2.2.1])), (h3, .inl (X.2.1, 8, .inl safeF)), (h4, .inl (X.2.1, 8, .inl z.1)), (h1, .inr (1, [.int z.2.2.2.2])), (h5, .inr (3, [.ref h6, .ref h7, .ref h8, .ref h9, .int f.2.2.2.2])), (h6, .inl (X.2.1, 256, .inl f.1)), (h7, .inl (X.2.2.1, 256, .inl f.2.1)), (h8, .inl (X.2.2.2, 2048, .inl f.2.2.1)), (h9, .inl (X.2.1, 256, .inl f.2.2.2.1)), (h10, .inl (X.2.2.2, 8, .inl t.1))] s.heap [] := hw
  have hl : lv_has ls 2 [(0, .ref h0), (1, .int w0)] := hl
  refine lv_iload_n hx hb d_MK_value_0 rfl (lv_at hl 1 rfl) ?_
  refine lv_if_lt (tgt := 20) hx hb d_MK_value_1 (by decide) (fun c_1 => ?_) (fun c_1 => ?_)
  · refine lv_iload_n hx hb d_MK_value_20 rfl (lv_at hl 1 rfl) ?_
    by_cases e_8 : w0 = 8
    · refine lv_tableIn (off := 31) (tgt := 52) hx hb d_MK_value_21 (by rw [e_8]; decide) (by rw [e_8]; decide) (by rw [e_8]; rfl) (by decide) ?_
      refine lv_aload_n hx hb d_MK_value_52 rfl (lv_at hl 0 rfl) ?_
      refine ct_get hC hw 0 1 rfl rfl (by decide) k_89 rfl d_MK_value_53 ?_
      refine ct_getN hC hw 1 3 rfl rfl (by decide) (by decide +kernel) rfl d_MK_value_56 ?_
      exact ct_iret (F := wK X h0 h1 h2 h3 h4 h5 h6 h7 h8 h9 h10) (z := (z, f, t)) (sp := (vl z f w0, (z, f, t))) hC hw (by simp [vl, c_1, e_8]) rfl d_MK_value_59
    by_cases e_9 : w0 = 9
    · refine lv_tableIn (off := 39) (tgt := 60) hx hb d_MK_value_21 (by rw [e_9]; decide) (by rw [e_9]; decide) (by rw [e_9]; rfl) (by decide) ?_
      refine lv_aload_n hx hb d_MK_value_60 rfl (lv_at hl 0 rfl) ?_
      refine ct_get hC hw 0 1 rfl rfl (by decide) k_89 rfl d_MK_value_61 ?_
      refine ct_getN hC hw 1 4 rfl rfl (by decide) (by decide +kernel) rfl d_MK_value_64 ?_
      refine lv_if_eq (tgt := 80) hx hb d_MK_value_67 (by decide) (fun c_67 => ?_) (fun c_67 => ?_)
      · refine lv_iconst (v := -1) hx hb d_MK_value_80 (by decide) ?_
        exact ct_iret (F := wK X h0 h1 h2 h3 h4 h5 h6 h7 h8 h9 h10) (z := (z, f, t)) (sp := (vl z f w0, (z, f, t))) hC hw (by simp [vl, c_1, e_8, e_9, c_67]) rfl d_MK_value_81
      · refine lv_aload_n hx hb d_MK_value_70 rfl (lv_at hl 0 rfl) ?_
        refine ct_get hC hw 0 1 rfl rfl (by decide) k_89 rfl d_MK_value_71 ?_
        refine ct_getN hC hw 1 5 rfl rfl (by decide) (by decide +kernel) rfl d_MK_value_74 ?_
        refine lv_goto (tgt := 81) hx hb d_MK_value_77 (by decide) ?_
        exact ct_iret (F := wK X h0 h1 h2 h3 h4 h5 h6 h7 h8 h9 h10) (z := (z, f, t)) (sp := (vl z f w0, (z, f, t))) hC hw (by simp [vl, c_1, e_8, e_9, c_67]) rfl d_MK_value_81
    by_cases e_10 : w0 = 10
    · refine lv_tableIn (off := 61) (tgt := 82) hx hb d_MK_value_21 (by rw [e_10]; decide) (by rw [e_10]; decide) (by rw [e_10]; rfl) (by decide) ?_
      refine lv_aload_n hx hb d_MK_value_82 rfl (lv_at hl 0 rfl) ?_
      refine ct_get hC hw 0 0 rfl rfl (by decide) k_88 rfl d_MK_value_83 ?_
      refine ct_getN hC hw 4 0 rfl rfl (by decide) (by decide +kernel) rfl d_MK_value_86 ?_
      exact ct_iret (F := wK X h0 h1 h2 h3 h4 h5 h6 h7 h8 h9 h10) (z := (z, f, t)) (sp := (vl z f w0, (z, f, t))) hC hw (by simp [vl, c_1, e_8, e_9, e_10]) rfl d_MK_value_89
    by_cases e_11 : w0 = 11
    · refine lv_tableIn (off := 69) (tgt := 90) hx hb d_MK_value_21 (by rw [e_11]; decide) (by rw [e_11]; decide) (by rw [e_11]; rfl) (by decide) ?_
      refine lv_aload_n hx hb d_MK_value_90 rfl (lv_at hl 0 rfl) ?_
      refine ct_get hC hw 0 2 rfl rfl (by decide) k_90 rfl d_MK_value_91 ?_
      refine ct_getN hC hw 5 4 rfl rfl (by decide) (by decide +kernel) rfl d_MK_value_94 ?_
      exact ct_iret (F := wK X h0 h1 h2 h3 h4 h5 h6 h7 h8 h9 h10) (z := (z, f, t)) (sp := (vl z f w0, (z, f, t))) hC hw (by simp [vl, c_1, e_8, e_9, e_10, e_11]) rfl d_MK_value_97
    refine lv_tableOut (tgt := 98) hx hb d_MK_value_21 (sw_out e_8 e_9 e_10 e_11) (by decide) ?_
    refine lv_iconst (v := 0) hx hb d_MK_value_98 (by decide) ?_
    exact ct_iret (F := wK X h0 h1 h2 h3 h4 h5 h6 h7 h8 h9 h10) (z := (z, f, t)) (sp := (vl z f w0, (z, f, t))) hC hw (by simp [vl, c_1, e_8, e_9, e_10, e_11]) rfl d_MK_value_99
  · refine lv_iload_n hx hb d_MK_value_4 rfl (lv_at hl 1 rfl) ?_
    refine lv_bipush (v := 8) hx hb d_MK_value_5 (by decide) ?_
    refine lv_icmp_ge (tgt := 20) hx hb d_MK_value_7 (by decide) (fun c_7 => ?_) (fun c_7 => ?_)
    · refine lv_iload_n hx hb d_MK_value_20 rfl (lv_at hl 1 rfl) ?_
      by_cases e_8 : w0 = 8
      · refine lv_tableIn (off := 31) (tgt := 52) hx hb d_MK_value_21 (by rw [e_8]; decide) (by rw [e_8]; decide) (by rw [e_8]; rfl) (by decide) ?_
        refine lv_aload_n hx hb d_MK_value_52 rfl (lv_at hl 0 rfl) ?_
        refine ct_get hC hw 0 1 rfl rfl (by decide) k_89 rfl d_MK_value_53 ?_
        refine ct_getN hC hw 1 3 rfl rfl (by decide) (by decide +kernel) rfl d_MK_value_56 ?_
        exact ct_iret (F := wK X h0 h1 h2 h3 h4 h5 h6 h7 h8 h9 h10) (z := (z, f, t)) (sp := (vl z f w0, (z, f, t))) hC hw (by simp [vl, c_1, c_7, e_8]) rfl d_MK_value_59
      by_cases e_9 : w0 = 9
      · refine lv_tableIn (off := 39) (tgt := 60) hx hb d_MK_value_21 (by rw [e_9]; decide) (by rw [e_9]; decide) (by rw [e_9]; rfl) (by decide) ?_
        refine lv_aload_n hx hb d_MK_value_60 rfl (lv_at hl 0 rfl) ?_
        refine ct_get hC hw 0 1 rfl rfl (by decide) k_89 rfl d_MK_value_61 ?_
        refine ct_getN hC hw 1 4 rfl rfl (by decide) (by decide +kernel) rfl d_MK_value_64 ?_
        refine lv_if_eq (tgt := 80) hx hb d_MK_value_67 (by decide) (fun c_67 => ?_) (fun c_67 => ?_)
        · refine lv_iconst (v := -1) hx hb d_MK_value_80 (by decide) ?_
          exact ct_iret (F := wK X h0 h1 h2 h3 h4 h5 h6 h7 h8 h9 h10) (z := (z, f, t)) (sp := (vl z f w0, (z, f, t))) hC hw (by simp [vl, c_1, c_7, e_8, e_9, c_67]) rfl d_MK_value_81
        · refine lv_aload_n hx hb d_MK_value_70 rfl (lv_at hl 0 rfl) ?_
          refine ct_get hC hw 0 1 rfl rfl (by decide) k_89 rfl d_MK_value_71 ?_
          refine ct_getN hC hw 1 5 rfl rfl (by decide) (by decide +kernel) rfl d_MK_value_74 ?_
          refine lv_goto (tgt := 81) hx hb d_MK_value_77 (by decide) ?_
          exact ct_iret (F := wK X h0 h1 h2 h3 h4 h5 h6 h7 h8 h9 h10) (z := (z, f, t)) (sp := (vl z f w0, (z, f, t))) hC hw (by simp [vl, c_1, c_7, e_8, e_9, c_67]) rfl d_MK_value_81
      by_cases e_10 : w0 = 10
      · refine lv_tableIn (off := 61) (tgt := 82) hx hb d_MK_value_21 (by rw [e_10]; decide) (by rw [e_10]; decide) (by rw [e_10]; rfl) (by decide) ?_
        refine lv_aload_n hx hb d_MK_value_82 rfl (lv_at hl 0 rfl) ?_
        refine ct_get hC hw 0 0 rfl rfl (by decide) k_88 rfl d_MK_value_83 ?_
        refine ct_getN hC hw 4 0 rfl rfl (by decide) (by decide +kernel) rfl d_MK_value_86 ?_
        exact ct_iret (F := wK X h0 h1 h2 h3 h4 h5 h6 h7 h8 h9 h10) (z := (z, f, t)) (sp := (vl z f w0, (z, f, t))) hC hw (by simp [vl, c_1, c_7, e_8, e_9, e_10]) rfl d_MK_value_89
      by_cases e_11 : w0 = 11
      · refine lv_tableIn (off := 69) (tgt := 90) hx hb d_MK_value_21 (by rw [e_11]; decide) (by rw [e_11]; decide) (by rw [e_11]; rfl) (by decide) ?_
        refine lv_aload_n hx hb d_MK_value_90 rfl (lv_at hl 0 rfl) ?_
        refine ct_get hC hw 0 2 rfl rfl (by decide) k_90 rfl d_MK_value_91 ?_
        refine ct_getN hC hw 5 4 rfl rfl (by decide) (by decide +kernel) rfl d_MK_value_94 ?_
        exact ct_iret (F := wK X h0 h1 h2 h3 h4 h5 h6 h7 h8 h9 h10) (z := (z, f, t)) (sp := (vl z f w0, (z, f, t))) hC hw (by simp [vl, c_1, c_7, e_8, e_9, e_10, e_11]) rfl d_MK_value_97
      refine lv_tableOut (tgt := 98) hx hb d_MK_value_21 (sw_out e_8 e_9 e_10 e_11) (by decide) ?_
      refine lv_iconst (v := 0) hx hb d_MK_value_98 (by decide) ?_
      exact ct_iret (F := wK X h0 h1 h2 h3 h4 h5 h6 h7 h8 h9 h10) (z := (z, f, t)) (sp := (vl z f w0, (z, f, t))) hC hw (by simp [vl, c_1, c_7, e_8, e_9, e_10, e_11]) rfl d_MK_value_99
    · refine lv_aload_n hx hb d_MK_value_10 rfl (lv_at hl 0 rfl) ?_
      refine ct_get hC hw 0 1 rfl rfl (by decide) k_89 rfl d_MK_value_11 ?_
      refine ct_getN hC hw 1 2 rfl rfl (by decide) (by decide +kernel) rfl d_MK_value_14 ?_
      refine lv_iload_n hx hb d_MK_value_17 rfl (lv_at hl 1 rfl) ?_
      refine ct_iald hC hw 3 rfl (i_in (n := 8) rfl c_1 c_7) d_MK_value_18 ?_
      exact ct_iret (F := wK X h0 h1 h2 h3 h4 h5 h6 h7 h8 h9 h10) (z := (z, f, t)) (sp := (vl z f w0, (z, f, t))) hC hw (by simp [vl, c_1, c_7]) rfl d_MK_value_19
end
section
def chg (mode m : Int32) : Int32 := if m = mode then 0 else 1
theorem chg_01 (a b : Int32) : chg a b = 0 ∨ chg a b = 1 := by
  unfold chg
  by_cases h : b = a
  · exact Or.inl (if_pos h)
  · exact Or.inr (if_neg h)
theorem chg_0 (a : Int32) : chg a 0 = if a = 0 then 0 else 1 := by
  unfold chg
  by_cases h : a = 0
  · rw [if_pos h, if_pos h.symm]
  · rw [if_neg h, if_neg (fun q => h q.symm)]
theorem cnt_0 {e : Nat → Int32} {j : Nat} (hj : j < 256) (h : e (nI j).toNatClampNeg ≤ 0) : nI (cnt e j) + 0 = nI (cnt e (j + 1)) := by
  rw [nI_clamp (by omega)] at h
  show nI (cnt e j) + nI 0 = nI (cnt e j + _)
  rw [if_pos h]
  exact nI_add _ 0
theorem cnt_1 {e : Nat → Int32} {j : Nat} (hj : j < 256) (h : ¬ e (nI j).toNatClampNeg ≤ 0) : nI (cnt e j) + 1 = nI (cnt e (j + 1)) := by
  rw [nI_clamp (by omega)] at h
  show nI (cnt e j) + nI 1 = nI (cnt e j + _)
  rw [if_neg h]
  exact nI_add _ 1
theorem lt_256 {j : Nat} (hj : j ≤ 256) (h : ¬ 256 ≤ nI j) : j < 256 := by
  rcases Nat.lt_or_ge j 256 with q | q
  · exact q
  · exact absurd (nI_le (a := 256) q (by omega)) h
theorem eq_256 {j : Nat} (hj : j ≤ 256) (h : 256 ≤ nI j) : j = 256 := by
  rcases Nat.lt_or_ge j 256 with q | q
  · exact absurd h (nI_ge (b := 256) q (by decide))
  · omega
theorem lt_8 {j : Nat} (hj : j ≤ 8) (h : ¬ 8 ≤ nI j) : j < 8 := by
  rcases Nat.lt_or_ge j 8 with q | q
  · exact q
  · exact absurd (nI_le (a := 8) q (by omega)) h
theorem eq_8 {j : Nat} (hj : j ≤ 8) (h : 8 ≤ nI j) : j = 8 := by
  rcases Nat.lt_or_ge j 8 with q | q
  · exact absurd h (nI_ge (b := 8) q (by decide))
  · omega
theorem safe_v0 : ∀ j, j < 8 → ¬ 4 ≤ nI j → (0 : Int32) = safeF j := by decide +kernel
theorem safe_v50 : ∀ j, j < 8 → 4 ≤ nI j → ¬ 6 ≤ nI j → (50 : Int32) = safeF j := by decide +kernel
theorem safe_v100 : ∀ j, j < 8 → nI j = 6 → (100 : Int32) = safeF j := by decide +kernel
theorem safe_v1 : ∀ j, j < 8 → 6 ≤ nI j → ¬ nI j = 6 → (1 : Int32) = safeF j := by decide +kernel
theorem safe_step {g : Nat → Int32} {j : Nat} {v : Int32} (hj : j < 8) (h : v = safeF j) : upd (va_cpy safeF g 0 0 j) (nI j).toNatClampNeg v = va_cpy safeF g 0 0 (j + 1) := by
  rw [nI_clamp (by omega), h]
  have q := cpy_1 (f := safeF) (g := g) (d := 0) (i := j)
  rw [Nat.zero_add] at q
  exact q
theorem par_step {f g : Nat → Int32} {i0 : Int32} {j : Nat} (hj : j < 8) (h0 : ¬ i0 < 0) (h1 : ¬ 256 ≤ i0) : upd (va_cpy f g 0 (8 * i0).toNatClampNeg j) (8 * i0 + nI j).toNatClampNeg (f (nI j).toNatClampNeg) = va_cpy f g 0 (8 * i0).toNatClampNeg (j + 1) := by
  obtain ⟨g1, g2, -, -, -⟩ := i_8k hj h0 h1
  rw [g2, ← g1, nI_clamp (by omega)]
  exact cpy_1
theorem sz_1 {x : Int32} (hi : ∃ j : Nat, j ≤ 8 ∧ x = nI j) : x < 1 ↔ x = 0 := by
  obtain ⟨j, hj, rfl⟩ := hi
  rw [show (1 : Int32) = nI 1 from rfl, show (0 : Int32) = nI 0 from rfl, nI_ltI (by omega) (by decide), nI_eq (by omega) (by decide)]
  omega
theorem sz_8 {x : Int32} (hi : ∃ j : Nat, j ≤ 8 ∧ x = nI j) : ¬ 8 < x := by
  obtain ⟨j, hj, rfl⟩ := hi
  rw [show (8 : Int32) = nI 8 from rfl, nI_ltI (by decide) (by omega)]
  omega
theorem m1_of {j0 : Int32} (h1 : ¬ j0 < -1) (h2 : j0 < 0) : j0 = -1 := by
  rw [i_lt] at h1 h2
  have e0 : (0 : Int32).toInt = 0 := rfl
  have e1 : (-1 : Int32).toInt = -1 := rfl
  exact Int32.toInt_inj.mp (by omega)
theorem nm1_of {j0 : Int32} (h2 : ¬ j0 < 0) : ¬ j0 = -1 := fun e => h2 (by rw [e]; decide)
theorem dd_end {f : FS} {tk fr : Int32} {j : Nat} (hj : j ≤ 256) (hinv : fr.toInt ≤ j ∨ j = 256) (hex : j = 0 ∨ (j : Int) - 1 < fr.toInt) : duA f tk j (256 - j) = du f tk fr := by
  unfold du
  by_cases h0 : fr < 0
  · have e := i_cl0 h0
    rw [i_lt] at h0
    have e0 : (0 : Int32).toInt = 0 := rfl
    rw [e, show j = 0 by omega]
  · have e := i_clN h0
    by_cases h1 : fr.toNatClampNeg = j
    · rw [h1]
    · rw [show 256 - j = 0 by omega, show 256 - fr.toNatClampNeg = 0 by omega]
      rfl
theorem dd_cl {i : Int32} {j : Nat} (hj : j ≤ 256) (hi : i.toInt = (j : Int) - 1) (h0 : ¬ i < 0) : j = i.toNatClampNeg + 1 ∧ ¬ 256 ≤ i ∧ i.toNatClampNeg < 256 ∧ nI i.toNatClampNeg = i ∧ (i + (-1)).toInt = (i.toNatClampNeg : Int) - 1 := by
  have e := i_clN h0
  have g : ¬ 256 ≤ i := by
    rw [i_le]
    have e1 : (256 : Int32).toInt = 256 := rfl
    omega
  obtain ⟨q1, q2, -, -⟩ := du_cl h0 g
  refine ⟨by omega, g, q1, q2, ?_⟩
  have h := pk_sub_toInt (a := i.toNatClampNeg) (b := 1) (by omega) (by decide)
  rw [q2] at h
  have e2 : i + (-1) = i - nI 1 := by
    rw [Int32.sub_eq_add_neg]
    rfl
  rw [e2, h]
  rfl
theorem dd_0 {i : Int32} {j : Nat} (hi : i.toInt = (j : Int) - 1) (h0 : i < 0) : j = 0 := by
  rw [i_lt] at h0
  have e0 : (0 : Int32).toInt = 0 := rfl
  omega
set_option maxHeartbeats 4000000 in
set_option maxRecDepth 100000 in
/-- ModeKeeperModel() -/
theorem c_Mm_init (l : Launch) (X : GG) (b0 : Nat) : Ct l y_Mm_init b_Mm_init 1 none ({ frames := 1, cells := 6, slots := 2832, locals := 12 } : Room) X [.ref b0] ([(b0, .inr (4, [.int 0, .int 0, .null, .int 0, .int 0, .int 0, .int 0, .null, .null, .null, .null, .null]))]) none (fun u : Nat × Nat × Nat × Nat × Nat × Nat => wX X b0 u.1 u.2.1 u.2.2.1 u.2.2.2.1 u.2.2.2.2.1 u.2.2.2.2.2 ((fun _ => 0, 1, 0, 0, 0), (fun _ => 0, fun _ => 0, fun _ => 0, fun _ => 0, 0), (fun _ => 0, 0))) := by
  refine ct_enter (by decide) (Nat.le_of_ble_eq_true rfl) ?_
  intro p e s m args below meth c A ls hx hb hC hin hw hl
  have hC : Cx p s m args meth c "ModeKeeperModel" b_Mm_init 1 none X := hC
  have hin : meth.name = "<init>" := hin
  have hw : Wd X A s.heap [(b0, .inr (4, [.int 0, .int 0, .null, .int 0, .int 0, .int 0, .int 0, .null, .null, .null, .null, .null]))] s.heap [] := hw
  have hl : lv_has ls 1 [(0, .ref b0)] := hl
  refine lv_aload_n hx hb d_Mm_init_0 rfl (lv_at hl 0 rfl) ?_
  refine ct_objInit hC hl.1 k_224 d_Mm_init_1 (by decide) (by decide) ?_
  refine lv_aload_n hx hb d_Mm_init_4 rfl (lv_at hl 0 rfl) ?_
  refine lv_iconst (v := 1) hx hb d_Mm_init_5 (by decide) ?_
  refine ct_put hC hw 0 1 (ty := .int) (ws' := [(b0, .inr (4, [.int 0, .int 1, .null, .int 0, .int 0, .int 0, .int 0, .null, .null, .null, .null, .null]))]) rfl rfl (by decide) k_226 rfl (by decide +kernel) rfl rfl (Nat.le_of_ble_eq_true rfl) rfl d_Mm_init_6 (fun H locs hw => ?_)
  refine lv_aload_n hx hb d_Mm_init_9 rfl (lv_at hl 0 rfl) ?_
  refine lv_bipush (v := 8) hx hb d_Mm_init_10 (by decide) ?_
  refine ct_newa hC hw (ws' := fun q0 => [(b0, .inr (4, [.int 0, .int 1, .null, .int 0, .int 0, .int 0, .int 0, .null, .null, .null, .null, .null])), (q0, .inl (X.2.1, 8, .inl (fun _ => 0)))]) (N' := 8) (atype := .int) (ty := .int) 0 rfl k_59 rfl rfl (by decide) rfl (by decide) (by decide) (by decide) (fun _ => rfl) d_Mm_init_12 (fun q0 H hw => ?_)
  refine W.widen (k := 1) (n := 8) (by decide) (by decide) ?_
  refine ct_putF hC hin hw 0 2 (ty := .array .int) (ws' := [(b0, .inr (4, [.int 0, .int 1, .ref q0, .int 0, .int 0, .int 0, .int 0, .null, .null, .null, .null, .null])), (q0, .inl (X.2.1, 8, .inl (fun _ => 0)))]) rfl rfl (by decide) k_227 rfl rfl (by decide +kernel) rfl rfl (Nat.le_of_ble_eq_true rfl) rfl d_Mm_init_14 (fun H locs hw => ?_)
  refine lv_aload_n hx hb d_Mm_init_17 rfl (lv_at hl 0 rfl) ?_
  refine lv_bipush (v := 8) hx hb d_Mm_init_18 (by decide) ?_
  refine ct_newa hC hw (ws' := fun q1 => [(b0, .inr (4, [.int 0, .int 1, .ref q0, .int 0, .int 0, .int 0, .int 0, .null, .null, .null, .null, .null])), (q0, .inl (X.2.1, 8, .inl (fun _ => 0))), (q1, .inl (X.2.1, 8, .inl (fun _ => 0)))]) (N' := 8) (atype := .int) (ty := .int) 0 rfl k_59 rfl rfl (by decide) rfl (by decide) (by decide) (by decide) (fun _ => rfl) d_Mm_init_20 (fun q1 H hw => ?_)
  refine W.widen (k := 2) (n := 16) (by decide) (by decide) ?_
  refine ct_putF hC hin hw 0 7 (ty := .array .int) (ws' := [(b0, .inr (4, [.int 0, .int 1, .ref q0, .int 0, .int 0, .int 0, .int 0, .ref q1, .null, .null, .null, .null])), (q0, .inl (X.2.1, 8, .inl (fun _ => 0))), (q1, .inl (X.2.1, 8, .inl (fun _ => 0)))]) rfl rfl (by decide) k_232 rfl rfl (by decide +kernel) rfl rfl (Nat.le_of_ble_eq_true rfl) rfl d_Mm_init_22 (fun H locs hw => ?_)
  refine lv_aload_n hx hb d_Mm_init_25 rfl (lv_at hl 0 rfl) ?_
  refine lv_sipush (v := 256) hx hb d_Mm_init_26 (by decide) ?_
  refine ct_newa hC hw (ws' := fun q2 => [(b0, .inr (4, [.int 0, .int 1, .ref q0, .int 0, .int 0, .int 0, .int 0, .ref q1, .null, .null, .null, .null])), (q0, .inl (X.2.1, 8, .inl (fun _ => 0))), (q1, .inl (X.2.1, 8, .inl (fun _ => 0))), (q2, .inl (X.2.1, 256, .inl (fun _ => 0)))]) (N' := 256) (atype := .int) (ty := .int) 0 rfl k_59 rfl rfl (by decide) rfl (by decide) (by decide) (by decide) (fun _ => rfl) d_Mm_init_29 (fun q2 H hw => ?_)
  refine W.widen (k := 3) (n := 272) (by decide) (by decide) ?_
  refine ct_putF hC hin hw 0 8 (ty := .array .int) (ws' := [(b0, .inr (4, [.int 0, .int 1, .ref q0, .int 0, .int 0, .int 0, .int 0, .ref q1, .ref q2, .null, .null, .null])), (q0, .inl (X.2.1, 8, .inl (fun _ => 0))), (q1, .inl (X.2.1, 8, .inl (fun _ => 0))), (q2, .inl (X.2.1, 256, .inl (fun _ => 0)))]) rfl rfl (by decide) k_233 rfl rfl (by decide +kernel) rfl rfl (Nat.le_of_ble_eq_true rfl) rfl d_Mm_init_31 (fun H locs hw => ?_)
  refine lv_aload_n hx hb d_Mm_init_34 rfl (lv_at hl 0 rfl) ?_
  refine lv_sipush (v := 256) hx hb d_Mm_init_35 (by decide) ?_
  refine ct_newa hC hw (ws' := fun q3 => [(b0, .inr (4, [.int 0, .int 1, .ref q0, .int 0, .int 0, .int 0, .int 0, .ref q1, .ref q2, .null, .null, .null])), (q0, .inl (X.2.1, 8, .inl (fun _ => 0))), (q1, .inl (X.2.1, 8, .inl (fun _ => 0))), (q2, .inl (X.2.1, 256, .inl (fun _ => 0))), (q3, .inl (X.2.2.1, 256, .inl (fun _ => 0)))]) (N' := 256) (atype := .boolean) (ty := .boolean) 1 rfl k_86 rfl rfl (by decide) rfl (by decide) (by decide) (by decide) (fun _ => rfl) d_Mm_init_38 (fun q3 H hw => ?_)
  refine W.widen (k := 4) (n := 528) (by decide) (by decide) ?_
  refine ct_putF hC hin hw 0 9 (ty := .array .boolean) (ws' := [(b0, .inr (4, [.int 0, .int 1, .ref q0, .int 0, .int 0, .int 0, .int 0, .ref q1, .ref q2, .ref q3, .null, .null])), (q0, .inl (X.2.1, 8, .inl (fun _ => 0))), (q1, .inl (X.2.1, 8, .inl (fun _ => 0))), (q2, .inl (X.2.1, 256, .inl (fun _ => 0))), (q3, .inl (X.2.2.1, 256, .inl (fun _ => 0)))]) rfl rfl (by decide) k_234 rfl rfl (by decide +kernel) rfl rfl (Nat.le_of_ble_eq_true rfl) rfl d_Mm_init_40 (fun H locs hw => ?_)
  refine lv_aload_n hx hb d_Mm_init_43 rfl (lv_at hl 0 rfl) ?_
  refine lv_sipush (v := 256) hx hb d_Mm_init_44 (by decide) ?_
  refine ct_newa hC hw (ws' := fun q4 => [(b0, .inr (4, [.int 0, .int 1, .ref q0, .int 0, .int 0, .int 0, .int 0, .ref q1, .ref q2, .ref q3, .null, .null])), (q0, .inl (X.2.1, 8, .inl (fun _ => 0))), (q1, .inl (X.2.1, 8, .inl (fun _ => 0))), (q2, .inl (X.2.1, 256, .inl (fun _ => 0))), (q3, .inl (X.2.2.1, 256, .inl (fun _ => 0))), (q4, .inl (X.2.1, 256, .inl (fun _ => 0)))]) (N' := 256) (atype := .int) (ty := .int) 0 rfl k_59 rfl rfl (by decide) rfl (by decide) (by decide) (by decide) (fun _ => rfl) d_Mm_init_47 (fun q4 H hw => ?_)
  refine W.widen (k := 5) (n := 784) (by decide) (by decide) ?_
  refine ct_putF hC hin hw 0 10 (ty := .array .int) (ws' := [(b0, .inr (4, [.int 0, .int 1, .ref q0, .int 0, .int 0, .int 0, .int 0, .ref q1, .ref q2, .ref q3, .ref q4, .null])), (q0, .inl (X.2.1, 8, .inl (fun _ => 0))), (q1, .inl (X.2.1, 8, .inl (fun _ => 0))), (q2, .inl (X.2.1, 256, .inl (fun _ => 0))), (q3, .inl (X.2.2.1, 256, .inl (fun _ => 0))), (q4, .inl (X.2.1, 256, .inl (fun _ => 0)))]) rfl rfl (by decide) k_235 rfl rfl (by decide +kernel) rfl rfl (Nat.le_of_ble_eq_true rfl) rfl d_Mm_init_49 (fun H locs hw => ?_)
  refine lv_aload_n hx hb d_Mm_init_52 rfl (lv_at hl 0 rfl) ?_
  refine lv_sipush (v := 2048) hx hb d_Mm_init_53 (by decide) ?_
  refine ct_newa hC hw (ws' := fun q5 => [(b0, .inr (4, [.int 0, .int 1, .ref q0, .int 0, .int 0, .int 0, .int 0, .ref q1, .ref q2, .ref q3, .ref q4, .null])), (q0, .inl (X.2.1, 8, .inl (fun _ => 0))), (q1, .inl (X.2.1, 8, .inl (fun _ => 0))), (q2, .inl (X.2.1, 256, .inl (fun _ => 0))), (q3, .inl (X.2.2.1, 256, .inl (fun _ => 0))), (q4, .inl (X.2.1, 256, .inl (fun _ => 0))), (q5, .inl (X.2.1, 2048, .inl (fun _ => 0)))]) (N' := 2048) (atype := .int) (ty := .int) 0 rfl k_59 rfl rfl (by decide) rfl (by decide) (by decide) (by decide) (fun _ => rfl) d_Mm_init_56 (fun q5 H hw => ?_)
  refine W.widen (k := 6) (n := 2832) (by decide) (by decide) ?_
  refine ct_putF hC hin hw 0 11 (ty := .array .int) (ws' := [(b0, .inr (4, [.int 0, .int 1, .ref q0, .int 0, .int 0, .int 0, .int 0, .ref q1, .ref q2, .ref q3, .ref q4, .ref q5])), (q0, .inl (X.2.1, 8, .inl (fun _ => 0))), (q1, .inl (X.2.1, 8, .inl (fun _ => 0))), (q2, .inl (X.2.1, 256, .inl (fun _ => 0))), (q3, .inl (X.2.2.1, 256, .inl (fun _ => 0))), (q4, .inl (X.2.1, 256, .inl (fun _ => 0))), (q5, .inl (X.2.1, 2048, .inl (fun _ => 0)))]) rfl rfl (by decide) k_236 rfl rfl (by decide +kernel) rfl rfl (Nat.le_of_ble_eq_true rfl) rfl d_Mm_init_58 (fun H locs hw => ?_)
  exact ct_vret hC hw (q0, q1, q2, q3, q4, q5) rfl d_Mm_init_61
set_option maxHeartbeats 4000000 in
set_option maxRecDepth 100000 in
/-- whether a form is there -/
theorem c_Mm_isThere (l : Launch) (X : GG) (b0 b1 b2 b3 b4 b5 b6 : Nat) (z : MS) (f : FS) (t : TS) (i0 : Int32) : Ct l y_Mm_isThere b_Mm_isThere 2 (some .boolean) ({ frames := 0, cells := 0, slots := 0, locals := 0 } : Room) X [.ref b0, .int i0] (wX X b0 b1 b2 b3 b4 b5 b6 (z, f, t)) (some (.int (isI f.1 i0))) (fun _ : Unit => wX X b0 b1 b2 b3 b4 b5 b6 (z, f, t)) := by
  refine ct_enter (by decide) (Nat.le_of_ble_eq_true rfl) ?_
  intro p e s m args below meth c A ls hx hb hC hin hw hl
  have hC : Cx p s m args meth c "ModeKeeperModel" b_Mm_isThere 2 (some .boolean) X := hC
  have hw : Wd X A s.heap [(b0, .inr (4, [.int 0, .int z.2.1, .ref b1, .int z.2.2.1, .int z.2.2.2.1, .int z.2.2.2.2, .int t.2, .ref b2, .ref b3, .ref b4, .ref b5, .ref b6])), (b1, .inl (X.2.1, 8, .inl z.1)), (b2, .inl (X.2.1, 8, .inl t.1)), (b3, .inl (X.2.1, 256, .inl f.1)), (b4, .inl (X.2.2.1, 256, .inl f.2.1)), (b5, .inl (X.2.1, 256, .inl f.2.2.2.1)), (b6, .inl (X.2.1, 2048, .inl f.2.2.1))] s.heap [] := hw
  have hl : lv_has ls 2 [(0, .ref b0), (1, .int i0)] := hl
  refine lv_iload_n hx hb d_Mm_isThere_0 rfl (lv_at hl 1 rfl) ?_
  refine lv_if_lt (tgt := 24) hx hb d_Mm_isThere_1 (by decide) (fun c_1 => ?_) (fun c_1 => ?_)
  · refine lv_iconst (v := 0) hx hb d_Mm_isThere_24 (by decide) ?_
    exact ct_zret (F := wX X b0 b1 b2 b3 b4 b5 b6) (z := (z, f, t)) (sp := (isI f.1 i0, (z, f, t))) hC hw (Or.inl rfl) (by simp [isI, c_1]) rfl d_Mm_isThere_25
  · refine lv_iload_n hx hb d_Mm_isThere_4 rfl (lv_at hl 1 rfl) ?_
    refine lv_sipush (v := 256) hx hb d_Mm_isThere_5 (by decide) ?_
    refine lv_icmp_ge (tgt := 24) hx hb d_Mm_isThere_8 (by decide) (fun c_8 => ?_) (fun c_8 => ?_)
    · refine lv_iconst (v := 0) hx hb d_Mm_isThere_24 (by decide) ?_
      exact ct_zret (F := wX X b0 b1 b2 b3 b4 b5 b6) (z := (z, f, t)) (sp := (isI f.1 i0, (z, f, t))) hC hw (Or.inl rfl) (by simp [isI, c_1, c_8]) rfl d_Mm_isThere_25
    · refine lv_aload_n hx hb d_Mm_isThere_11 rfl (lv_at hl 0 rfl) ?_
      refine ct_get hC hw 0 8 rfl rfl (by decide) k_233 rfl d_Mm_isThere_12 ?_
      refine lv_iload_n hx hb d_Mm_isThere_15 rfl (lv_at hl 1 rfl) ?_
      refine ct_iald hC hw 3 rfl (i_in (n := 256) rfl c_1 c_8) d_Mm_isThere_16 ?_
      refine lv_if_le (tgt := 24) hx hb d_Mm_isThere_17 (by decide) (fun c_17 => ?_) (fun c_17 => ?_)
      · refine lv_iconst (v := 0) hx hb d_Mm_isThere_24 (by decide) ?_
        exact ct_zret (F := wX X b0 b1 b2 b3 b4 b5 b6) (z := (z, f, t)) (sp := (isI f.1 i0, (z, f, t))) hC hw (Or.inl rfl) (by simp [isI, c_1, c_8, c_17]) rfl d_Mm_isThere_25
      · refine lv_iconst (v := 1) hx hb d_Mm_isThere_20 (by decide) ?_
        refine lv_goto (tgt := 25) hx hb d_Mm_isThere_21 (by decide) ?_
        exact ct_zret (F := wX X b0 b1 b2 b3 b4 b5 b6) (z := (z, f, t)) (sp := (isI f.1 i0, (z, f, t))) hC hw (Or.inr rfl) (by simp [isI, c_1, c_8, c_17]) rfl d_Mm_isThere_25
set_option maxHeartbeats 4000000 in
set_option maxRecDepth 100000 in
theorem l_Mm_forms {l : Launch} {p : Program} {e : Env} {s : State} {m : MethodId} {args : Array Value} {below : List Frame} {meth : Method} {c : Code} {A : Nat → Prop} {X : GG} {b0 b1 b2 b3 b4 b5 b6 : Nat} {z : MS} {f : FS} {t : TS} (hx : p.tables.exec = Jvm.exec) (hb : c.code = b_Mm_forms) (hC : Cx p s m args meth c "ModeKeeperModel" b_Mm_forms 3 (some .int) X)  :
    ∀ (n : Nat) (j : Nat) (ls : Array Slot) (H : Heap) (locs : List Loc), j ≤ 256 → 256 - j < n → lv_has ls 3 [(2, .int (nI j)), (1, .int (nI (cnt f.1 j))), (0, .ref b0)] → Wd X A s.heap [(b0, .inr (4, [.int 0, .int z.2.1, .ref b1, .int z.2.2.1, .int z.2.2.2.1, .int z.2.2.2.2, .int t.2, .ref b2, .ref b3, .ref b4, .ref b5, .ref b6])), (b1, .inl (X.2.1, 8, .inl z.1)), (b2, .inl (X.2.1, 8, .inl t.1)), (b3, .inl (X.2.1, 256, .inl f.1)), (b4, .inl (X.2.2.1, 256, .inl f.2.1)), (b5, .inl (X.2.1, 256, .inl f.2.2.2.1)), (b6, .inl (X.2.1, 2048, .inl f.2.2.1))] H locs → W p l e ({ frames := 0, cells := 0, slots := 0, locals := 0 } : Room) s m args below meth c H locs 0 0 (Fin' X below args s A (some (.int (nI (cnt f.1 256)))) (fun _ : Unit => wX X b0 b1 b2 b3 b4 b5 b6 (z, f, t)) 0 0) (F0 m 4 ls []) := by
  intro n
  induction n with
  | zero => intro j ls H locs h0 h1; exact absurd h1 (by omega)
  | succ n ih =>
    intro j ls H locs h0 h1 hl hw
    refine lv_iload_n hx hb d_Mm_forms_4 rfl (lv_at hl 0 rfl) ?_
    refine lv_sipush (v := 256) hx hb d_Mm_forms_5 (by decide) ?_
    refine lv_icmp_ge (tgt := 34) hx hb d_Mm_forms_8 (by decide) (fun c_8 => ?_) (fun c_8 => ?_)
    · refine lv_iload_n hx hb d_Mm_forms_34 rfl (lv_at hl 1 rfl) ?_
      exact ct_iret (F := wX X b0 b1 b2 b3 b4 b5 b6) (z := (z, f, t)) (sp := (nI (cnt f.1 256), (z, f, t))) hC hw (by rw [eq_256 h0 c_8]) rfl d_Mm_forms_35
    · have hj : j < 256 := lt_256 h0 c_8
      refine lv_iload_n hx hb d_Mm_forms_11 rfl (lv_at hl 1 rfl) ?_
      refine lv_aload_n hx hb d_Mm_forms_12 rfl (lv_at hl 2 rfl) ?_
      refine ct_get hC hw 0 8 rfl rfl (by decide) k_233 rfl d_Mm_forms_13 ?_
      refine lv_iload_n hx hb d_Mm_forms_16 rfl (lv_at hl 0 rfl) ?_
      refine ct_iald hC hw 3 rfl (vp_in_nI hj (by decide)) d_Mm_forms_17 ?_
      refine lv_if_le (tgt := 25) hx hb d_Mm_forms_18 (by decide) (fun c_18 => ?_) (fun c_18 => ?_)
      · refine lv_iconst (v := 0) hx hb d_Mm_forms_25 (by decide) ?_
        refine lv_iadd hx hb d_Mm_forms_26 ?_
        refine lv_istore_n (lv' := [(1, .int ((nI (cnt f.1 j)) + 0)), (2, .int (nI j)), (0, .ref b0)]) hx hb d_Mm_forms_27 rfl hl (by decide) rfl (fun ls hl => ?_)
        refine lv_iinc (v := (nI j) + 1) (lv' := [(2, .int ((nI j) + 1)), (1, .int ((nI (cnt f.1 j)) + 0)), (0, .ref b0)]) hx hb d_Mm_forms_28 hl (k := 1) rfl rfl (by decide) rfl (fun ls hl => ?_)
        refine lv_goto (tgt := 4) hx hb d_Mm_forms_31 (by decide) ?_
        exact ih (j + 1) ls H locs hj (by omega) (by rw [nI_1 j, cnt_0 hj c_18] at hl; exact hl) hw
      · refine lv_iconst (v := 1) hx hb d_Mm_forms_21 (by decide) ?_
        refine lv_goto (tgt := 26) hx hb d_Mm_forms_22 (by decide) ?_
        refine lv_iadd hx hb d_Mm_forms_26 ?_
        refine lv_istore_n (lv' := [(1, .int ((nI (cnt f.1 j)) + 1)), (2, .int (nI j)), (0, .ref b0)]) hx hb d_Mm_forms_27 rfl hl (by decide) rfl (fun ls hl => ?_)
        refine lv_iinc (v := (nI j) + 1) (lv' := [(2, .int ((nI j) + 1)), (1, .int ((nI (cnt f.1 j)) + 1)), (0, .ref b0)]) hx hb d_Mm_forms_28 hl (k := 1) rfl rfl (by decide) rfl (fun ls hl => ?_)
        refine lv_goto (tgt := 4) hx hb d_Mm_forms_31 (by decide) ?_
        exact ih (j + 1) ls H locs hj (by omega) (by rw [nI_1 j, cnt_1 hj c_18] at hl; exact hl) hw
set_option maxHeartbeats 4000000 in
set_option maxRecDepth 100000 in
/-- how many forms -/
theorem c_Mm_forms (l : Launch) (X : GG) (b0 b1 b2 b3 b4 b5 b6 : Nat) (z : MS) (f : FS) (t : TS) : Ct l y_Mm_forms b_Mm_forms 3 (some .int) ({ frames := 0, cells := 0, slots := 0, locals := 0 } : Room) X [.ref b0] (wX X b0 b1 b2 b3 b4 b5 b6 (z, f, t)) (some (.int (nI (cnt f.1 256)))) (fun _ : Unit => wX X b0 b1 b2 b3 b4 b5 b6 (z, f, t)) := by
  refine ct_enter (by decide) (Nat.le_of_ble_eq_true rfl) ?_
  intro p e s m args below meth c A ls hx hb hC hin hw hl
  have hC : Cx p s m args meth c "ModeKeeperModel" b_Mm_forms 3 (some .int) X := hC
  have hw : Wd X A s.heap [(b0, .inr (4, [.int 0, .int z.2.1, .ref b1, .int z.2.2.1, .int z.2.2.2.1, .int z.2.2.2.2, .int t.2, .ref b2, .ref b3, .ref b4, .ref b5, .ref b6])), (b1, .inl (X.2.1, 8, .inl z.1)), (b2, .inl (X.2.1, 8, .inl t.1)), (b3, .inl (X.2.1, 256, .inl f.1)), (b4, .inl (X.2.2.1, 256, .inl f.2.1)), (b5, .inl (X.2.1, 256, .inl f.2.2.2.1)), (b6, .inl (X.2.1, 2048, .inl f.2.2.1))] s.heap [] := hw
  have hl : lv_has ls 3 [(0, .ref b0)] := hl
  refine lv_iconst (v := 0) hx hb d_Mm_forms_0 (by decide) ?_
  refine lv_istore_n (lv' := [(1, .int 0), (0, .ref b0)]) hx hb d_Mm_forms_1 rfl hl (by decide) rfl (fun ls hl => ?_)
  refine lv_iconst (v := 0) hx hb d_Mm_forms_2 (by decide) ?_
  refine lv_istore_n (lv' := [(2, .int 0), (1, .int 0), (0, .ref b0)]) hx hb d_Mm_forms_3 rfl hl (by decide) rfl (fun ls hl => ?_)
  exact l_Mm_forms hx hb hC 257 0 ls _ _ (by decide) (by decide) hl hw
set_option maxHeartbeats 4000000 in
set_option maxRecDepth 100000 in
theorem l_Mm_becomes {l : Launch} {p : Program} {e : Env} {s : State} {m : MethodId} {args : Array Value} {below : List Frame} {meth : Method} {c : Code} {A : Nat → Prop} {X : GG} {b0 b1 b2 b3 b4 b5 b6 : Nat} {z : MS} {f : FS} {t : TS} {m0 : Int32} (hx : p.tables.exec = Jvm.exec) (hb : c.code = b_Mm_becomes) (hC : Cx p s m args meth c "ModeKeeperModel" b_Mm_becomes 4 (some .boolean) X) (hm : ¬ m0 = z.2.1) :
    ∀ (n : Nat) (j : Nat) (ls : Array Slot) (H : Heap) (locs : List Loc), j ≤ 8 → 8 - j < n → (¬ m0 = 0 → j = 0) → lv_has ls 4 [(3, .int (nI j)), (2, .int 1), (0, .ref b0), (1, .int m0)] → Wd X A s.heap [(b0, .inr (4, [.int 0, .int m0, .ref b1, .int z.2.2.1, .int z.2.2.2.1, .int (z.2.2.2.2 + 1), .int t.2, .ref b2, .ref b3, .ref b4, .ref b5, .ref b6])), (b1, .inl (X.2.1, 8, .inl (va_cpy safeF z.1 0 0 j))), (b2, .inl (X.2.1, 8, .inl t.1)), (b3, .inl (X.2.1, 256, .inl f.1)), (b4, .inl (X.2.2.1, 256, .inl f.2.1)), (b5, .inl (X.2.1, 256, .inl f.2.2.2.1)), (b6, .inl (X.2.1, 2048, .inl f.2.2.1))] H locs → W p l e ({ frames := 0, cells := 0, slots := 0, locals := 0 } : Room) s m args below meth c H locs 0 0 (Fin' X below args s A (some (.int (chg z.2.1 m0))) (fun _ : Unit => wX X b0 b1 b2 b3 b4 b5 b6 (bc z m0, f, t)) 0 0) (F0 m 39 ls []) := by
  intro n
  induction n with
  | zero => intro j ls H locs h0 h1; exact absurd h1 (by omega)
  | succ n ih =>
    intro j ls H locs h0 h1 h2 hl hw
    refine lv_iload_n hx hb d_Mm_becomes_39 rfl (lv_at hl 0 rfl) ?_
    refine lv_bipush (v := 8) hx hb d_Mm_becomes_40 (by decide) ?_
    refine lv_icmp_ge (tgt := 97) hx hb d_Mm_becomes_42 (by decide) (fun c_42 => ?_) (fun c_42 => ?_)
    · refine lv_iload_n hx hb d_Mm_becomes_97 rfl (lv_at hl 1 rfl) ?_
      exact ct_zret (F := wX X b0 b1 b2 b3 b4 b5 b6) (z := ((va_cpy safeF z.1 0 0 j, m0, z.2.2.1, z.2.2.2.1, z.2.2.2.2 + 1), f, t)) (sp := (chg z.2.1 m0, (bc z m0, f, t))) hC hw (Or.inr rfl) (by have hm0 : m0 = 0 := Decidable.byContradiction (fun q => by have := h2 q; have := eq_8 h0 c_42; omega); unfold chg bc; rw [if_neg hm, if_neg hm, if_pos hm0, eq_8 h0 c_42]) rfl d_Mm_becomes_98
    · have hj : j < 8 := lt_8 h0 c_42
      refine lv_iload_n hx hb d_Mm_becomes_45 rfl (lv_at hl 1 rfl) ?_
      refine lv_if_eq (tgt := 97) hx hb d_Mm_becomes_46 (by decide) (fun c_46 => ?_) (fun c_46 => ?_)
      · exact absurd c_46 (by decide)
      · refine lv_iload_n hx hb d_Mm_becomes_49 rfl (lv_at hl 3 rfl) ?_
        refine lv_if_ne (tgt := 97) hx hb d_Mm_becomes_50 (by decide) (fun c_50 => ?_) (fun c_50 => ?_)
        · refine lv_iload_n hx hb d_Mm_becomes_97 rfl (lv_at hl 1 rfl) ?_
          exact ct_zret (F := wX X b0 b1 b2 b3 b4 b5 b6) (z := ((va_cpy safeF z.1 0 0 j, m0, z.2.2.1, z.2.2.2.1, z.2.2.2.2 + 1), f, t)) (sp := (chg z.2.1 m0, (bc z m0, f, t))) hC hw (Or.inr rfl) (by rw [h2 c_50, cpy_0]; unfold chg bc; rw [if_neg hm, if_neg hm, if_neg c_50]) rfl d_Mm_becomes_98
        · refine lv_aload_n hx hb d_Mm_becomes_53 rfl (lv_at hl 2 rfl) ?_
          refine ct_get hC hw 0 2 rfl rfl (by decide) k_227 rfl d_Mm_becomes_54 ?_
          refine lv_iload_n hx hb d_Mm_becomes_57 rfl (lv_at hl 0 rfl) ?_
          refine lv_iload_n hx hb d_Mm_becomes_58 rfl (lv_at hl 0 rfl) ?_
          refine lv_iconst (v := 4) hx hb d_Mm_becomes_59 (by decide) ?_
          refine lv_icmp_ge (tgt := 67) hx hb d_Mm_becomes_60 (by decide) (fun c_60 => ?_) (fun c_60 => ?_)
          · refine lv_iload_n hx hb d_Mm_becomes_67 rfl (lv_at hl 0 rfl) ?_
            refine lv_bipush (v := 6) hx hb d_Mm_becomes_68 (by decide) ?_
            refine lv_icmp_ge (tgt := 78) hx hb d_Mm_becomes_70 (by decide) (fun c_70 => ?_) (fun c_70 => ?_)
            · refine lv_iload_n hx hb d_Mm_becomes_78 rfl (lv_at hl 0 rfl) ?_
              refine lv_bipush (v := 6) hx hb d_Mm_becomes_79 (by decide) ?_
              refine lv_icmp_ne (tgt := 89) hx hb d_Mm_becomes_81 (by decide) (fun c_81 => ?_) (fun c_81 => ?_)
              · refine lv_iconst (v := 1) hx hb d_Mm_becomes_89 (by decide) ?_
                refine ct_iast hC hw 1 (ws' := [(b0, .inr (4, [.int 0, .int m0, .ref b1, .int z.2.2.1, .int z.2.2.2.1, .int (z.2.2.2.2 + 1), .int t.2, .ref b2, .ref b3, .ref b4, .ref b5, .ref b6])), (b1, .inl (X.2.1, 8, .inl (upd (va_cpy safeF z.1 0 0 j) (nI j).toNatClampNeg 1))), (b2, .inl (X.2.1, 8, .inl t.1)), (b3, .inl (X.2.1, 256, .inl f.1)), (b4, .inl (X.2.2.1, 256, .inl f.2.1)), (b5, .inl (X.2.1, 256, .inl f.2.2.2.1)), (b6, .inl (X.2.1, 2048, .inl f.2.2.1))]) rfl (vp_in_nI hj (by decide)) rfl d_Mm_becomes_90 (fun H locs hw => ?_)
                refine lv_iinc (v := (nI j) + 1) (lv' := [(3, .int ((nI j) + 1)), (2, .int 1), (0, .ref b0), (1, .int m0)]) hx hb d_Mm_becomes_91 hl (k := 0) rfl rfl (by decide) rfl (fun ls hl => ?_)
                refine lv_goto (tgt := 39) hx hb d_Mm_becomes_94 (by decide) ?_
                exact ih (j + 1) ls H locs hj (by omega) (fun q => absurd c_50 q) (by rw [nI_1 j] at hl; exact hl) (by rw [safe_step hj (safe_v1 j hj c_70 c_81)] at hw; exact hw)
              · refine lv_bipush (v := 100) hx hb d_Mm_becomes_84 (by decide) ?_
                refine lv_goto (tgt := 90) hx hb d_Mm_becomes_86 (by decide) ?_
                refine ct_iast hC hw 1 (ws' := [(b0, .inr (4, [.int 0, .int m0, .ref b1, .int z.2.2.1, .int z.2.2.2.1, .int (z.2.2.2.2 + 1), .int t.2, .ref b2, .ref b3, .ref b4, .ref b5, .ref b6])), (b1, .inl (X.2.1, 8, .inl (upd (va_cpy safeF z.1 0 0 j) (nI j).toNatClampNeg 100))), (b2, .inl (X.2.1, 8, .inl t.1)), (b3, .inl (X.2.1, 256, .inl f.1)), (b4, .inl (X.2.2.1, 256, .inl f.2.1)), (b5, .inl (X.2.1, 256, .inl f.2.2.2.1)), (b6, .inl (X.2.1, 2048, .inl f.2.2.1))]) rfl (vp_in_nI hj (by decide)) rfl d_Mm_becomes_90 (fun H locs hw => ?_)
                refine lv_iinc (v := (nI j) + 1) (lv' := [(3, .int ((nI j) + 1)), (2, .int 1), (0, .ref b0), (1, .int m0)]) hx hb d_Mm_becomes_91 hl (k := 0) rfl rfl (by decide) rfl (fun ls hl => ?_)
                refine lv_goto (tgt := 39) hx hb d_Mm_becomes_94 (by decide) ?_
                exact ih (j + 1) ls H locs hj (by omega) (fun q => absurd c_50 q) (by rw [nI_1 j] at hl; exact hl) (by rw [safe_step hj (safe_v100 j hj c_81)] at hw; exact hw)
            · refine lv_bipush (v := 50) hx hb d_Mm_becomes_73 (by decide) ?_
              refine lv_goto (tgt := 90) hx hb d_Mm_becomes_75 (by decide) ?_
              refine ct_iast hC hw 1 (ws' := [(b0, .inr (4, [.int 0, .int m0, .ref b1, .int z.2.2.1, .int z.2.2.2.1, .int (z.2.2.2.2 + 1), .int t.2, .ref b2, .ref b3, .ref b4, .ref b5, .ref b6])), (b1, .inl (X.2.1, 8, .inl (upd (va_cpy safeF z.1 0 0 j) (nI j).toNatClampNeg 50))), (b2, .inl (X.2.1, 8, .inl t.1)), (b3, .inl (X.2.1, 256, .inl f.1)), (b4, .inl (X.2.2.1, 256, .inl f.2.1)), (b5, .inl (X.2.1, 256, .inl f.2.2.2.1)), (b6, .inl (X.2.1, 2048, .inl f.2.2.1))]) rfl (vp_in_nI hj (by decide)) rfl d_Mm_becomes_90 (fun H locs hw => ?_)
              refine lv_iinc (v := (nI j) + 1) (lv' := [(3, .int ((nI j) + 1)), (2, .int 1), (0, .ref b0), (1, .int m0)]) hx hb d_Mm_becomes_91 hl (k := 0) rfl rfl (by decide) rfl (fun ls hl => ?_)
              refine lv_goto (tgt := 39) hx hb d_Mm_becomes_94 (by decide) ?_
              exact ih (j + 1) ls H locs hj (by omega) (fun q => absurd c_50 q) (by rw [nI_1 j] at hl; exact hl) (by rw [safe_step hj (safe_v50 j hj c_60 c_70)] at hw; exact hw)
          · refine lv_iconst (v := 0) hx hb d_Mm_becomes_63 (by decide) ?_
            refine lv_goto (tgt := 90) hx hb d_Mm_becomes_64 (by decide) ?_
            refine ct_iast hC hw 1 (ws' := [(b0, .inr (4, [.int 0, .int m0, .ref b1, .int z.2.2.1, .int z.2.2.2.1, .int (z.2.2.2.2 + 1), .int t.2, .ref b2, .ref b3, .ref b4, .ref b5, .ref b6])), (b1, .inl (X.2.1, 8, .inl (upd (va_cpy safeF z.1 0 0 j) (nI j).toNatClampNeg 0))), (b2, .inl (X.2.1, 8, .inl t.1)), (b3, .inl (X.2.1, 256, .inl f.1)), (b4, .inl (X.2.2.1, 256, .inl f.2.1)), (b5, .inl (X.2.1, 256, .inl f.2.2.2.1)), (b6, .inl (X.2.1, 2048, .inl f.2.2.1))]) rfl (vp_in_nI hj (by decide)) rfl d_Mm_becomes_90 (fun H locs hw => ?_)
            refine lv_iinc (v := (nI j) + 1) (lv' := [(3, .int ((nI j) + 1)), (2, .int 1), (0, .ref b0), (1, .int m0)]) hx hb d_Mm_becomes_91 hl (k := 0) rfl rfl (by decide) rfl (fun ls hl => ?_)
            refine lv_goto (tgt := 39) hx hb d_Mm_becomes_94 (by decide) ?_
            exact ih (j + 1) ls H locs hj (by omega) (fun q => absurd c_50 q) (by rw [nI_1 j] at hl; exact hl) (by rw [safe_step hj (safe_v0 j hj c_60)] at hw; exact hw)
set_option maxHeartbeats 4000000 in
set_option maxRecDepth 100000 in
/-- becomes -/
theorem c_Mm_becomes (l : Launch) (X : GG) (b0 b1 b2 b3 b4 b5 b6 : Nat) (z : MS) (f : FS) (t : TS) (m0 : Int32) : Ct l y_Mm_becomes b_Mm_becomes 4 (some .boolean) ({ frames := 0, cells := 0, slots := 0, locals := 0 } : Room) X [.ref b0, .int m0] (wX X b0 b1 b2 b3 b4 b5 b6 (z, f, t)) (some (.int (chg z.2.1 m0))) (fun _ : Unit => wX X b0 b1 b2 b3 b4 b5 b6 (bc z m0, f, t)) := by
  refine ct_enter (by decide) (Nat.le_of_ble_eq_true rfl) ?_
  intro p e s m args below meth c A ls hx hb hC hin hw hl
  have hC : Cx p s m args meth c "ModeKeeperModel" b_Mm_becomes 4 (some .boolean) X := hC
  have hw : Wd X A s.heap [(b0, .inr (4, [.int 0, .int z.2.1, .ref b1, .int z.2.2.1, .int z.2.2.2.1, .int z.2.2.2.2, .int t.2, .ref b2, .ref b3, .ref b4, .ref b5, .ref b6])), (b1, .inl (X.2.1, 8, .inl z.1)), (b2, .inl (X.2.1, 8, .inl t.1)), (b3, .inl (X.2.1, 256, .inl f.1)), (b4, .inl (X.2.2.1, 256, .inl f.2.1)), (b5, .inl (X.2.1, 256, .inl f.2.2.2.1)), (b6, .inl (X.2.1, 2048, .inl f.2.2.1))] s.heap [] := hw
  have hl : lv_has ls 4 [(0, .ref b0), (1, .int m0)] := hl
  refine lv_iload_n hx hb d_Mm_becomes_0 rfl (lv_at hl 1 rfl) ?_
  refine lv_aload_n hx hb d_Mm_becomes_1 rfl (lv_at hl 0 rfl) ?_
  refine ct_get hC hw 0 1 rfl rfl (by decide) k_226 rfl d_Mm_becomes_2 ?_
  refine lv_icmp_eq (tgt := 12) hx hb d_Mm_becomes_5 (by decide) (fun c_5 => ?_) (fun c_5 => ?_)
  · refine lv_iconst (v := 0) hx hb d_Mm_becomes_12 (by decide) ?_
    refine lv_istore_n (lv' := [(2, .int 0), (0, .ref b0), (1, .int m0)]) hx hb d_Mm_becomes_13 rfl hl (by decide) rfl (fun ls hl => ?_)
    refine lv_aload_n hx hb d_Mm_becomes_14 rfl (lv_at hl 1 rfl) ?_
    refine lv_iload_n hx hb d_Mm_becomes_15 rfl (lv_at hl 2 rfl) ?_
    refine ct_put hC hw 0 1 (ty := .int) (ws' := [(b0, .inr (4, [.int 0, .int m0, .ref b1, .int z.2.2.1, .int z.2.2.2.1, .int z.2.2.2.2, .int t.2, .ref b2, .ref b3, .ref b4, .ref b5, .ref b6])), (b1, .inl (X.2.1, 8, .inl z.1)), (b2, .inl (X.2.1, 8, .inl t.1)), (b3, .inl (X.2.1, 256, .inl f.1)), (b4, .inl (X.2.2.1, 256, .inl f.2.1)), (b5, .inl (X.2.1, 256, .inl f.2.2.2.1)), (b6, .inl (X.2.1, 2048, .inl f.2.2.1))]) rfl rfl (by decide) k_226 rfl (by decide +kernel) rfl rfl (Nat.le_of_ble_eq_true rfl) rfl d_Mm_becomes_16 (fun H locs hw => ?_)
    refine lv_aload_n hx hb d_Mm_becomes_19 rfl (lv_at hl 1 rfl) ?_
    refine lv_dup hx hb d_Mm_becomes_20 rfl ?_
    refine ct_get hC hw 0 5 rfl rfl (by decide) k_230 rfl d_Mm_becomes_21 ?_
    refine lv_iload_n hx hb d_Mm_becomes_24 rfl (lv_at hl 0 rfl) ?_
    refine lv_if_eq (tgt := 32) hx hb d_Mm_becomes_25 (by decide) (fun c_25 => ?_) (fun c_25 => ?_)
    · refine lv_iconst (v := 0) hx hb d_Mm_becomes_32 (by decide) ?_
      refine lv_iadd hx hb d_Mm_becomes_33 ?_
      refine ct_put hC hw 0 5 (ty := .int) (ws' := [(b0, .inr (4, [.int 0, .int m0, .ref b1, .int z.2.2.1, .int z.2.2.2.1, .int (z.2.2.2.2 + 0), .int t.2, .ref b2, .ref b3, .ref b4, .ref b5, .ref b6])), (b1, .inl (X.2.1, 8, .inl z.1)), (b2, .inl (X.2.1, 8, .inl t.1)), (b3, .inl (X.2.1, 256, .inl f.1)), (b4, .inl (X.2.2.1, 256, .inl f.2.1)), (b5, .inl (X.2.1, 256, .inl f.2.2.2.1)), (b6, .inl (X.2.1, 2048, .inl f.2.2.1))]) rfl rfl (by decide) k_230 rfl (by decide +kernel) rfl rfl (Nat.le_of_ble_eq_true rfl) rfl d_Mm_becomes_34 (fun H locs hw => ?_)
      refine lv_iconst (v := 0) hx hb d_Mm_becomes_37 (by decide) ?_
      refine lv_istore_n (lv' := [(3, .int 0), (2, .int 0), (0, .ref b0), (1, .int m0)]) hx hb d_Mm_becomes_38 rfl hl (by decide) rfl (fun ls hl => ?_)
      refine lv_iload_n hx hb d_Mm_becomes_39 rfl (lv_at hl 0 rfl) ?_
      refine lv_bipush (v := 8) hx hb d_Mm_becomes_40 (by decide) ?_
      refine lv_icmp_ge (tgt := 97) hx hb d_Mm_becomes_42 (by decide) (fun c_42 => ?_) (fun c_42 => ?_)
      · exact absurd c_42 (by decide)
      · refine lv_iload_n hx hb d_Mm_becomes_45 rfl (lv_at hl 1 rfl) ?_
        refine lv_if_eq (tgt := 97) hx hb d_Mm_becomes_46 (by decide) (fun c_46 => ?_) (fun c_46 => ?_)
        · refine lv_iload_n hx hb d_Mm_becomes_97 rfl (lv_at hl 1 rfl) ?_
          exact ct_zret (F := wX X b0 b1 b2 b3 b4 b5 b6) (z := (z, f, t)) (sp := (chg z.2.1 m0, (bc z m0, f, t))) hC hw (Or.inl rfl) (by unfold chg bc; rw [if_pos c_5, if_pos c_5]) (by rw [c_5, Int32.add_zero]; rfl) d_Mm_becomes_98
        · exact absurd rfl c_46
    · exact absurd rfl c_25
  · refine lv_iconst (v := 1) hx hb d_Mm_becomes_8 (by decide) ?_
    refine lv_goto (tgt := 13) hx hb d_Mm_becomes_9 (by decide) ?_
    refine lv_istore_n (lv' := [(2, .int 1), (0, .ref b0), (1, .int m0)]) hx hb d_Mm_becomes_13 rfl hl (by decide) rfl (fun ls hl => ?_)
    refine lv_aload_n hx hb d_Mm_becomes_14 rfl (lv_at hl 1 rfl) ?_
    refine lv_iload_n hx hb d_Mm_becomes_15 rfl (lv_at hl 2 rfl) ?_
    refine ct_put hC hw 0 1 (ty := .int) (ws' := [(b0, .inr (4, [.int 0, .int m0, .ref b1, .int z.2.2.1, .int z.2.2.2.1, .int z.2.2.2.2, .int t.2, .ref b2, .ref b3, .ref b4, .ref b5, .ref b6])), (b1, .inl (X.2.1, 8, .inl z.1)), (b2, .inl (X.2.1, 8, .inl t.1)), (b3, .inl (X.2.1, 256, .inl f.1)), (b4, .inl (X.2.2.1, 256, .inl f.2.1)), (b5, .inl (X.2.1, 256, .inl f.2.2.2.1)), (b6, .inl (X.2.1, 2048, .inl f.2.2.1))]) rfl rfl (by decide) k_226 rfl (by decide +kernel) rfl rfl (Nat.le_of_ble_eq_true rfl) rfl d_Mm_becomes_16 (fun H locs hw => ?_)
    refine lv_aload_n hx hb d_Mm_becomes_19 rfl (lv_at hl 1 rfl) ?_
    refine lv_dup hx hb d_Mm_becomes_20 rfl ?_
    refine ct_get hC hw 0 5 rfl rfl (by decide) k_230 rfl d_Mm_becomes_21 ?_
    refine lv_iload_n hx hb d_Mm_becomes_24 rfl (lv_at hl 0 rfl) ?_
    refine lv_if_eq (tgt := 32) hx hb d_Mm_becomes_25 (by decide) (fun c_25 => ?_) (fun c_25 => ?_)
    · exact absurd c_25 (by decide)
    · refine lv_iconst (v := 1) hx hb d_Mm_becomes_28 (by decide) ?_
      refine lv_goto (tgt := 33) hx hb d_Mm_becomes_29 (by decide) ?_
      refine lv_iadd hx hb d_Mm_becomes_33 ?_
      refine ct_put hC hw 0 5 (ty := .int) (ws' := [(b0, .inr (4, [.int 0, .int m0, .ref b1, .int z.2.2.1, .int z.2.2.2.1, .int (z.2.2.2.2 + 1), .int t.2, .ref b2, .ref b3, .ref b4, .ref b5, .ref b6])), (b1, .inl (X.2.1, 8, .inl z.1)), (b2, .inl (X.2.1, 8, .inl t.1)), (b3, .inl (X.2.1, 256, .inl f.1)), (b4, .inl (X.2.2.1, 256, .inl f.2.1)), (b5, .inl (X.2.1, 256, .inl f.2.2.2.1)), (b6, .inl (X.2.1, 2048, .inl f.2.2.1))]) rfl rfl (by decide) k_230 rfl (by decide +kernel) rfl rfl (Nat.le_of_ble_eq_true rfl) rfl d_Mm_becomes_34 (fun H locs hw => ?_)
      refine lv_iconst (v := 0) hx hb d_Mm_becomes_37 (by decide) ?_
      refine lv_istore_n (lv' := [(3, .int 0), (2, .int 1), (0, .ref b0), (1, .int m0)]) hx hb d_Mm_becomes_38 rfl hl (by decide) rfl (fun ls hl => ?_)
      exact l_Mm_becomes hx hb hC c_5 9 0 ls _ _ (by decide) (by decide) (fun _ => rfl) hl (show Wd X A s.heap [(b0, .inr (4, [.int 0, .int m0, .ref b1, .int z.2.2.1, .int z.2.2.2.1, .int (z.2.2.2.2 + 1), .int t.2, .ref b2, .ref b3, .ref b4, .ref b5, .ref b6])), (b1, .inl (X.2.1, 8, .inl (va_cpy safeF z.1 0 0 0))), (b2, .inl (X.2.1, 8, .inl t.1)), (b3, .inl (X.2.1, 256, .inl f.1)), (b4, .inl (X.2.2.1, 256, .inl f.2.1)), (b5, .inl (X.2.1, 256, .inl f.2.2.2.1)), (b6, .inl (X.2.1, 2048, .inl f.2.2.1))] _ _ by rw [cpy_0]; exact hw)
set_option maxHeartbeats 4000000 in
set_option maxRecDepth 100000 in
/-- move -/
theorem c_Mm_move (l : Launch) (X : GG) (b0 b1 b2 b3 b4 b5 b6 : Nat) (z : MS) (f : FS) (t : TS) (a0 v0 : Int32) : Ct l y_Mm_move b_Mm_move 3 (some .int) ({ frames := 0, cells := 0, slots := 0, locals := 0 } : Room) X [.ref b0, .int a0, .int v0] (wX X b0 b1 b2 b3 b4 b5 b6 (z, f, t)) (some (.int ((mv z a0 v0).1))) (fun _ : Unit => wX X b0 b1 b2 b3 b4 b5 b6 ((mv z a0 v0).2, f, t)) := by
  refine ct_enter (by decide) (Nat.le_of_ble_eq_true rfl) ?_
  intro p e s m args below meth c A ls hx hb hC hin hw hl
  have hC : Cx p s m args meth c "ModeKeeperModel" b_Mm_move 3 (some .int) X := hC
  have hw : Wd X A s.heap [(b0, .inr (4, [.int 0, .int z.2.1, .ref b1, .int z.2.2.1, .int z.2.2.2.1, .int z.2.2.2.2, .int t.2, .ref b2, .ref b3, .ref b4, .ref b5, .ref b6])), (b1, .inl (X.2.1, 8, .inl z.1)), (b2, .inl (X.2.1, 8, .inl t.1)), (b3, .inl (X.2.1, 256, .inl f.1)), (b4, .inl (X.2.2.1, 256, .inl f.2.1)), (b5, .inl (X.2.1, 256, .inl f.2.2.2.1)), (b6, .inl (X.2.1, 2048, .inl f.2.2.1))] s.heap [] := hw
  have hl : lv_has ls 3 [(0, .ref b0), (1, .int a0), (2, .int v0)] := hl
  refine lv_aload_n hx hb d_Mm_move_0 rfl (lv_at hl 0 rfl) ?_
  refine lv_iconst (v := 0) hx hb d_Mm_move_1 (by decide) ?_
  refine ct_put hC hw 0 0 (ty := .int) (ws' := [(b0, .inr (4, [.int 0, .int z.2.1, .ref b1, .int z.2.2.1, .int z.2.2.2.1, .int z.2.2.2.2, .int t.2, .ref b2, .ref b3, .ref b4, .ref b5, .ref b6])), (b1, .inl (X.2.1, 8, .inl z.1)), (b2, .inl (X.2.1, 8, .inl t.1)), (b3, .inl (X.2.1, 256, .inl f.1)), (b4, .inl (X.2.2.1, 256, .inl f.2.1)), (b5, .inl (X.2.1, 256, .inl f.2.2.2.1)), (b6, .inl (X.2.1, 2048, .inl f.2.2.1))]) rfl rfl (by decide) k_225 rfl (by decide +kernel) rfl rfl (Nat.le_of_ble_eq_true rfl) rfl d_Mm_move_2 (fun H locs hw => ?_)
  refine lv_iload_n hx hb d_Mm_move_5 rfl (lv_at hl 1 rfl) ?_
  refine lv_if_lt (tgt := 15) hx hb d_Mm_move_6 (by decide) (fun c_6 => ?_) (fun c_6 => ?_)
  · refine lv_bipush (v := 18) hx hb d_Mm_move_15 (by decide) ?_
    exact ct_iret (F := wX X b0 b1 b2 b3 b4 b5 b6) (z := (z, f, t)) (sp := ((mv z a0 v0).1, ((mv z a0 v0).2, f, t))) hC hw (by simp [mv, c_6]) rfl d_Mm_move_17
  · refine lv_iload_n hx hb d_Mm_move_9 rfl (lv_at hl 1 rfl) ?_
    refine lv_bipush (v := 7) hx hb d_Mm_move_10 (by decide) ?_
    refine lv_icmp_le (tgt := 18) hx hb d_Mm_move_12 (by decide) (fun c_12 => ?_) (fun c_12 => ?_)
    · have n_12 : ¬ 8 ≤ a0 := i_leT (by decide) c_12
      refine lv_aload_n hx hb d_Mm_move_18 rfl (lv_at hl 0 rfl) ?_
      refine ct_get hC hw 0 1 rfl rfl (by decide) k_226 rfl d_Mm_move_19 ?_
      refine lv_if_ne (tgt := 28) hx hb d_Mm_move_22 (by decide) (fun c_22 => ?_) (fun c_22 => ?_)
      · refine lv_aload_n hx hb d_Mm_move_28 rfl (lv_at hl 0 rfl) ?_
        refine ct_get hC hw 0 2 rfl rfl (by decide) k_227 rfl d_Mm_move_29 ?_
        refine lv_iload_n hx hb d_Mm_move_32 rfl (lv_at hl 1 rfl) ?_
        refine lv_iload_n hx hb d_Mm_move_33 rfl (lv_at hl 2 rfl) ?_
        refine ct_iast hC hw 1 (ws' := [(b0, .inr (4, [.int 0, .int z.2.1, .ref b1, .int z.2.2.1, .int z.2.2.2.1, .int z.2.2.2.2, .int t.2, .ref b2, .ref b3, .ref b4, .ref b5, .ref b6])), (b1, .inl (X.2.1, 8, .inl (upd z.1 a0.toNatClampNeg v0))), (b2, .inl (X.2.1, 8, .inl t.1)), (b3, .inl (X.2.1, 256, .inl f.1)), (b4, .inl (X.2.2.1, 256, .inl f.2.1)), (b5, .inl (X.2.1, 256, .inl f.2.2.2.1)), (b6, .inl (X.2.1, 2048, .inl f.2.2.1))]) rfl (i_in (n := 8) rfl c_6 n_12) rfl d_Mm_move_34 (fun H locs hw => ?_)
        refine lv_iconst (v := 0) hx hb d_Mm_move_35 (by decide) ?_
        exact ct_iret (F := wX X b0 b1 b2 b3 b4 b5 b6) (z := ((upd z.1 a0.toNatClampNeg v0, z.2.1, z.2.2.1, z.2.2.2.1, z.2.2.2.2), f, t)) (sp := ((mv z a0 v0).1, ((mv z a0 v0).2, f, t))) hC hw (by simp [mv, c_6, c_12, n_12, c_22]) rfl d_Mm_move_36
      · refine lv_bipush (v := 19) hx hb d_Mm_move_25 (by decide) ?_
        exact ct_iret (F := wX X b0 b1 b2 b3 b4 b5 b6) (z := (z, f, t)) (sp := ((mv z a0 v0).1, ((mv z a0 v0).2, f, t))) hC hw (by simp [mv, c_6, c_12, n_12, c_22]) rfl d_Mm_move_27
    · have n_12 : 8 ≤ a0 := i_leF (by decide) c_12
      refine lv_bipush (v := 18) hx hb d_Mm_move_15 (by decide) ?_
      exact ct_iret (F := wX X b0 b1 b2 b3 b4 b5 b6) (z := (z, f, t)) (sp := ((mv z a0 v0).1, ((mv z a0 v0).2, f, t))) hC hw (by simp [mv, c_6, c_12, n_12]) rfl d_Mm_move_17
set_option maxHeartbeats 4000000 in
set_option maxRecDepth 100000 in
/-- enter -/
theorem c_Mm_enter (l : Launch) (X : GG) (b0 b1 b2 b3 b4 b5 b6 : Nat) (z : MS) (f : FS) (t : TS) (m0 : Int32) : Ct l y_Mm_enter b_Mm_enter 3 (some .int) ({ frames := 1, cells := 0, slots := 0, locals := 23 } : Room) X [.ref b0, .int m0] (wX X b0 b1 b2 b3 b4 b5 b6 (z, f, t)) (some (.int ((en z m0).1))) (fun _ : Unit => wX X b0 b1 b2 b3 b4 b5 b6 ((en z m0).2, f, t)) := by
  refine ct_enter (by decide) (Nat.le_of_ble_eq_true rfl) ?_
  intro p e s m args below meth c A ls hx hb hC hin hw hl
  have hC : Cx p s m args meth c "ModeKeeperModel" b_Mm_enter 3 (some .int) X := hC
  have hw : Wd X A s.heap [(b0, .inr (4, [.int 0, .int z.2.1, .ref b1, .int z.2.2.1, .int z.2.2.2.1, .int z.2.2.2.2, .int t.2, .ref b2, .ref b3, .ref b4, .ref b5, .ref b6])), (b1, .inl (X.2.1, 8, .inl z.1)), (b2, .inl (X.2.1, 8, .inl t.1)), (b3, .inl (X.2.1, 256, .inl f.1)), (b4, .inl (X.2.2.1, 256, .inl f.2.1)), (b5, .inl (X.2.1, 256, .inl f.2.2.2.1)), (b6, .inl (X.2.1, 2048, .inl f.2.2.1))] s.heap [] := hw
  have hl : lv_has ls 3 [(0, .ref b0), (1, .int m0)] := hl
  refine lv_aload_n hx hb d_Mm_enter_0 rfl (lv_at hl 0 rfl) ?_
  refine lv_iconst (v := 0) hx hb d_Mm_enter_1 (by decide) ?_
  refine ct_put hC hw 0 0 (ty := .int) (ws' := [(b0, .inr (4, [.int 0, .int z.2.1, .ref b1, .int z.2.2.1, .int z.2.2.2.1, .int z.2.2.2.2, .int t.2, .ref b2, .ref b3, .ref b4, .ref b5, .ref b6])), (b1, .inl (X.2.1, 8, .inl z.1)), (b2, .inl (X.2.1, 8, .inl t.1)), (b3, .inl (X.2.1, 256, .inl f.1)), (b4, .inl (X.2.2.1, 256, .inl f.2.1)), (b5, .inl (X.2.1, 256, .inl f.2.2.2.1)), (b6, .inl (X.2.1, 2048, .inl f.2.2.1))]) rfl rfl (by decide) k_225 rfl (by decide +kernel) rfl rfl (Nat.le_of_ble_eq_true rfl) rfl d_Mm_enter_2 (fun H locs hw => ?_)
  refine lv_iload_n hx hb d_Mm_enter_5 rfl (lv_at hl 1 rfl) ?_
  refine lv_if_lt (tgt := 14) hx hb d_Mm_enter_6 (by decide) (fun c_6 => ?_) (fun c_6 => ?_)
  · refine lv_bipush (v := 18) hx hb d_Mm_enter_14 (by decide) ?_
    exact ct_iret (F := wX X b0 b1 b2 b3 b4 b5 b6) (z := (z, f, t)) (sp := ((en z m0).1, ((en z m0).2, f, t))) hC hw (by simp [en, c_6]) rfl d_Mm_enter_16
  · refine lv_iload_n hx hb d_Mm_enter_9 rfl (lv_at hl 1 rfl) ?_
    refine lv_iconst (v := 2) hx hb d_Mm_enter_10 (by decide) ?_
    refine lv_icmp_le (tgt := 17) hx hb d_Mm_enter_11 (by decide) (fun c_11 => ?_) (fun c_11 => ?_)
    · have n_11 : ¬ 3 ≤ m0 := i_leT (by decide) c_11
      refine lv_aload_n hx hb d_Mm_enter_17 rfl (lv_at hl 0 rfl) ?_
      refine ct_get hC hw 0 1 rfl rfl (by decide) k_226 rfl d_Mm_enter_18 ?_
      refine lv_if_ne (tgt := 32) hx hb d_Mm_enter_21 (by decide) (fun c_21 => ?_) (fun c_21 => ?_)
      · refine lv_aload_n hx hb d_Mm_enter_32 rfl (lv_at hl 0 rfl) ?_
        refine lv_iload_n hx hb d_Mm_enter_33 rfl (lv_at hl 1 rfl) ?_
        refine ct_callV (rest := []) (As := [.int m0]) (n := 1) (wr := []) (W2 := fun _ : Unit => [(b0, .inr (4, [.int 0, .int ((bc z m0).2.1), .ref b1, .int ((bc z m0).2.2.1), .int ((bc z m0).2.2.2.1), .int ((bc z m0).2.2.2.2), .int t.2, .ref b2, .ref b3, .ref b4, .ref b5, .ref b6])), (b1, .inl (X.2.1, 8, .inl ((bc z m0).1))), (b2, .inl (X.2.1, 8, .inl t.1)), (b3, .inl (X.2.1, 256, .inl f.1)), (b4, .inl (X.2.2.1, 256, .inl f.2.1)), (b5, .inl (X.2.1, 256, .inl f.2.2.2.1)), (b6, .inl (X.2.1, 2048, .inl f.2.2.1))]) hC hw hl.1 (c_Mm_becomes l X b0 b1 b2 b3 b4 b5 b6 z f t m0) k_273 k_270 k_272 k_1 k_9 [0, 1, 2, 3, 4, 5, 6] [] [0, 1, 2, 3, 4, 5, 6] rfl rfl rfl rfl rfl rfl (by decide) rfl (fun _ => rfl) (by decide +kernel) ⟨by decide, by decide⟩ rfl (Nat.le_of_ble_eq_true rfl) ⟨by decide, by decide⟩ rfl d_Mm_enter_34 (fun u H locs hw => ?_)
        refine W.eq (g2 := F0 m 37 ls [.int (chg z.2.1 m0)]) rfl ?_
        refine lv_istore_n (lv' := [(2, .int (chg z.2.1 m0)), (0, .ref b0), (1, .int m0)]) hx hb d_Mm_enter_37 rfl hl (by decide) rfl (fun ls hl => ?_)
        refine lv_iconst (v := 0) hx hb d_Mm_enter_38 (by decide) ?_
        exact ct_iret (F := wX X b0 b1 b2 b3 b4 b5 b6) (z := ((bc z m0), f, t)) (sp := ((en z m0).1, ((en z m0).2, f, t))) hC hw (by simp [en, c_6, c_11, n_11, c_21]) rfl d_Mm_enter_39
      · refine lv_iload_n hx hb d_Mm_enter_24 rfl (lv_at hl 1 rfl) ?_
        refine lv_iconst (v := 2) hx hb d_Mm_enter_25 (by decide) ?_
        refine lv_icmp_ne (tgt := 32) hx hb d_Mm_enter_26 (by decide) (fun c_26 => ?_) (fun c_26 => ?_)
        · refine lv_aload_n hx hb d_Mm_enter_32 rfl (lv_at hl 0 rfl) ?_
          refine lv_iload_n hx hb d_Mm_enter_33 rfl (lv_at hl 1 rfl) ?_
          refine ct_callV (rest := []) (As := [.int m0]) (n := 1) (wr := []) (W2 := fun _ : Unit => [(b0, .inr (4, [.int 0, .int ((bc z m0).2.1), .ref b1, .int ((bc z m0).2.2.1), .int ((bc z m0).2.2.2.1), .int ((bc z m0).2.2.2.2), .int t.2, .ref b2, .ref b3, .ref b4, .ref b5, .ref b6])), (b1, .inl (X.2.1, 8, .inl ((bc z m0).1))), (b2, .inl (X.2.1, 8, .inl t.1)), (b3, .inl (X.2.1, 256, .inl f.1)), (b4, .inl (X.2.2.1, 256, .inl f.2.1)), (b5, .inl (X.2.1, 256, .inl f.2.2.2.1)), (b6, .inl (X.2.1, 2048, .inl f.2.2.1))]) hC hw hl.1 (c_Mm_becomes l X b0 b1 b2 b3 b4 b5 b6 z f t m0) k_273 k_270 k_272 k_1 k_9 [0, 1, 2, 3, 4, 5, 6] [] [0, 1, 2, 3, 4, 5, 6] rfl rfl rfl rfl rfl rfl (by decide) rfl (fun _ => rfl) (by decide +kernel) ⟨by decide, by decide⟩ rfl (Nat.le_of_ble_eq_true rfl) ⟨by decide, by decide⟩ rfl d_Mm_enter_34 (fun u H locs hw => ?_)
          refine W.eq (g2 := F0 m 37 ls [.int (chg z.2.1 m0)]) rfl ?_
          refine lv_istore_n (lv' := [(2, .int (chg z.2.1 m0)), (0, .ref b0), (1, .int m0)]) hx hb d_Mm_enter_37 rfl hl (by decide) rfl (fun ls hl => ?_)
          refine lv_iconst (v := 0) hx hb d_Mm_enter_38 (by decide) ?_
          exact ct_iret (F := wX X b0 b1 b2 b3 b4 b5 b6) (z := ((bc z m0), f, t)) (sp := ((en z m0).1, ((en z m0).2, f, t))) hC hw (by simp [en, c_6, c_11, n_11, c_21, c_26]) rfl d_Mm_enter_39
        · refine lv_bipush (v := 19) hx hb d_Mm_enter_29 (by decide) ?_
          exact ct_iret (F := wX X b0 b1 b2 b3 b4 b5 b6) (z := (z, f, t)) (sp := ((en z m0).1, ((en z m0).2, f, t))) hC hw (by simp [en, c_6, c_11, n_11, c_21, c_26]) rfl d_Mm_enter_31
    · have n_11 : 3 ≤ m0 := i_leF (by decide) c_11
      refine lv_bipush (v := 18) hx hb d_Mm_enter_14 (by decide) ?_
      exact ct_iret (F := wX X b0 b1 b2 b3 b4 b5 b6) (z := (z, f, t)) (sp := ((en z m0).1, ((en z m0).2, f, t))) hC hw (by simp [en, c_6, c_11, n_11]) rfl d_Mm_enter_16
set_option maxHeartbeats 4000000 in
set_option maxRecDepth 100000 in
/-- alarm -/
theorem c_Mm_alarm (l : Launch) (X : GG) (b0 b1 b2 b3 b4 b5 b6 : Nat) (z : MS) (f : FS) (t : TS) (tk : Int32) : Ct l y_Mm_alarm b_Mm_alarm 2 (some .boolean) ({ frames := 0, cells := 0, slots := 0, locals := 0 } : Room) X [.ref b0, .int tk] (wX X b0 b1 b2 b3 b4 b5 b6 (z, f, t)) (some (.int ((al z tk).1))) (fun _ : Unit => wX X b0 b1 b2 b3 b4 b5 b6 ((al z tk).2, f, t)) := by
  refine ct_enter (by decide) (Nat.le_of_ble_eq_true rfl) ?_
  intro p e s m args below meth c A ls hx hb hC hin hw hl
  have hC : Cx p s m args meth c "ModeKeeperModel" b_Mm_alarm 2 (some .boolean) X := hC
  have hw : Wd X A s.heap [(b0, .inr (4, [.int 0, .int z.2.1, .ref b1, .int z.2.2.1, .int z.2.2.2.1, .int z.2.2.2.2, .int t.2, .ref b2, .ref b3, .ref b4, .ref b5, .ref b6])), (b1, .inl (X.2.1, 8, .inl z.1)), (b2, .inl (X.2.1, 8, .inl t.1)), (b3, .inl (X.2.1, 256, .inl f.1)), (b4, .inl (X.2.2.1, 256, .inl f.2.1)), (b5, .inl (X.2.1, 256, .inl f.2.2.2.1)), (b6, .inl (X.2.1, 2048, .inl f.2.2.1))] s.heap [] := hw
  have hl : lv_has ls 2 [(0, .ref b0), (1, .int tk)] := hl
  refine lv_aload_n hx hb d_Mm_alarm_0 rfl (lv_at hl 0 rfl) ?_
  refine lv_iconst (v := 0) hx hb d_Mm_alarm_1 (by decide) ?_
  refine ct_put hC hw 0 0 (ty := .int) (ws' := [(b0, .inr (4, [.int 0, .int z.2.1, .ref b1, .int z.2.2.1, .int z.2.2.2.1, .int z.2.2.2.2, .int t.2, .ref b2, .ref b3, .ref b4, .ref b5, .ref b6])), (b1, .inl (X.2.1, 8, .inl z.1)), (b2, .inl (X.2.1, 8, .inl t.1)), (b3, .inl (X.2.1, 256, .inl f.1)), (b4, .inl (X.2.2.1, 256, .inl f.2.1)), (b5, .inl (X.2.1, 256, .inl f.2.2.2.1)), (b6, .inl (X.2.1, 2048, .inl f.2.2.1))]) rfl rfl (by decide) k_225 rfl (by decide +kernel) rfl rfl (Nat.le_of_ble_eq_true rfl) rfl d_Mm_alarm_2 (fun H locs hw => ?_)
  refine lv_aload_n hx hb d_Mm_alarm_5 rfl (lv_at hl 0 rfl) ?_
  refine ct_get hC hw 0 3 rfl rfl (by decide) k_228 rfl d_Mm_alarm_6 ?_
  refine lv_if_eq (tgt := 14) hx hb d_Mm_alarm_9 (by decide) (fun c_9 => ?_) (fun c_9 => ?_)
  · refine lv_aload_n hx hb d_Mm_alarm_14 rfl (lv_at hl 0 rfl) ?_
    refine lv_iconst (v := 1) hx hb d_Mm_alarm_15 (by decide) ?_
    refine ct_put hC hw 0 3 (ty := .boolean) (ws' := [(b0, .inr (4, [.int 0, .int z.2.1, .ref b1, .int 1, .int z.2.2.2.1, .int z.2.2.2.2, .int t.2, .ref b2, .ref b3, .ref b4, .ref b5, .ref b6])), (b1, .inl (X.2.1, 8, .inl z.1)), (b2, .inl (X.2.1, 8, .inl t.1)), (b3, .inl (X.2.1, 256, .inl f.1)), (b4, .inl (X.2.2.1, 256, .inl f.2.1)), (b5, .inl (X.2.1, 256, .inl f.2.2.2.1)), (b6, .inl (X.2.1, 2048, .inl f.2.2.1))]) rfl rfl (by decide) k_228 rfl (by decide +kernel) rfl rfl (Nat.le_of_ble_eq_true rfl) rfl d_Mm_alarm_16 (fun H locs hw => ?_)
    refine lv_aload_n hx hb d_Mm_alarm_19 rfl (lv_at hl 0 rfl) ?_
    refine lv_iload_n hx hb d_Mm_alarm_20 rfl (lv_at hl 1 rfl) ?_
    refine ct_put hC hw 0 4 (ty := .int) (ws' := [(b0, .inr (4, [.int 0, .int z.2.1, .ref b1, .int 1, .int tk, .int z.2.2.2.2, .int t.2, .ref b2, .ref b3, .ref b4, .ref b5, .ref b6])), (b1, .inl (X.2.1, 8, .inl z.1)), (b2, .inl (X.2.1, 8, .inl t.1)), (b3, .inl (X.2.1, 256, .inl f.1)), (b4, .inl (X.2.2.1, 256, .inl f.2.1)), (b5, .inl (X.2.1, 256, .inl f.2.2.2.1)), (b6, .inl (X.2.1, 2048, .inl f.2.2.1))]) rfl rfl (by decide) k_229 rfl (by decide +kernel) rfl rfl (Nat.le_of_ble_eq_true rfl) rfl d_Mm_alarm_21 (fun H locs hw => ?_)
    refine lv_iconst (v := 1) hx hb d_Mm_alarm_24 (by decide) ?_
    exact ct_zret (F := wX X b0 b1 b2 b3 b4 b5 b6) (z := ((z.1, z.2.1, 1, tk, z.2.2.2.2), f, t)) (sp := ((al z tk).1, ((al z tk).2, f, t))) hC hw (Or.inr rfl) (by simp [al, c_9]) rfl d_Mm_alarm_25
  · refine lv_iconst (v := 0) hx hb d_Mm_alarm_12 (by decide) ?_
    exact ct_zret (F := wX X b0 b1 b2 b3 b4 b5 b6) (z := (z, f, t)) (sp := ((al z tk).1, ((al z tk).2, f, t))) hC hw (Or.inl rfl) (by simp [al, c_9]) rfl d_Mm_alarm_13
set_option maxHeartbeats 4000000 in
set_option maxRecDepth 100000 in
/-- look -/
theorem c_Mm_look (l : Launch) (X : GG) (b0 b1 b2 b3 b4 b5 b6 : Nat) (z : MS) (f : FS) (t : TS) (tk : Int32) : Ct l y_Mm_look b_Mm_look 2 (some .boolean) ({ frames := 1, cells := 0, slots := 0, locals := 23 } : Room) X [.ref b0, .int tk] (wX X b0 b1 b2 b3 b4 b5 b6 (z, f, t)) (some (.int ((lk z tk).1))) (fun _ : Unit => wX X b0 b1 b2 b3 b4 b5 b6 ((lk z tk).2, f, t)) := by
  refine ct_enter (by decide) (Nat.le_of_ble_eq_true rfl) ?_
  intro p e s m args below meth c A ls hx hb hC hin hw hl
  have hC : Cx p s m args meth c "ModeKeeperModel" b_Mm_look 2 (some .boolean) X := hC
  have hw : Wd X A s.heap [(b0, .inr (4, [.int 0, .int z.2.1, .ref b1, .int z.2.2.1, .int z.2.2.2.1, .int z.2.2.2.2, .int t.2, .ref b2, .ref b3, .ref b4, .ref b5, .ref b6])), (b1, .inl (X.2.1, 8, .inl z.1)), (b2, .inl (X.2.1, 8, .inl t.1)), (b3, .inl (X.2.1, 256, .inl f.1)), (b4, .inl (X.2.2.1, 256, .inl f.2.1)), (b5, .inl (X.2.1, 256, .inl f.2.2.2.1)), (b6, .inl (X.2.1, 2048, .inl f.2.2.1))] s.heap [] := hw
  have hl : lv_has ls 2 [(0, .ref b0), (1, .int tk)] := hl
  refine lv_aload_n hx hb d_Mm_look_0 rfl (lv_at hl 0 rfl) ?_
  refine lv_iconst (v := 0) hx hb d_Mm_look_1 (by decide) ?_
  refine ct_put hC hw 0 0 (ty := .int) (ws' := [(b0, .inr (4, [.int 0, .int z.2.1, .ref b1, .int z.2.2.1, .int z.2.2.2.1, .int z.2.2.2.2, .int t.2, .ref b2, .ref b3, .ref b4, .ref b5, .ref b6])), (b1, .inl (X.2.1, 8, .inl z.1)), (b2, .inl (X.2.1, 8, .inl t.1)), (b3, .inl (X.2.1, 256, .inl f.1)), (b4, .inl (X.2.2.1, 256, .inl f.2.1)), (b5, .inl (X.2.1, 256, .inl f.2.2.2.1)), (b6, .inl (X.2.1, 2048, .inl f.2.2.1))]) rfl rfl (by decide) k_225 rfl (by decide +kernel) rfl rfl (Nat.le_of_ble_eq_true rfl) rfl d_Mm_look_2 (fun H locs hw => ?_)
  refine lv_aload_n hx hb d_Mm_look_5 rfl (lv_at hl 0 rfl) ?_
  refine ct_get hC hw 0 3 rfl rfl (by decide) k_228 rfl d_Mm_look_6 ?_
  refine lv_if_eq (tgt := 20) hx hb d_Mm_look_9 (by decide) (fun c_9 => ?_) (fun c_9 => ?_)
  · refine lv_iconst (v := 0) hx hb d_Mm_look_20 (by decide) ?_
    exact ct_zret (F := wX X b0 b1 b2 b3 b4 b5 b6) (z := (z, f, t)) (sp := ((lk z tk).1, ((lk z tk).2, f, t))) hC hw (Or.inl rfl) (by simp [lk, c_9]) rfl d_Mm_look_21
  · refine lv_aload_n hx hb d_Mm_look_12 rfl (lv_at hl 0 rfl) ?_
    refine ct_get hC hw 0 4 rfl rfl (by decide) k_229 rfl d_Mm_look_13 ?_
    refine lv_iload_n hx hb d_Mm_look_16 rfl (lv_at hl 1 rfl) ?_
    refine lv_icmp_le (tgt := 22) hx hb d_Mm_look_17 (by decide) (fun c_17 => ?_) (fun c_17 => ?_)
    · refine lv_aload_n hx hb d_Mm_look_22 rfl (lv_at hl 0 rfl) ?_
      refine lv_iconst (v := 0) hx hb d_Mm_look_23 (by decide) ?_
      refine ct_put hC hw 0 3 (ty := .boolean) (ws' := [(b0, .inr (4, [.int 0, .int z.2.1, .ref b1, .int 0, .int z.2.2.2.1, .int z.2.2.2.2, .int t.2, .ref b2, .ref b3, .ref b4, .ref b5, .ref b6])), (b1, .inl (X.2.1, 8, .inl z.1)), (b2, .inl (X.2.1, 8, .inl t.1)), (b3, .inl (X.2.1, 256, .inl f.1)), (b4, .inl (X.2.2.1, 256, .inl f.2.1)), (b5, .inl (X.2.1, 256, .inl f.2.2.2.1)), (b6, .inl (X.2.1, 2048, .inl f.2.2.1))]) rfl rfl (by decide) k_228 rfl (by decide +kernel) rfl rfl (Nat.le_of_ble_eq_true rfl) rfl d_Mm_look_24 (fun H locs hw => ?_)
      refine lv_aload_n hx hb d_Mm_look_27 rfl (lv_at hl 0 rfl) ?_
      refine lv_iconst (v := 0) hx hb d_Mm_look_28 (by decide) ?_
      refine ct_callV (rest := []) (As := [.int 0]) (n := 1) (wr := []) (W2 := fun _ : Unit => [(b0, .inr (4, [.int 0, .int ((bc (z.1, z.2.1, 0, z.2.2.2.1, z.2.2.2.2) 0).2.1), .ref b1, .int ((bc (z.1, z.2.1, 0, z.2.2.2.1, z.2.2.2.2) 0).2.2.1), .int ((bc (z.1, z.2.1, 0, z.2.2.2.1, z.2.2.2.2) 0).2.2.2.1), .int ((bc (z.1, z.2.1, 0, z.2.2.2.1, z.2.2.2.2) 0).2.2.2.2), .int t.2, .ref b2, .ref b3, .ref b4, .ref b5, .ref b6])), (b1, .inl (X.2.1, 8, .inl ((bc (z.1, z.2.1, 0, z.2.2.2.1, z.2.2.2.2) 0).1))), (b2, .inl (X.2.1, 8, .inl t.1)), (b3, .inl (X.2.1, 256, .inl f.1)), (b4, .inl (X.2.2.1, 256, .inl f.2.1)), (b5, .inl (X.2.1, 256, .inl f.2.2.2.1)), (b6, .inl (X.2.1, 2048, .inl f.2.2.1))]) hC hw hl.1 (c_Mm_becomes l X b0 b1 b2 b3 b4 b5 b6 (z.1, z.2.1, 0, z.2.2.2.1, z.2.2.2.2) f t 0) k_273 k_270 k_272 k_1 k_9 [0, 1, 2, 3, 4, 5, 6] [] [0, 1, 2, 3, 4, 5, 6] rfl rfl rfl rfl rfl rfl (by decide) rfl (fun _ => rfl) (by decide +kernel) ⟨by decide, by decide⟩ rfl (Nat.le_of_ble_eq_true rfl) ⟨by decide, by decide⟩ rfl d_Mm_look_29 (fun u H locs hw => ?_)
      refine W.eq (g2 := F0 m 32 ls [.int (chg z.2.1 0)]) rfl ?_
      exact ct_zret (F := wX X b0 b1 b2 b3 b4 b5 b6) (z := ((bc (z.1, z.2.1, 0, z.2.2.2.1, z.2.2.2.2) 0), f, t)) (sp := ((lk z tk).1, ((lk z tk).2, f, t))) hC hw (chg_01 _ _) (by unfold lk; rw [if_neg (fun q => q.elim c_9 (fun q => q c_17)), chg_0]) rfl d_Mm_look_32
    · refine lv_iconst (v := 0) hx hb d_Mm_look_20 (by decide) ?_
      exact ct_zret (F := wX X b0 b1 b2 b3 b4 b5 b6) (z := (z, f, t)) (sp := ((lk z tk).1, ((lk z tk).2, f, t))) hC hw (Or.inl rfl) (by simp [lk, c_9, c_17]) rfl d_Mm_look_21
set_option maxHeartbeats 4000000 in
set_option maxRecDepth 100000 in
/-- put -/
theorem c_Mm_put (l : Launch) (X : GG) (b0 b1 b2 b3 b4 b5 b6 : Nat) (z : MS) (f : FS) (t : TS) (x0 : Int32) (hI : Inv f t) : Ct l y_Mm_put b_Mm_put 2 (some .int) ({ frames := 0, cells := 0, slots := 0, locals := 0 } : Room) X [.ref b0, .int x0] (wX X b0 b1 b2 b3 b4 b5 b6 (z, f, t)) (some (.int ((pt t x0).1))) (fun _ : Unit => wX X b0 b1 b2 b3 b4 b5 b6 (z, f, (pt t x0).2)) := by
  refine ct_enter (by decide) (Nat.le_of_ble_eq_true rfl) ?_
  intro p e s m args below meth c A ls hx hb hC hin hw hl
  have hC : Cx p s m args meth c "ModeKeeperModel" b_Mm_put 2 (some .int) X := hC
  have hw : Wd X A s.heap [(b0, .inr (4, [.int 0, .int z.2.1, .ref b1, .int z.2.2.1, .int z.2.2.2.1, .int z.2.2.2.2, .int t.2, .ref b2, .ref b3, .ref b4, .ref b5, .ref b6])), (b1, .inl (X.2.1, 8, .inl z.1)), (b2, .inl (X.2.1, 8, .inl t.1)), (b3, .inl (X.2.1, 256, .inl f.1)), (b4, .inl (X.2.2.1, 256, .inl f.2.1)), (b5, .inl (X.2.1, 256, .inl f.2.2.2.1)), (b6, .inl (X.2.1, 2048, .inl f.2.2.1))] s.heap [] := hw
  have hl : lv_has ls 2 [(0, .ref b0), (1, .int x0)] := hl
  refine lv_aload_n hx hb d_Mm_put_0 rfl (lv_at hl 0 rfl) ?_
  refine lv_iconst (v := 0) hx hb d_Mm_put_1 (by decide) ?_
  refine ct_put hC hw 0 0 (ty := .int) (ws' := [(b0, .inr (4, [.int 0, .int z.2.1, .ref b1, .int z.2.2.1, .int z.2.2.2.1, .int z.2.2.2.2, .int t.2, .ref b2, .ref b3, .ref b4, .ref b5, .ref b6])), (b1, .inl (X.2.1, 8, .inl z.1)), (b2, .inl (X.2.1, 8, .inl t.1)), (b3, .inl (X.2.1, 256, .inl f.1)), (b4, .inl (X.2.2.1, 256, .inl f.2.1)), (b5, .inl (X.2.1, 256, .inl f.2.2.2.1)), (b6, .inl (X.2.1, 2048, .inl f.2.2.1))]) rfl rfl (by decide) k_225 rfl (by decide +kernel) rfl rfl (Nat.le_of_ble_eq_true rfl) rfl d_Mm_put_2 (fun H locs hw => ?_)
  refine lv_iload_n hx hb d_Mm_put_5 rfl (lv_at hl 1 rfl) ?_
  refine lv_if_lt (tgt := 24) hx hb d_Mm_put_6 (by decide) (fun c_6 => ?_) (fun c_6 => ?_)
  · refine lv_iconst (v := -1) hx hb d_Mm_put_24 (by decide) ?_
    exact ct_iret (F := wX X b0 b1 b2 b3 b4 b5 b6) (z := (z, f, t)) (sp := ((pt t x0).1, (z, f, (pt t x0).2))) hC hw (by simp [pt, c_6]) rfl d_Mm_put_25
  · refine lv_iload_n hx hb d_Mm_put_9 rfl (lv_at hl 1 rfl) ?_
    refine lv_bipush (v := 31) hx hb d_Mm_put_10 (by decide) ?_
    refine lv_icmp_gt (tgt := 24) hx hb d_Mm_put_12 (by decide) (fun c_12 => ?_) (fun c_12 => ?_)
    · have n_12 : 32 ≤ x0 := i_gtT (by decide) c_12
      refine lv_iconst (v := -1) hx hb d_Mm_put_24 (by decide) ?_
      exact ct_iret (F := wX X b0 b1 b2 b3 b4 b5 b6) (z := (z, f, t)) (sp := ((pt t x0).1, (z, f, (pt t x0).2))) hC hw (by simp [pt, c_6, c_12, n_12]) rfl d_Mm_put_25
    · have n_12 : ¬ 32 ≤ x0 := i_gtF (by decide) c_12
      refine lv_aload_n hx hb d_Mm_put_15 rfl (lv_at hl 0 rfl) ?_
      refine ct_get hC hw 0 6 rfl rfl (by decide) k_231 rfl d_Mm_put_16 ?_
      refine lv_bipush (v := 8) hx hb d_Mm_put_19 (by decide) ?_
      refine lv_icmp_ne (tgt := 26) hx hb d_Mm_put_21 (by decide) (fun c_21 => ?_) (fun c_21 => ?_)
      · refine lv_aload_n hx hb d_Mm_put_26 rfl (lv_at hl 0 rfl) ?_
        refine ct_get hC hw 0 7 rfl rfl (by decide) k_232 rfl d_Mm_put_27 ?_
        refine lv_aload_n hx hb d_Mm_put_30 rfl (lv_at hl 0 rfl) ?_
        refine ct_get hC hw 0 6 rfl rfl (by decide) k_231 rfl d_Mm_put_31 ?_
        refine lv_iload_n hx hb d_Mm_put_34 rfl (lv_at hl 1 rfl) ?_
        refine ct_iast hC hw 2 (ws' := [(b0, .inr (4, [.int 0, .int z.2.1, .ref b1, .int z.2.2.1, .int z.2.2.2.1, .int z.2.2.2.2, .int t.2, .ref b2, .ref b3, .ref b4, .ref b5, .ref b6])), (b1, .inl (X.2.1, 8, .inl z.1)), (b2, .inl (X.2.1, 8, .inl (upd t.1 t.2.toNatClampNeg x0))), (b3, .inl (X.2.1, 256, .inl f.1)), (b4, .inl (X.2.2.1, 256, .inl f.2.1)), (b5, .inl (X.2.1, 256, .inl f.2.2.2.1)), (b6, .inl (X.2.1, 2048, .inl f.2.2.1))]) rfl (size_in hI.1 c_21) rfl d_Mm_put_35 (fun H locs hw => ?_)
        refine lv_aload_n hx hb d_Mm_put_36 rfl (lv_at hl 0 rfl) ?_
        refine lv_dup hx hb d_Mm_put_37 rfl ?_
        refine ct_get hC hw 0 6 rfl rfl (by decide) k_231 rfl d_Mm_put_38 ?_
        refine lv_iconst (v := 1) hx hb d_Mm_put_41 (by decide) ?_
        refine lv_iadd hx hb d_Mm_put_42 ?_
        refine ct_put hC hw 0 6 (ty := .int) (ws' := [(b0, .inr (4, [.int 0, .int z.2.1, .ref b1, .int z.2.2.1, .int z.2.2.2.1, .int z.2.2.2.2, .int (t.2 + 1), .ref b2, .ref b3, .ref b4, .ref b5, .ref b6])), (b1, .inl (X.2.1, 8, .inl z.1)), (b2, .inl (X.2.1, 8, .inl (upd t.1 t.2.toNatClampNeg x0))), (b3, .inl (X.2.1, 256, .inl f.1)), (b4, .inl (X.2.2.1, 256, .inl f.2.1)), (b5, .inl (X.2.1, 256, .inl f.2.2.2.1)), (b6, .inl (X.2.1, 2048, .inl f.2.2.1))]) rfl rfl (by decide) k_231 rfl (by decide +kernel) rfl rfl (Nat.le_of_ble_eq_true rfl) rfl d_Mm_put_43 (fun H locs hw => ?_)
        refine lv_aload_n hx hb d_Mm_put_46 rfl (lv_at hl 0 rfl) ?_
        refine ct_get hC hw 0 6 rfl rfl (by decide) k_231 rfl d_Mm_put_47 ?_
        exact ct_iret (F := wX X b0 b1 b2 b3 b4 b5 b6) (z := (z, f, (upd t.1 t.2.toNatClampNeg x0, t.2 + 1))) (sp := ((pt t x0).1, (z, f, (pt t x0).2))) hC hw (by simp [pt, c_6, c_12, n_12, c_21]) rfl d_Mm_put_50
      · refine lv_iconst (v := -1) hx hb d_Mm_put_24 (by decide) ?_
        exact ct_iret (F := wX X b0 b1 b2 b3 b4 b5 b6) (z := (z, f, t)) (sp := ((pt t x0).1, (z, f, (pt t x0).2))) hC hw (by simp [pt, c_6, c_12, n_12, c_21]) rfl d_Mm_put_25
set_option maxHeartbeats 4000000 in
set_option maxRecDepth 100000 in
/-- remove -/
theorem c_Mm_remove (l : Launch) (X : GG) (b0 b1 b2 b3 b4 b5 b6 : Nat) (z : MS) (f : FS) (t : TS) (i0 : Int32) : Ct l y_Mm_remove b_Mm_remove 2 (some .int) ({ frames := 1, cells := 0, slots := 0, locals := 21 } : Room) X [.ref b0, .int i0] (wX X b0 b1 b2 b3 b4 b5 b6 (z, f, t)) (some (.int ((rv f i0).1))) (fun _ : Unit => wX X b0 b1 b2 b3 b4 b5 b6 (z, (rv f i0).2, t)) := by
  refine ct_enter (by decide) (Nat.le_of_ble_eq_true rfl) ?_
  intro p e s m args below meth c A ls hx hb hC hin hw hl
  have hC : Cx p s m args meth c "ModeKeeperModel" b_Mm_remove 2 (some .int) X := hC
  have hw : Wd X A s.heap [(b0, .inr (4, [.int 0, .int z.2.1, .ref b1, .int z.2.2.1, .int z.2.2.2.1, .int z.2.2.2.2, .int t.2, .ref b2, .ref b3, .ref b4, .ref b5, .ref b6])), (b1, .inl (X.2.1, 8, .inl z.1)), (b2, .inl (X.2.1, 8, .inl t.1)), (b3, .inl (X.2.1, 256, .inl f.1)), (b4, .inl (X.2.2.1, 256, .inl f.2.1)), (b5, .inl (X.2.1, 256, .inl f.2.2.2.1)), (b6, .inl (X.2.1, 2048, .inl f.2.2.1))] s.heap [] := hw
  have hl : lv_has ls 2 [(0, .ref b0), (1, .int i0)] := hl
  refine lv_aload_n hx hb d_Mm_remove_0 rfl (lv_at hl 0 rfl) ?_
  refine lv_iconst (v := 0) hx hb d_Mm_remove_1 (by decide) ?_
  refine ct_put hC hw 0 0 (ty := .int) (ws' := [(b0, .inr (4, [.int 0, .int z.2.1, .ref b1, .int z.2.2.1, .int z.2.2.2.1, .int z.2.2.2.2, .int t.2, .ref b2, .ref b3, .ref b4, .ref b5, .ref b6])), (b1, .inl (X.2.1, 8, .inl z.1)), (b2, .inl (X.2.1, 8, .inl t.1)), (b3, .inl (X.2.1, 256, .inl f.1)), (b4, .inl (X.2.2.1, 256, .inl f.2.1)), (b5, .inl (X.2.1, 256, .inl f.2.2.2.1)), (b6, .inl (X.2.1, 2048, .inl f.2.2.1))]) rfl rfl (by decide) k_225 rfl (by decide +kernel) rfl rfl (Nat.le_of_ble_eq_true rfl) rfl d_Mm_remove_2 (fun H locs hw => ?_)
  refine lv_aload_n hx hb d_Mm_remove_5 rfl (lv_at hl 0 rfl) ?_
  refine lv_iload_n hx hb d_Mm_remove_6 rfl (lv_at hl 1 rfl) ?_
  refine ct_callV (rest := []) (As := [.int i0]) (n := 1) (wr := []) (W2 := fun _ : Unit => [(b0, .inr (4, [.int 0, .int z.2.1, .ref b1, .int z.2.2.1, .int z.2.2.2.1, .int z.2.2.2.2, .int t.2, .ref b2, .ref b3, .ref b4, .ref b5, .ref b6])), (b1, .inl (X.2.1, 8, .inl z.1)), (b2, .inl (X.2.1, 8, .inl t.1)), (b3, .inl (X.2.1, 256, .inl f.1)), (b4, .inl (X.2.2.1, 256, .inl f.2.1)), (b5, .inl (X.2.1, 256, .inl f.2.2.2.1)), (b6, .inl (X.2.1, 2048, .inl f.2.2.1))]) hC hw hl.1 (c_Mm_isThere l X b0 b1 b2 b3 b4 b5 b6 z f t i0) k_301 k_298 k_300 k_3 k_9 [0, 1, 2, 3, 4, 5, 6] [] [0, 1, 2, 3, 4, 5, 6] rfl rfl rfl rfl rfl rfl (by decide) rfl (fun _ => rfl) (by decide +kernel) ⟨by decide, by decide⟩ rfl (Nat.le_of_ble_eq_true rfl) ⟨by decide, by decide⟩ rfl d_Mm_remove_7 (fun u H locs hw => ?_)
  refine W.eq (g2 := F0 m 10 ls [.int (isI f.1 i0)]) rfl ?_
  refine lv_if_ne (tgt := 16) hx hb d_Mm_remove_10 (by decide) (fun c_10 => ?_) (fun c_10 => ?_)
  · refine lv_aload_n hx hb d_Mm_remove_16 rfl (lv_at hl 0 rfl) ?_
    refine ct_get hC hw 0 9 rfl rfl (by decide) k_234 rfl d_Mm_remove_17 ?_
    refine lv_iload_n hx hb d_Mm_remove_20 rfl (lv_at hl 1 rfl) ?_
    refine ct_zald hC hw 4 rfl (i_in (n := 256) rfl (isI_ne c_10).1 (isI_ne c_10).2.1) d_Mm_remove_21 ?_
    refine lv_if_eq (tgt := 28) hx hb d_Mm_remove_22 (by decide) (fun c_22 => ?_) (fun c_22 => ?_)
    · refine lv_aload_n hx hb d_Mm_remove_28 rfl (lv_at hl 0 rfl) ?_
      refine ct_get hC hw 0 8 rfl rfl (by decide) k_233 rfl d_Mm_remove_29 ?_
      refine lv_iload_n hx hb d_Mm_remove_32 rfl (lv_at hl 1 rfl) ?_
      refine lv_iconst (v := 0) hx hb d_Mm_remove_33 (by decide) ?_
      refine ct_iast hC hw 3 (ws' := [(b0, .inr (4, [.int 0, .int z.2.1, .ref b1, .int z.2.2.1, .int z.2.2.2.1, .int z.2.2.2.2, .int t.2, .ref b2, .ref b3, .ref b4, .ref b5, .ref b6])), (b1, .inl (X.2.1, 8, .inl z.1)), (b2, .inl (X.2.1, 8, .inl t.1)), (b3, .inl (X.2.1, 256, .inl (upd f.1 i0.toNatClampNeg 0))), (b4, .inl (X.2.2.1, 256, .inl f.2.1)), (b5, .inl (X.2.1, 256, .inl f.2.2.2.1)), (b6, .inl (X.2.1, 2048, .inl f.2.2.1))]) rfl (i_in (n := 256) rfl (isI_ne c_10).1 (isI_ne c_10).2.1) rfl d_Mm_remove_34 (fun H locs hw => ?_)
      refine lv_iconst (v := 0) hx hb d_Mm_remove_35 (by decide) ?_
      exact ct_iret (F := wX X b0 b1 b2 b3 b4 b5 b6) (z := (z, (upd f.1 i0.toNatClampNeg 0, f.2.1, f.2.2.1, f.2.2.2.1, f.2.2.2.2 - 1), t)) (sp := ((rv f i0).1, (z, (rv f i0).2, t))) hC hw (by simp [rv, c_10, c_22]) rfl d_Mm_remove_36
    · refine lv_bipush (v := 15) hx hb d_Mm_remove_25 (by decide) ?_
      exact ct_iret (F := wX X b0 b1 b2 b3 b4 b5 b6) (z := (z, f, t)) (sp := ((rv f i0).1, (z, (rv f i0).2, t))) hC hw (by simp [rv, c_10, c_22]) rfl d_Mm_remove_27
  · refine lv_bipush (v := 14) hx hb d_Mm_remove_13 (by decide) ?_
    exact ct_iret (F := wX X b0 b1 b2 b3 b4 b5 b6) (z := (z, f, t)) (sp := ((rv f i0).1, (z, (rv f i0).2, t))) hC hw (by simp [rv, c_10]) rfl d_Mm_remove_15
set_option maxHeartbeats 4000000 in
set_option maxRecDepth 100000 in
/-- enable -/
theorem c_Mm_enable (l : Launch) (X : GG) (b0 b1 b2 b3 b4 b5 b6 : Nat) (z : MS) (f : FS) (t : TS) (i0 b0v : Int32) : Ct l y_Mm_enable b_Mm_enable 3 (some .int) ({ frames := 1, cells := 0, slots := 0, locals := 21 } : Room) X [.ref b0, .int i0, .int b0v] (wX X b0 b1 b2 b3 b4 b5 b6 (z, f, t)) (some (.int ((eb f i0 b0v).1))) (fun _ : Unit => wX X b0 b1 b2 b3 b4 b5 b6 (z, (eb f i0 b0v).2, t)) := by
  refine ct_enter (by decide) (Nat.le_of_ble_eq_true rfl) ?_
  intro p e s m args below meth c A ls hx hb hC hin hw hl
  have hC : Cx p s m args meth c "ModeKeeperModel" b_Mm_enable 3 (some .int) X := hC
  have hw : Wd X A s.heap [(b0, .inr (4, [.int 0, .int z.2.1, .ref b1, .int z.2.2.1, .int z.2.2.2.1, .int z.2.2.2.2, .int t.2, .ref b2, .ref b3, .ref b4, .ref b5, .ref b6])), (b1, .inl (X.2.1, 8, .inl z.1)), (b2, .inl (X.2.1, 8, .inl t.1)), (b3, .inl (X.2.1, 256, .inl f.1)), (b4, .inl (X.2.2.1, 256, .inl f.2.1)), (b5, .inl (X.2.1, 256, .inl f.2.2.2.1)), (b6, .inl (X.2.1, 2048, .inl f.2.2.1))] s.heap [] := hw
  have hl : lv_has ls 3 [(0, .ref b0), (1, .int i0), (2, .int b0v)] := hl
  refine lv_aload_n hx hb d_Mm_enable_0 rfl (lv_at hl 0 rfl) ?_
  refine lv_iconst (v := 0) hx hb d_Mm_enable_1 (by decide) ?_
  refine ct_put hC hw 0 0 (ty := .int) (ws' := [(b0, .inr (4, [.int 0, .int z.2.1, .ref b1, .int z.2.2.1, .int z.2.2.2.1, .int z.2.2.2.2, .int t.2, .ref b2, .ref b3, .ref b4, .ref b5, .ref b6])), (b1, .inl (X.2.1, 8, .inl z.1)), (b2, .inl (X.2.1, 8, .inl t.1)), (b3, .inl (X.2.1, 256, .inl f.1)), (b4, .inl (X.2.2.1, 256, .inl f.2.1)), (b5, .inl (X.2.1, 256, .inl f.2.2.2.1)), (b6, .inl (X.2.1, 2048, .inl f.2.2.1))]) rfl rfl (by decide) k_225 rfl (by decide +kernel) rfl rfl (Nat.le_of_ble_eq_true rfl) rfl d_Mm_enable_2 (fun H locs hw => ?_)
  refine lv_aload_n hx hb d_Mm_enable_5 rfl (lv_at hl 0 rfl) ?_
  refine lv_iload_n hx hb d_Mm_enable_6 rfl (lv_at hl 1 rfl) ?_
  refine ct_callV (rest := []) (As := [.int i0]) (n := 1) (wr := []) (W2 := fun _ : Unit => [(b0, .inr (4, [.int 0, .int z.2.1, .ref b1, .int z.2.2.1, .int z.2.2.2.1, .int z.2.2.2.2, .int t.2, .ref b2, .ref b3, .ref b4, .ref b5, .ref b6])), (b1, .inl (X.2.1, 8, .inl z.1)), (b2, .inl (X.2.1, 8, .inl t.1)), (b3, .inl (X.2.1, 256, .inl f.1)), (b4, .inl (X.2.2.1, 256, .inl f.2.1)), (b5, .inl (X.2.1, 256, .inl f.2.2.2.1)), (b6, .inl (X.2.1, 2048, .inl f.2.2.1))]) hC hw hl.1 (c_Mm_isThere l X b0 b1 b2 b3 b4 b5 b6 z f t i0) k_301 k_298 k_300 k_3 k_9 [0, 1, 2, 3, 4, 5, 6] [] [0, 1, 2, 3, 4, 5, 6] rfl rfl rfl rfl rfl rfl (by decide) rfl (fun _ => rfl) (by decide +kernel) ⟨by decide, by decide⟩ rfl (Nat.le_of_ble_eq_true rfl) ⟨by decide, by decide⟩ rfl d_Mm_enable_7 (fun u H locs hw => ?_)
  refine W.eq (g2 := F0 m 10 ls [.int (isI f.1 i0)]) rfl ?_
  refine lv_if_ne (tgt := 16) hx hb d_Mm_enable_10 (by decide) (fun c_10 => ?_) (fun c_10 => ?_)
  · refine lv_aload_n hx hb d_Mm_enable_16 rfl (lv_at hl 0 rfl) ?_
    refine ct_get hC hw 0 9 rfl rfl (by decide) k_234 rfl d_Mm_enable_17 ?_
    refine lv_iload_n hx hb d_Mm_enable_20 rfl (lv_at hl 1 rfl) ?_
    refine lv_iload_n hx hb d_Mm_enable_21 rfl (lv_at hl 2 rfl) ?_
    refine ct_zast hC hw 4 (ws' := [(b0, .inr (4, [.int 0, .int z.2.1, .ref b1, .int z.2.2.1, .int z.2.2.2.1, .int z.2.2.2.2, .int t.2, .ref b2, .ref b3, .ref b4, .ref b5, .ref b6])), (b1, .inl (X.2.1, 8, .inl z.1)), (b2, .inl (X.2.1, 8, .inl t.1)), (b3, .inl (X.2.1, 256, .inl f.1)), (b4, .inl (X.2.2.1, 256, .inl (upd f.2.1 i0.toNatClampNeg (vp_nar .boolean b0v)))), (b5, .inl (X.2.1, 256, .inl f.2.2.2.1)), (b6, .inl (X.2.1, 2048, .inl f.2.2.1))]) rfl (i_in (n := 256) rfl (isI_ne c_10).1 (isI_ne c_10).2.1) rfl d_Mm_enable_22 (fun H locs hw => ?_)
    refine lv_iconst (v := 0) hx hb d_Mm_enable_23 (by decide) ?_
    exact ct_iret (F := wX X b0 b1 b2 b3 b4 b5 b6) (z := (z, (f.1, upd f.2.1 i0.toNatClampNeg (vp_nar .boolean b0v), f.2.2.1, f.2.2.2.1, f.2.2.2.2), t)) (sp := ((eb f i0 b0v).1, (z, (eb f i0 b0v).2, t))) hC hw (by simp [eb, c_10]) rfl d_Mm_enable_24
  · refine lv_bipush (v := 14) hx hb d_Mm_enable_13 (by decide) ?_
    exact ct_iret (F := wX X b0 b1 b2 b3 b4 b5 b6) (z := (z, f, t)) (sp := ((eb f i0 b0v).1, (z, (eb f i0 b0v).2, t))) hC hw (by simp [eb, c_10]) rfl d_Mm_enable_15
set_option maxHeartbeats 4000000 in
set_option maxRecDepth 100000 in
/-- parameter -/
theorem c_Mm_parameter (l : Launch) (X : GG) (b0 b1 b2 b3 b4 b5 b6 : Nat) (z : MS) (f : FS) (t : TS) (i0 j0 : Int32) (hI : Inv f t) : Ct l y_Mm_parameter b_Mm_parameter 3 (some .int) ({ frames := 1, cells := 0, slots := 0, locals := 21 } : Room) X [.ref b0, .int i0, .int j0] (wX X b0 b1 b2 b3 b4 b5 b6 (z, f, t)) (some (.int (pr f i0 j0))) (fun _ : Unit => wX X b0 b1 b2 b3 b4 b5 b6 (z, f, t)) := by
  refine ct_enter (by decide) (Nat.le_of_ble_eq_true rfl) ?_
  intro p e s m args below meth c A ls hx hb hC hin hw hl
  have hC : Cx p s m args meth c "ModeKeeperModel" b_Mm_parameter 3 (some .int) X := hC
  have hw : Wd X A s.heap [(b0, .inr (4, [.int 0, .int z.2.1, .ref b1, .int z.2.2.1, .int z.2.2.2.1, .int z.2.2.2.2, .int t.2, .ref b2, .ref b3, .ref b4, .ref b5, .ref b6])), (b1, .inl (X.2.1, 8, .inl z.1)), (b2, .inl (X.2.1, 8, .inl t.1)), (b3, .inl (X.2.1, 256, .inl f.1)), (b4, .inl (X.2.2.1, 256, .inl f.2.1)), (b5, .inl (X.2.1, 256, .inl f.2.2.2.1)), (b6, .inl (X.2.1, 2048, .inl f.2.2.1))] s.heap [] := hw
  have hl : lv_has ls 3 [(0, .ref b0), (1, .int i0), (2, .int j0)] := hl
  refine lv_aload_n hx hb d_Mm_parameter_0 rfl (lv_at hl 0 rfl) ?_
  refine lv_iconst (v := 0) hx hb d_Mm_parameter_1 (by decide) ?_
  refine ct_put hC hw 0 0 (ty := .int) (ws' := [(b0, .inr (4, [.int 0, .int z.2.1, .ref b1, .int z.2.2.1, .int z.2.2.2.1, .int z.2.2.2.2, .int t.2, .ref b2, .ref b3, .ref b4, .ref b5, .ref b6])), (b1, .inl (X.2.1, 8, .inl z.1)), (b2, .inl (X.2.1, 8, .inl t.1)), (b3, .inl (X.2.1, 256, .inl f.1)), (b4, .inl (X.2.2.1, 256, .inl f.2.1)), (b5, .inl (X.2.1, 256, .inl f.2.2.2.1)), (b6, .inl (X.2.1, 2048, .inl f.2.2.1))]) rfl rfl (by decide) k_225 rfl (by decide +kernel) rfl rfl (Nat.le_of_ble_eq_true rfl) rfl d_Mm_parameter_2 (fun H locs hw => ?_)
  refine lv_aload_n hx hb d_Mm_parameter_5 rfl (lv_at hl 0 rfl) ?_
  refine lv_iload_n hx hb d_Mm_parameter_6 rfl (lv_at hl 1 rfl) ?_
  refine ct_callV (rest := []) (As := [.int i0]) (n := 1) (wr := []) (W2 := fun _ : Unit => [(b0, .inr (4, [.int 0, .int z.2.1, .ref b1, .int z.2.2.1, .int z.2.2.2.1, .int z.2.2.2.2, .int t.2, .ref b2, .ref b3, .ref b4, .ref b5, .ref b6])), (b1, .inl (X.2.1, 8, .inl z.1)), (b2, .inl (X.2.1, 8, .inl t.1)), (b3, .inl (X.2.1, 256, .inl f.1)), (b4, .inl (X.2.2.1, 256, .inl f.2.1)), (b5, .inl (X.2.1, 256, .inl f.2.2.2.1)), (b6, .inl (X.2.1, 2048, .inl f.2.2.1))]) hC hw hl.1 (c_Mm_isThere l X b0 b1 b2 b3 b4 b5 b6 z f t i0) k_301 k_298 k_300 k_3 k_9 [0, 1, 2, 3, 4, 5, 6] [] [0, 1, 2, 3, 4, 5, 6] rfl rfl rfl rfl rfl rfl (by decide) rfl (fun _ => rfl) (by decide +kernel) ⟨by decide, by decide⟩ rfl (Nat.le_of_ble_eq_true rfl) ⟨by decide, by decide⟩ rfl d_Mm_parameter_7 (fun u H locs hw => ?_)
  refine W.eq (g2 := F0 m 10 ls [.int (isI f.1 i0)]) rfl ?_
  refine lv_if_eq (tgt := 28) hx hb d_Mm_parameter_10 (by decide) (fun c_10 => ?_) (fun c_10 => ?_)
  · refine lv_iconst (v := -1) hx hb d_Mm_parameter_28 (by decide) ?_
    exact ct_iret (F := wX X b0 b1 b2 b3 b4 b5 b6) (z := (z, f, t)) (sp := (pr f i0 j0, (z, f, t))) hC hw (by simp [pr, c_10]) rfl d_Mm_parameter_29
  · refine lv_iload_n hx hb d_Mm_parameter_13 rfl (lv_at hl 2 rfl) ?_
    refine lv_iconst (v := -1) hx hb d_Mm_parameter_14 (by decide) ?_
    refine lv_icmp_lt (tgt := 28) hx hb d_Mm_parameter_15 (by decide) (fun c_15 => ?_) (fun c_15 => ?_)
    · have n_15 : ¬ (-1) ≤ j0 := Int32.not_le.mpr c_15
      refine lv_iconst (v := -1) hx hb d_Mm_parameter_28 (by decide) ?_
      exact ct_iret (F := wX X b0 b1 b2 b3 b4 b5 b6) (z := (z, f, t)) (sp := (pr f i0 j0, (z, f, t))) hC hw (by simp [pr, c_10, c_15, n_15]) rfl d_Mm_parameter_29
    · have n_15 : (-1) ≤ j0 := Int32.not_lt.mp c_15
      refine lv_iload_n hx hb d_Mm_parameter_18 rfl (lv_at hl 2 rfl) ?_
      refine lv_aload_n hx hb d_Mm_parameter_19 rfl (lv_at hl 0 rfl) ?_
      refine ct_get hC hw 0 10 rfl rfl (by decide) k_235 rfl d_Mm_parameter_20 ?_
      refine lv_iload_n hx hb d_Mm_parameter_23 rfl (lv_at hl 1 rfl) ?_
      refine ct_iald hC hw 5 rfl (i_in (n := 256) rfl (isI_ne c_10).1 (isI_ne c_10).2.1) d_Mm_parameter_24 ?_
      refine lv_icmp_lt (tgt := 30) hx hb d_Mm_parameter_25 (by decide) (fun c_25 => ?_) (fun c_25 => ?_)
      · have n_25 : ¬ (f.2.2.2.1 i0.toNatClampNeg) ≤ j0 := Int32.not_le.mpr c_25
        refine lv_iload_n hx hb d_Mm_parameter_30 rfl (lv_at hl 2 rfl) ?_
        refine lv_if_ge (tgt := 43) hx hb d_Mm_parameter_31 (by decide) (fun c_31 => ?_) (fun c_31 => ?_)
        · have n_31 : ¬ j0 < 0 := Int32.not_lt.mpr c_31
          refine lv_aload_n hx hb d_Mm_parameter_43 rfl (lv_at hl 0 rfl) ?_
          refine ct_get hC hw 0 11 rfl rfl (by decide) k_236 rfl d_Mm_parameter_44 ?_
          refine lv_bipush (v := 8) hx hb d_Mm_parameter_47 (by decide) ?_
          refine lv_iload_n hx hb d_Mm_parameter_49 rfl (lv_at hl 1 rfl) ?_
          refine lv_imul hx hb d_Mm_parameter_50 ?_
          refine lv_iload_n hx hb d_Mm_parameter_51 rfl (lv_at hl 2 rfl) ?_
          refine lv_iadd hx hb d_Mm_parameter_52 ?_
          refine ct_iald hC hw 6 rfl (par_in (isI_ne c_10).1 (isI_ne c_10).2.1 c_15 (nm1_of n_31) n_25 (hI.2.2.1 _)) d_Mm_parameter_53 ?_
          exact ct_iret (F := wX X b0 b1 b2 b3 b4 b5 b6) (z := (z, f, t)) (sp := (pr f i0 j0, (z, f, t))) hC hw (by unfold pr; rw [if_neg (fun q => q.elim c_10 (fun q => q.elim c_15 n_25)), if_neg (nm1_of n_31)]) rfl d_Mm_parameter_54
        · have n_31 : j0 < 0 := Int32.not_le.mp c_31
          refine lv_aload_n hx hb d_Mm_parameter_34 rfl (lv_at hl 0 rfl) ?_
          refine ct_get hC hw 0 10 rfl rfl (by decide) k_235 rfl d_Mm_parameter_35 ?_
          refine lv_iload_n hx hb d_Mm_parameter_38 rfl (lv_at hl 1 rfl) ?_
          refine ct_iald hC hw 5 rfl (i_in (n := 256) rfl (isI_ne c_10).1 (isI_ne c_10).2.1) d_Mm_parameter_39 ?_
          refine lv_goto (tgt := 54) hx hb d_Mm_parameter_40 (by decide) ?_
          exact ct_iret (F := wX X b0 b1 b2 b3 b4 b5 b6) (z := (z, f, t)) (sp := (pr f i0 j0, (z, f, t))) hC hw (by unfold pr; rw [if_neg (fun q => q.elim c_10 (fun q => q.elim c_15 n_25)), if_pos (m1_of c_15 n_31)]) rfl d_Mm_parameter_54
      · have n_25 : (f.2.2.2.1 i0.toNatClampNeg) ≤ j0 := Int32.not_lt.mp c_25
        refine lv_iconst (v := -1) hx hb d_Mm_parameter_28 (by decide) ?_
        exact ct_iret (F := wX X b0 b1 b2 b3 b4 b5 b6) (z := (z, f, t)) (sp := (pr f i0 j0, (z, f, t))) hC hw (by simp [pr, c_10, c_15, n_15, c_25, n_25]) rfl d_Mm_parameter_29
set_option maxHeartbeats 4000000 in
set_option maxRecDepth 100000 in
/-- value -/
theorem c_Mm_value (l : Launch) (X : GG) (b0 b1 b2 b3 b4 b5 b6 : Nat) (z : MS) (f : FS) (t : TS) (w0 : Int32) (hI : Inv f t) : Ct l y_Mm_value b_Mm_value 2 (some .int) ({ frames := 1, cells := 0, slots := 0, locals := 22 } : Room) X [.ref b0, .int w0] (wX X b0 b1 b2 b3 b4 b5 b6 (z, f, t)) (some (.int (vl z f w0))) (fun _ : Unit => wX X b0 b1 b2 b3 b4 b5 b6 (z, f, t)) := by
  refine ct_enter (by decide) (Nat.le_of_ble_eq_true rfl) ?_
  intro p e s m args below meth c A ls hx hb hC hin hw hl
  have hC : Cx p s m args meth c "ModeKeeperModel" b_Mm_value 2 (some .int) X := hC
  have hw : Wd X A s.heap [(b0, .inr (4, [.int 0, .int z.2.1, .ref b1, .int z.2.2.1, .int z.2.2.2.1, .int z.2.2.2.2, .int t.2, .ref b2, .ref b3, .ref b4, .ref b5, .ref b6])), (b1, .inl (X.2.1, 8, .inl z.1)), (b2, .inl (X.2.1, 8, .inl t.1)), (b3, .inl (X.2.1, 256, .inl f.1)), (b4, .inl (X.2.2.1, 256, .inl f.2.1)), (b5, .inl (X.2.1, 256, .inl f.2.2.2.1)), (b6, .inl (X.2.1, 2048, .inl f.2.2.1))] s.heap [] := hw
  have hl : lv_has ls 2 [(0, .ref b0), (1, .int w0)] := hl
  refine lv_aload_n hx hb d_Mm_value_0 rfl (lv_at hl 0 rfl) ?_
  refine lv_iconst (v := 0) hx hb d_Mm_value_1 (by decide) ?_
  refine ct_put hC hw 0 0 (ty := .int) (ws' := [(b0, .inr (4, [.int 0, .int z.2.1, .ref b1, .int z.2.2.1, .int z.2.2.2.1, .int z.2.2.2.2, .int t.2, .ref b2, .ref b3, .ref b4, .ref b5, .ref b6])), (b1, .inl (X.2.1, 8, .inl z.1)), (b2, .inl (X.2.1, 8, .inl t.1)), (b3, .inl (X.2.1, 256, .inl f.1)), (b4, .inl (X.2.2.1, 256, .inl f.2.1)), (b5, .inl (X.2.1, 256, .inl f.2.2.2.1)), (b6, .inl (X.2.1, 2048, .inl f.2.2.1))]) rfl rfl (by decide) k_225 rfl (by decide +kernel) rfl rfl (Nat.le_of_ble_eq_true rfl) rfl d_Mm_value_2 (fun H locs hw => ?_)
  refine lv_iload_n hx hb d_Mm_value_5 rfl (lv_at hl 1 rfl) ?_
  refine lv_if_lt (tgt := 22) hx hb d_Mm_value_6 (by decide) (fun c_6 => ?_) (fun c_6 => ?_)
  · refine lv_iload_n hx hb d_Mm_value_22 rfl (lv_at hl 1 rfl) ?_
    refine lv_bipush (v := 8) hx hb d_Mm_value_23 (by decide) ?_
    refine lv_icmp_ne (tgt := 35) hx hb d_Mm_value_25 (by decide) (fun c_25 => ?_) (fun c_25 => ?_)
    · refine lv_iload_n hx hb d_Mm_value_35 rfl (lv_at hl 1 rfl) ?_
      refine lv_bipush (v := 9) hx hb d_Mm_value_36 (by decide) ?_
      refine lv_icmp_ne (tgt := 59) hx hb d_Mm_value_38 (by decide) (fun c_38 => ?_) (fun c_38 => ?_)
      · refine lv_iload_n hx hb d_Mm_value_59 rfl (lv_at hl 1 rfl) ?_
        refine lv_bipush (v := 10) hx hb d_Mm_value_60 (by decide) ?_
        refine lv_icmp_ne (tgt := 72) hx hb d_Mm_value_62 (by decide) (fun c_62 => ?_) (fun c_62 => ?_)
        · refine lv_iload_n hx hb d_Mm_value_72 rfl (lv_at hl 1 rfl) ?_
          refine lv_bipush (v := 11) hx hb d_Mm_value_73 (by decide) ?_
          refine lv_icmp_ne (tgt := 85) hx hb d_Mm_value_75 (by decide) (fun c_75 => ?_) (fun c_75 => ?_)
          · refine lv_iconst (v := 0) hx hb d_Mm_value_85 (by decide) ?_
            exact ct_iret (F := wX X b0 b1 b2 b3 b4 b5 b6) (z := (z, f, t)) (sp := (vl z f w0, (z, f, t))) hC hw (by simp [vl, hI.2.2.2.2, c_6, c_25, c_38, c_62, c_75]) rfl d_Mm_value_86
          · refine lv_aload_n hx hb d_Mm_value_78 rfl (lv_at hl 0 rfl) ?_
            refine ct_callV (rest := []) (As := []) (n := 0) (wr := []) (W2 := fun _ : Unit => [(b0, .inr (4, [.int 0, .int z.2.1, .ref b1, .int z.2.2.1, .int z.2.2.2.1, .int z.2.2.2.2, .int t.2, .ref b2, .ref b3, .ref b4, .ref b5, .ref b6])), (b1, .inl (X.2.1, 8, .inl z.1)), (b2, .inl (X.2.1, 8, .inl t.1)), (b3, .inl (X.2.1, 256, .inl f.1)), (b4, .inl (X.2.2.1, 256, .inl f.2.1)), (b5, .inl (X.2.1, 256, .inl f.2.2.2.1)), (b6, .inl (X.2.1, 2048, .inl f.2.2.1))]) hC hw hl.1 (c_Mm_forms l X b0 b1 b2 b3 b4 b5 b6 z f t ) k_293 k_290 k_292 k_2 k_9 [0, 1, 2, 3, 4, 5, 6] [] [0, 1, 2, 3, 4, 5, 6] rfl rfl rfl rfl rfl rfl (by decide) rfl (fun _ => rfl) (by decide +kernel) ⟨by decide, by decide⟩ rfl (Nat.le_of_ble_eq_true rfl) ⟨by decide, by decide⟩ rfl d_Mm_value_79 (fun u H locs hw => ?_)
            refine W.eq (g2 := F0 m 82 ls [.int (nI (cnt f.1 256))]) rfl ?_
            refine lv_goto (tgt := 86) hx hb d_Mm_value_82 (by decide) ?_
            exact ct_iret (F := wX X b0 b1 b2 b3 b4 b5 b6) (z := (z, f, t)) (sp := (vl z f w0, (z, f, t))) hC hw (by simp [vl, hI.2.2.2.2, c_6, c_25, c_38, c_62, c_75]) rfl d_Mm_value_86
        · refine lv_aload_n hx hb d_Mm_value_65 rfl (lv_at hl 0 rfl) ?_
          refine ct_get hC hw 0 5 rfl rfl (by decide) k_230 rfl d_Mm_value_66 ?_
          refine lv_goto (tgt := 86) hx hb d_Mm_value_69 (by decide) ?_
          exact ct_iret (F := wX X b0 b1 b2 b3 b4 b5 b6) (z := (z, f, t)) (sp := (vl z f w0, (z, f, t))) hC hw (by simp [vl, hI.2.2.2.2, c_6, c_25, c_38, c_62]) rfl d_Mm_value_86
      · refine lv_aload_n hx hb d_Mm_value_41 rfl (lv_at hl 0 rfl) ?_
        refine ct_get hC hw 0 3 rfl rfl (by decide) k_228 rfl d_Mm_value_42 ?_
        refine lv_if_eq (tgt := 55) hx hb d_Mm_value_45 (by decide) (fun c_45 => ?_) (fun c_45 => ?_)
        · refine lv_iconst (v := -1) hx hb d_Mm_value_55 (by decide) ?_
          refine lv_goto (tgt := 86) hx hb d_Mm_value_56 (by decide) ?_
          exact ct_iret (F := wX X b0 b1 b2 b3 b4 b5 b6) (z := (z, f, t)) (sp := (vl z f w0, (z, f, t))) hC hw (by simp [vl, hI.2.2.2.2, c_6, c_25, c_38, c_45]) rfl d_Mm_value_86
        · refine lv_aload_n hx hb d_Mm_value_48 rfl (lv_at hl 0 rfl) ?_
          refine ct_get hC hw 0 4 rfl rfl (by decide) k_229 rfl d_Mm_value_49 ?_
          refine lv_goto (tgt := 86) hx hb d_Mm_value_52 (by decide) ?_
          exact ct_iret (F := wX X b0 b1 b2 b3 b4 b5 b6) (z := (z, f, t)) (sp := (vl z f w0, (z, f, t))) hC hw (by simp [vl, hI.2.2.2.2, c_6, c_25, c_38, c_45]) rfl d_Mm_value_86
    · refine lv_aload_n hx hb d_Mm_value_28 rfl (lv_at hl 0 rfl) ?_
      refine ct_get hC hw 0 1 rfl rfl (by decide) k_226 rfl d_Mm_value_29 ?_
      refine lv_goto (tgt := 86) hx hb d_Mm_value_32 (by decide) ?_
      exact ct_iret (F := wX X b0 b1 b2 b3 b4 b5 b6) (z := (z, f, t)) (sp := (vl z f w0, (z, f, t))) hC hw (by simp [vl, hI.2.2.2.2, c_6, c_25]) rfl d_Mm_value_86
  · refine lv_iload_n hx hb d_Mm_value_9 rfl (lv_at hl 1 rfl) ?_
    refine lv_bipush (v := 8) hx hb d_Mm_value_10 (by decide) ?_
    refine lv_icmp_ge (tgt := 22) hx hb d_Mm_value_12 (by decide) (fun c_12 => ?_) (fun c_12 => ?_)
    · refine lv_iload_n hx hb d_Mm_value_22 rfl (lv_at hl 1 rfl) ?_
      refine lv_bipush (v := 8) hx hb d_Mm_value_23 (by decide) ?_
      refine lv_icmp_ne (tgt := 35) hx hb d_Mm_value_25 (by decide) (fun c_25 => ?_) (fun c_25 => ?_)
      · refine lv_iload_n hx hb d_Mm_value_35 rfl (lv_at hl 1 rfl) ?_
        refine lv_bipush (v := 9) hx hb d_Mm_value_36 (by decide) ?_
        refine lv_icmp_ne (tgt := 59) hx hb d_Mm_value_38 (by decide) (fun c_38 => ?_) (fun c_38 => ?_)
        · refine lv_iload_n hx hb d_Mm_value_59 rfl (lv_at hl 1 rfl) ?_
          refine lv_bipush (v := 10) hx hb d_Mm_value_60 (by decide) ?_
          refine lv_icmp_ne (tgt := 72) hx hb d_Mm_value_62 (by decide) (fun c_62 => ?_) (fun c_62 => ?_)
          · refine lv_iload_n hx hb d_Mm_value_72 rfl (lv_at hl 1 rfl) ?_
            refine lv_bipush (v := 11) hx hb d_Mm_value_73 (by decide) ?_
            refine lv_icmp_ne (tgt := 85) hx hb d_Mm_value_75 (by decide) (fun c_75 => ?_) (fun c_75 => ?_)
            · refine lv_iconst (v := 0) hx hb d_Mm_value_85 (by decide) ?_
              exact ct_iret (F := wX X b0 b1 b2 b3 b4 b5 b6) (z := (z, f, t)) (sp := (vl z f w0, (z, f, t))) hC hw (by simp [vl, hI.2.2.2.2, c_6, c_12, c_25, c_38, c_62, c_75]) rfl d_Mm_value_86
            · refine lv_aload_n hx hb d_Mm_value_78 rfl (lv_at hl 0 rfl) ?_
              refine ct_callV (rest := []) (As := []) (n := 0) (wr := []) (W2 := fun _ : Unit => [(b0, .inr (4, [.int 0, .int z.2.1, .ref b1, .int z.2.2.1, .int z.2.2.2.1, .int z.2.2.2.2, .int t.2, .ref b2, .ref b3, .ref b4, .ref b5, .ref b6])), (b1, .inl (X.2.1, 8, .inl z.1)), (b2, .inl (X.2.1, 8, .inl t.1)), (b3, .inl (X.2.1, 256, .inl f.1)), (b4, .inl (X.2.2.1, 256, .inl f.2.1)), (b5, .inl (X.2.1, 256, .inl f.2.2.2.1)), (b6, .inl (X.2.1, 2048, .inl f.2.2.1))]) hC hw hl.1 (c_Mm_forms l X b0 b1 b2 b3 b4 b5 b6 z f t ) k_293 k_290 k_292 k_2 k_9 [0, 1, 2, 3, 4, 5, 6] [] [0, 1, 2, 3, 4, 5, 6] rfl rfl rfl rfl rfl rfl (by decide) rfl (fun _ => rfl) (by decide +kernel) ⟨by decide, by decide⟩ rfl (Nat.le_of_ble_eq_true rfl) ⟨by decide, by decide⟩ rfl d_Mm_value_79 (fun u H locs hw => ?_)
              refine W.eq (g2 := F0 m 82 ls [.int (nI (cnt f.1 256))]) rfl ?_
              refine lv_goto (tgt := 86) hx hb d_Mm_value_82 (by decide) ?_
              exact ct_iret (F := wX X b0 b1 b2 b3 b4 b5 b6) (z := (z, f, t)) (sp := (vl z f w0, (z, f, t))) hC hw (by simp [vl, hI.2.2.2.2, c_6, c_12, c_25, c_38, c_62, c_75]) rfl d_Mm_value_86
          · refine lv_aload_n hx hb d_Mm_value_65 rfl (lv_at hl 0 rfl) ?_
            refine ct_get hC hw 0 5 rfl rfl (by decide) k_230 rfl d_Mm_value_66 ?_
            refine lv_goto (tgt := 86) hx hb d_Mm_value_69 (by decide) ?_
            exact ct_iret (F := wX X b0 b1 b2 b3 b4 b5 b6) (z := (z, f, t)) (sp := (vl z f w0, (z, f, t))) hC hw (by simp [vl, hI.2.2.2.2, c_6, c_12, c_25, c_38, c_62]) rfl d_Mm_value_86
        · refine lv_aload_n hx hb d_Mm_value_41 rfl (lv_at hl 0 rfl) ?_
          refine ct_get hC hw 0 3 rfl rfl (by decide) k_228 rfl d_Mm_value_42 ?_
          refine lv_if_eq (tgt := 55) hx hb d_Mm_value_45 (by decide) (fun c_45 => ?_) (fun c_45 => ?_)
          · refine lv_iconst (v := -1) hx hb d_Mm_value_55 (by decide) ?_
            refine lv_goto (tgt := 86) hx hb d_Mm_value_56 (by decide) ?_
            exact ct_iret (F := wX X b0 b1 b2 b3 b4 b5 b6) (z := (z, f, t)) (sp := (vl z f w0, (z, f, t))) hC hw (by simp [vl, hI.2.2.2.2, c_6, c_12, c_25, c_38, c_45]) rfl d_Mm_value_86
          · refine lv_aload_n hx hb d_Mm_value_48 rfl (lv_at hl 0 rfl) ?_
            refine ct_get hC hw 0 4 rfl rfl (by decide) k_229 rfl d_Mm_value_49 ?_
            refine lv_goto (tgt := 86) hx hb d_Mm_value_52 (by decide) ?_
            exact ct_iret (F := wX X b0 b1 b2 b3 b4 b5 b6) (z := (z, f, t)) (sp := (vl z f w0, (z, f, t))) hC hw (by simp [vl, hI.2.2.2.2, c_6, c_12, c_25, c_38, c_45]) rfl d_Mm_value_86
      · refine lv_aload_n hx hb d_Mm_value_28 rfl (lv_at hl 0 rfl) ?_
        refine ct_get hC hw 0 1 rfl rfl (by decide) k_226 rfl d_Mm_value_29 ?_
        refine lv_goto (tgt := 86) hx hb d_Mm_value_32 (by decide) ?_
        exact ct_iret (F := wX X b0 b1 b2 b3 b4 b5 b6) (z := (z, f, t)) (sp := (vl z f w0, (z, f, t))) hC hw (by simp [vl, hI.2.2.2.2, c_6, c_12, c_25]) rfl d_Mm_value_86
    · refine lv_aload_n hx hb d_Mm_value_15 rfl (lv_at hl 0 rfl) ?_
      refine ct_get hC hw 0 2 rfl rfl (by decide) k_227 rfl d_Mm_value_16 ?_
      refine lv_iload_n hx hb d_Mm_value_19 rfl (lv_at hl 1 rfl) ?_
      refine ct_iald hC hw 1 rfl (i_in (n := 8) rfl c_6 c_12) d_Mm_value_20 ?_
      exact ct_iret (F := wX X b0 b1 b2 b3 b4 b5 b6) (z := (z, f, t)) (sp := (vl z f w0, (z, f, t))) hC hw (by simp [vl, hI.2.2.2.2, c_6, c_12]) rfl d_Mm_value_21
set_option maxHeartbeats 4000000 in
set_option maxRecDepth 100000 in
/-- about -/
theorem c_Mm_about (l : Launch) (X : GG) (b0 b1 b2 b3 b4 b5 b6 : Nat) (z : MS) (f : FS) (t : TS) (i0 w0 : Int32) : Ct l y_Mm_about b_Mm_about 3 (some .int) ({ frames := 1, cells := 0, slots := 0, locals := 21 } : Room) X [.ref b0, .int i0, .int w0] (wX X b0 b1 b2 b3 b4 b5 b6 (z, f, t)) (some (.int (ab f i0 w0))) (fun _ : Unit => wX X b0 b1 b2 b3 b4 b5 b6 (z, f, t)) := by
  refine ct_enter (by decide) (Nat.le_of_ble_eq_true rfl) ?_
  intro p e s m args below meth c A ls hx hb hC hin hw hl
  have hC : Cx p s m args meth c "ModeKeeperModel" b_Mm_about 3 (some .int) X := hC
  have hw : Wd X A s.heap [(b0, .inr (4, [.int 0, .int z.2.1, .ref b1, .int z.2.2.1, .int z.2.2.2.1, .int z.2.2.2.2, .int t.2, .ref b2, .ref b3, .ref b4, .ref b5, .ref b6])), (b1, .inl (X.2.1, 8, .inl z.1)), (b2, .inl (X.2.1, 8, .inl t.1)), (b3, .inl (X.2.1, 256, .inl f.1)), (b4, .inl (X.2.2.1, 256, .inl f.2.1)), (b5, .inl (X.2.1, 256, .inl f.2.2.2.1)), (b6, .inl (X.2.1, 2048, .inl f.2.2.1))] s.heap [] := hw
  have hl : lv_has ls 3 [(0, .ref b0), (1, .int i0), (2, .int w0)] := hl
  refine lv_aload_n hx hb d_Mm_about_0 rfl (lv_at hl 0 rfl) ?_
  refine lv_iconst (v := 0) hx hb d_Mm_about_1 (by decide) ?_
  refine ct_put hC hw 0 0 (ty := .int) (ws' := [(b0, .inr (4, [.int 0, .int z.2.1, .ref b1, .int z.2.2.1, .int z.2.2.2.1, .int z.2.2.2.2, .int t.2, .ref b2, .ref b3, .ref b4, .ref b5, .ref b6])), (b1, .inl (X.2.1, 8, .inl z.1)), (b2, .inl (X.2.1, 8, .inl t.1)), (b3, .inl (X.2.1, 256, .inl f.1)), (b4, .inl (X.2.2.1, 256, .inl f.2.1)), (b5, .inl (X.2.1, 256, .inl f.2.2.2.1)), (b6, .inl (X.2.1, 2048, .inl f.2.2.1))]) rfl rfl (by decide) k_225 rfl (by decide +kernel) rfl rfl (Nat.le_of_ble_eq_true rfl) rfl d_Mm_about_2 (fun H locs hw => ?_)
  refine lv_aload_n hx hb d_Mm_about_5 rfl (lv_at hl 0 rfl) ?_
  refine lv_iload_n hx hb d_Mm_about_6 rfl (lv_at hl 1 rfl) ?_
  refine ct_callV (rest := []) (As := [.int i0]) (n := 1) (wr := []) (W2 := fun _ : Unit => [(b0, .inr (4, [.int 0, .int z.2.1, .ref b1, .int z.2.2.1, .int z.2.2.2.1, .int z.2.2.2.2, .int t.2, .ref b2, .ref b3, .ref b4, .ref b5, .ref b6])), (b1, .inl (X.2.1, 8, .inl z.1)), (b2, .inl (X.2.1, 8, .inl t.1)), (b3, .inl (X.2.1, 256, .inl f.1)), (b4, .inl (X.2.2.1, 256, .inl f.2.1)), (b5, .inl (X.2.1, 256, .inl f.2.2.2.1)), (b6, .inl (X.2.1, 2048, .inl f.2.2.1))]) hC hw hl.1 (c_Mm_isThere l X b0 b1 b2 b3 b4 b5 b6 z f t i0) k_301 k_298 k_300 k_3 k_9 [0, 1, 2, 3, 4, 5, 6] [] [0, 1, 2, 3, 4, 5, 6] rfl rfl rfl rfl rfl rfl (by decide) rfl (fun _ => rfl) (by decide +kernel) ⟨by decide, by decide⟩ rfl (Nat.le_of_ble_eq_true rfl) ⟨by decide, by decide⟩ rfl d_Mm_about_7 (fun u H locs hw => ?_)
  refine W.eq (g2 := F0 m 10 ls [.int (isI f.1 i0)]) rfl ?_
  refine lv_if_ne (tgt := 17) hx hb d_Mm_about_10 (by decide) (fun c_10 => ?_) (fun c_10 => ?_)
  · refine lv_iload_n hx hb d_Mm_about_17 rfl (lv_at hl 2 rfl) ?_
    refine lv_if_ne (tgt := 30) hx hb d_Mm_about_18 (by decide) (fun c_18 => ?_) (fun c_18 => ?_)
    · refine lv_iload_n hx hb d_Mm_about_30 rfl (lv_at hl 2 rfl) ?_
      refine lv_iconst (v := 1) hx hb d_Mm_about_31 (by decide) ?_
      refine lv_icmp_ne (tgt := 52) hx hb d_Mm_about_32 (by decide) (fun c_32 => ?_) (fun c_32 => ?_)
      · refine lv_iconst (v := -1) hx hb d_Mm_about_52 (by decide) ?_
        exact ct_iret (F := wX X b0 b1 b2 b3 b4 b5 b6) (z := (z, f, t)) (sp := (ab f i0 w0, (z, f, t))) hC hw (by simp [ab, c_10, c_18, c_32]) rfl d_Mm_about_53
      · refine lv_aload_n hx hb d_Mm_about_35 rfl (lv_at hl 0 rfl) ?_
        refine ct_get hC hw 0 9 rfl rfl (by decide) k_234 rfl d_Mm_about_36 ?_
        refine lv_iload_n hx hb d_Mm_about_39 rfl (lv_at hl 1 rfl) ?_
        refine ct_zald hC hw 4 rfl (i_in (n := 256) rfl (isI_ne c_10).1 (isI_ne c_10).2.1) d_Mm_about_40 ?_
        refine lv_if_eq (tgt := 48) hx hb d_Mm_about_41 (by decide) (fun c_41 => ?_) (fun c_41 => ?_)
        · refine lv_iconst (v := 0) hx hb d_Mm_about_48 (by decide) ?_
          refine lv_goto (tgt := 53) hx hb d_Mm_about_49 (by decide) ?_
          exact ct_iret (F := wX X b0 b1 b2 b3 b4 b5 b6) (z := (z, f, t)) (sp := (ab f i0 w0, (z, f, t))) hC hw (by simp [ab, c_10, c_18, c_32, c_41]) rfl d_Mm_about_53
        · refine lv_iconst (v := 1) hx hb d_Mm_about_44 (by decide) ?_
          refine lv_goto (tgt := 53) hx hb d_Mm_about_45 (by decide) ?_
          exact ct_iret (F := wX X b0 b1 b2 b3 b4 b5 b6) (z := (z, f, t)) (sp := (ab f i0 w0, (z, f, t))) hC hw (by simp [ab, c_10, c_18, c_32, c_41]) rfl d_Mm_about_53
    · refine lv_aload_n hx hb d_Mm_about_21 rfl (lv_at hl 0 rfl) ?_
      refine ct_get hC hw 0 8 rfl rfl (by decide) k_233 rfl d_Mm_about_22 ?_
      refine lv_iload_n hx hb d_Mm_about_25 rfl (lv_at hl 1 rfl) ?_
      refine ct_iald hC hw 3 rfl (i_in (n := 256) rfl (isI_ne c_10).1 (isI_ne c_10).2.1) d_Mm_about_26 ?_
      refine lv_goto (tgt := 53) hx hb d_Mm_about_27 (by decide) ?_
      exact ct_iret (F := wX X b0 b1 b2 b3 b4 b5 b6) (z := (z, f, t)) (sp := (ab f i0 w0, (z, f, t))) hC hw (by simp [ab, c_10, c_18]) rfl d_Mm_about_53
  · refine lv_iconst (v := -1) hx hb d_Mm_about_13 (by decide) ?_
    refine lv_goto (tgt := 53) hx hb d_Mm_about_14 (by decide) ?_
    exact ct_iret (F := wX X b0 b1 b2 b3 b4 b5 b6) (z := (z, f, t)) (sp := (ab f i0 w0, (z, f, t))) hC hw (by simp [ab, c_10]) rfl d_Mm_about_53
set_option maxHeartbeats 4000000 in
set_option maxRecDepth 100000 in
theorem l_Mm_form {l : Launch} {p : Program} {e : Env} {s : State} {m : MethodId} {args : Array Value} {below : List Frame} {meth : Method} {c : Code} {A : Nat → Prop} {X : GG} {b0 b1 b2 b3 b4 b5 b6 : Nat} {z : MS} {f : FS} {t : TS} {i0 of : Int32} {N : Nat} (hx : p.tables.exec = Jvm.exec) (hb : c.code = b_Mm_form) (hC : Cx p s m args meth c "ModeKeeperModel" b_Mm_form 5 (some .int) X) (hN : N ≤ 8) (eN : t.2 = nI N) (g0 : ¬ i0 < 0) (g1 : ¬ 256 ≤ i0) (had : ad f i0 of t.1 t.2 = (0, (upd f.1 i0.toNatClampNeg of, upd f.2.1 i0.toNatClampNeg (vp_nar .boolean 0), va_cpy t.1 f.2.2.1 0 (8 * i0).toNatClampNeg t.2.toNatClampNeg, upd f.2.2.2.1 i0.toNatClampNeg t.2, f.2.2.2.2 + 1))) :
    ∀ (n : Nat) (j : Nat) (ls : Array Slot) (H : Heap) (locs : List Loc), j ≤ N → N - j < n → lv_has ls 5 [(4, .int (nI j)), (3, .int t.2), (0, .ref b0), (1, .int i0), (2, .int of)] → Wd X A s.heap [(b0, .inr (4, [.int 0, .int z.2.1, .ref b1, .int z.2.2.1, .int z.2.2.2.1, .int z.2.2.2.2, .int 0, .ref b2, .ref b3, .ref b4, .ref b5, .ref b6])), (b1, .inl (X.2.1, 8, .inl z.1)), (b2, .inl (X.2.1, 8, .inl t.1)), (b3, .inl (X.2.1, 256, .inl (upd f.1 i0.toNatClampNeg of))), (b4, .inl (X.2.2.1, 256, .inl (upd f.2.1 i0.toNatClampNeg (vp_nar .boolean 0)))), (b5, .inl (X.2.1, 256, .inl (upd f.2.2.2.1 i0.toNatClampNeg t.2))), (b6, .inl (X.2.1, 2048, .inl (va_cpy t.1 f.2.2.1 0 (8 * i0).toNatClampNeg j)))] H locs → W p l e ({ frames := 1, cells := 0, slots := 0, locals := 22 } : Room) s m args below meth c H locs 0 0 (Fin' X below args s A (some (.int (ad f i0 of t.1 t.2).1)) (fun _ : Unit => wX X b0 b1 b2 b3 b4 b5 b6 (z, (ad f i0 of t.1 t.2).2, (t.1, 0))) 0 0) (F0 m 93 ls []) := by
  intro n
  induction n with
  | zero => intro j ls H locs h0 h1; exact absurd h1 (by omega)
  | succ n ih =>
    intro j ls H locs h0 h1 hl hw
    refine lv_iload hx hb d_Mm_form_93 (lv_at hl 0 rfl) ?_
    refine lv_iload_n hx hb d_Mm_form_95 rfl (lv_at hl 1 rfl) ?_
    refine lv_icmp_ge (tgt := 124) hx hb d_Mm_form_96 (by decide) (fun c_96 => ?_) (fun c_96 => ?_)
    · refine lv_iconst (v := 0) hx hb d_Mm_form_124 (by decide) ?_
      exact ct_iret (F := wX X b0 b1 b2 b3 b4 b5 b6) (z := (z, (upd f.1 i0.toNatClampNeg of, upd f.2.1 i0.toNatClampNeg (vp_nar .boolean 0), va_cpy t.1 f.2.2.1 0 (8 * i0).toNatClampNeg j, upd f.2.2.2.1 i0.toNatClampNeg t.2, f.2.2.2.2 + 1), (t.1, 0))) (sp := ((ad f i0 of t.1 t.2).1, (z, (ad f i0 of t.1 t.2).2, (t.1, 0)))) hC hw (by rw [had, show t.2.toNatClampNeg = j by rw [eN] at c_96 ⊢; rw [nI_leI (by omega) (by omega)] at c_96; rw [nI_clamp (by omega)]; omega]) rfl d_Mm_form_125
    · have hj : j < N := by rw [eN] at c_96; rw [nI_leI (by omega) (by omega)] at c_96; omega
      refine lv_aload_n hx hb d_Mm_form_99 rfl (lv_at hl 2 rfl) ?_
      refine ct_get hC hw 0 11 rfl rfl (by decide) k_236 rfl d_Mm_form_100 ?_
      refine lv_bipush (v := 8) hx hb d_Mm_form_103 (by decide) ?_
      refine lv_iload_n hx hb d_Mm_form_105 rfl (lv_at hl 3 rfl) ?_
      refine lv_imul hx hb d_Mm_form_106 ?_
      refine lv_iload hx hb d_Mm_form_107 (lv_at hl 0 rfl) ?_
      refine lv_iadd hx hb d_Mm_form_109 ?_
      refine lv_aload_n hx hb d_Mm_form_110 rfl (lv_at hl 2 rfl) ?_
      refine ct_get hC hw 0 7 rfl rfl (by decide) k_232 rfl d_Mm_form_111 ?_
      refine lv_iload hx hb d_Mm_form_114 (lv_at hl 0 rfl) ?_
      refine ct_iald hC hw 2 rfl (vp_in_nI (by omega) (by decide)) d_Mm_form_116 ?_
      refine ct_iast hC hw 6 (ws' := [(b0, .inr (4, [.int 0, .int z.2.1, .ref b1, .int z.2.2.1, .int z.2.2.2.1, .int z.2.2.2.2, .int 0, .ref b2, .ref b3, .ref b4, .ref b5, .ref b6])), (b1, .inl (X.2.1, 8, .inl z.1)), (b2, .inl (X.2.1, 8, .inl t.1)), (b3, .inl (X.2.1, 256, .inl (upd f.1 i0.toNatClampNeg of))), (b4, .inl (X.2.2.1, 256, .inl (upd f.2.1 i0.toNatClampNeg (vp_nar .boolean 0)))), (b5, .inl (X.2.1, 256, .inl (upd f.2.2.2.1 i0.toNatClampNeg t.2))), (b6, .inl (X.2.1, 2048, .inl (upd (va_cpy t.1 f.2.2.1 0 (8 * i0).toNatClampNeg j) ((8 * i0) + (nI j)).toNatClampNeg (t.1 (nI j).toNatClampNeg))))]) rfl (i_8k (k := j) (by omega) g0 g1).2.2.2.1 rfl d_Mm_form_117 (fun H locs hw => ?_)
      refine lv_iinc (v := (nI j) + 1) (lv' := [(4, .int ((nI j) + 1)), (3, .int t.2), (0, .ref b0), (1, .int i0), (2, .int of)]) hx hb d_Mm_form_118 hl (k := 0) rfl rfl (by decide) rfl (fun ls hl => ?_)
      refine lv_goto (tgt := 93) hx hb d_Mm_form_121 (by decide) ?_
      exact ih (j + 1) ls H locs hj (by omega) (by rw [nI_1 j] at hl; exact hl) (by rw [par_step (by omega) g0 g1] at hw; exact hw)
set_option maxHeartbeats 4000000 in
set_option maxRecDepth 100000 in
/-- form -/
theorem c_Mm_form (l : Launch) (X : GG) (b0 b1 b2 b3 b4 b5 b6 : Nat) (z : MS) (f : FS) (t : TS) (i0 of : Int32) (hI : Inv f t) : Ct l y_Mm_form b_Mm_form 5 (some .int) ({ frames := 1, cells := 0, slots := 0, locals := 22 } : Room) X [.ref b0, .int i0, .int of] (wX X b0 b1 b2 b3 b4 b5 b6 (z, f, t)) (some (.int ((ad f i0 of t.1 t.2).1))) (fun _ : Unit => wX X b0 b1 b2 b3 b4 b5 b6 (z, (ad f i0 of t.1 t.2).2, (t.1, 0))) := by
  refine ct_enter (by decide) (Nat.le_of_ble_eq_true rfl) ?_
  intro p e s m args below meth c A ls hx hb hC hin hw hl
  have hC : Cx p s m args meth c "ModeKeeperModel" b_Mm_form 5 (some .int) X := hC
  have hw : Wd X A s.heap [(b0, .inr (4, [.int 0, .int z.2.1, .ref b1, .int z.2.2.1, .int z.2.2.2.1, .int z.2.2.2.2, .int t.2, .ref b2, .ref b3, .ref b4, .ref b5, .ref b6])), (b1, .inl (X.2.1, 8, .inl z.1)), (b2, .inl (X.2.1, 8, .inl t.1)), (b3, .inl (X.2.1, 256, .inl f.1)), (b4, .inl (X.2.2.1, 256, .inl f.2.1)), (b5, .inl (X.2.1, 256, .inl f.2.2.2.1)), (b6, .inl (X.2.1, 2048, .inl f.2.2.1))] s.heap [] := hw
  have hl : lv_has ls 5 [(0, .ref b0), (1, .int i0), (2, .int of)] := hl
  refine lv_aload_n hx hb d_Mm_form_0 rfl (lv_at hl 0 rfl) ?_
  refine lv_iconst (v := 0) hx hb d_Mm_form_1 (by decide) ?_
  refine ct_put hC hw 0 0 (ty := .int) (ws' := [(b0, .inr (4, [.int 0, .int z.2.1, .ref b1, .int z.2.2.1, .int z.2.2.2.1, .int z.2.2.2.2, .int t.2, .ref b2, .ref b3, .ref b4, .ref b5, .ref b6])), (b1, .inl (X.2.1, 8, .inl z.1)), (b2, .inl (X.2.1, 8, .inl t.1)), (b3, .inl (X.2.1, 256, .inl f.1)), (b4, .inl (X.2.2.1, 256, .inl f.2.1)), (b5, .inl (X.2.1, 256, .inl f.2.2.2.1)), (b6, .inl (X.2.1, 2048, .inl f.2.2.1))]) rfl rfl (by decide) k_225 rfl (by decide +kernel) rfl rfl (Nat.le_of_ble_eq_true rfl) rfl d_Mm_form_2 (fun H locs hw => ?_)
  refine lv_aload_n hx hb d_Mm_form_5 rfl (lv_at hl 0 rfl) ?_
  refine ct_get hC hw 0 6 rfl rfl (by decide) k_231 rfl d_Mm_form_6 ?_
  refine lv_istore_n (lv' := [(3, .int t.2), (0, .ref b0), (1, .int i0), (2, .int of)]) hx hb d_Mm_form_9 rfl hl (by decide) rfl (fun ls hl => ?_)
  refine lv_aload_n hx hb d_Mm_form_10 rfl (lv_at hl 1 rfl) ?_
  refine lv_iconst (v := 0) hx hb d_Mm_form_11 (by decide) ?_
  refine ct_put hC hw 0 6 (ty := .int) (ws' := [(b0, .inr (4, [.int 0, .int z.2.1, .ref b1, .int z.2.2.1, .int z.2.2.2.1, .int z.2.2.2.2, .int 0, .ref b2, .ref b3, .ref b4, .ref b5, .ref b6])), (b1, .inl (X.2.1, 8, .inl z.1)), (b2, .inl (X.2.1, 8, .inl t.1)), (b3, .inl (X.2.1, 256, .inl f.1)), (b4, .inl (X.2.2.1, 256, .inl f.2.1)), (b5, .inl (X.2.1, 256, .inl f.2.2.2.1)), (b6, .inl (X.2.1, 2048, .inl f.2.2.1))]) rfl rfl (by decide) k_231 rfl (by decide +kernel) rfl rfl (Nat.le_of_ble_eq_true rfl) rfl d_Mm_form_12 (fun H locs hw => ?_)
  refine lv_iload_n hx hb d_Mm_form_15 rfl (lv_at hl 0 rfl) ?_
  refine lv_if_eq (tgt := 42) hx hb d_Mm_form_16 (by decide) (fun c_16 => ?_) (fun c_16 => ?_)
  · refine lv_bipush (v := 13) hx hb d_Mm_form_42 (by decide) ?_
    exact ct_iret (F := wX X b0 b1 b2 b3 b4 b5 b6) (z := (z, f, (t.1, 0))) (sp := ((ad f i0 of t.1 t.2).1, (z, (ad f i0 of t.1 t.2).2, (t.1, 0)))) hC hw (by simp [ad, sz_1 hI.1, sz_8 hI.1, hI.2.2.2.2, c_16]) rfl d_Mm_form_44
  · refine lv_iload_n hx hb d_Mm_form_19 rfl (lv_at hl 3 rfl) ?_
    refine lv_iconst (v := 1) hx hb d_Mm_form_20 (by decide) ?_
    refine lv_icmp_lt (tgt := 42) hx hb d_Mm_form_21 (by decide) (fun c_21 => ?_) (fun c_21 => ?_)
    · have n_21 : ¬ 1 ≤ of := Int32.not_le.mpr c_21
      refine lv_bipush (v := 13) hx hb d_Mm_form_42 (by decide) ?_
      exact ct_iret (F := wX X b0 b1 b2 b3 b4 b5 b6) (z := (z, f, (t.1, 0))) (sp := ((ad f i0 of t.1 t.2).1, (z, (ad f i0 of t.1 t.2).2, (t.1, 0)))) hC hw (by simp [ad, sz_1 hI.1, sz_8 hI.1, hI.2.2.2.2, c_16, c_21, n_21]) rfl d_Mm_form_44
    · have n_21 : 1 ≤ of := Int32.not_lt.mp c_21
      refine lv_iload_n hx hb d_Mm_form_24 rfl (lv_at hl 3 rfl) ?_
      refine lv_sipush (v := 255) hx hb d_Mm_form_25 (by decide) ?_
      refine lv_icmp_gt (tgt := 42) hx hb d_Mm_form_28 (by decide) (fun c_28 => ?_) (fun c_28 => ?_)
      · have n_28 : 256 ≤ of := i_gtT (by decide) c_28
        refine lv_bipush (v := 13) hx hb d_Mm_form_42 (by decide) ?_
        exact ct_iret (F := wX X b0 b1 b2 b3 b4 b5 b6) (z := (z, f, (t.1, 0))) (sp := ((ad f i0 of t.1 t.2).1, (z, (ad f i0 of t.1 t.2).2, (t.1, 0)))) hC hw (by simp [ad, sz_1 hI.1, sz_8 hI.1, hI.2.2.2.2, c_16, c_21, n_21, c_28, n_28]) rfl d_Mm_form_44
      · have n_28 : ¬ 256 ≤ of := i_gtF (by decide) c_28
        refine lv_iload_n hx hb d_Mm_form_31 rfl (lv_at hl 2 rfl) ?_
        refine lv_if_lt (tgt := 42) hx hb d_Mm_form_32 (by decide) (fun c_32 => ?_) (fun c_32 => ?_)
        · refine lv_bipush (v := 13) hx hb d_Mm_form_42 (by decide) ?_
          exact ct_iret (F := wX X b0 b1 b2 b3 b4 b5 b6) (z := (z, f, (t.1, 0))) (sp := ((ad f i0 of t.1 t.2).1, (z, (ad f i0 of t.1 t.2).2, (t.1, 0)))) hC hw (by simp [ad, sz_1 hI.1, sz_8 hI.1, hI.2.2.2.2, c_16, c_21, n_21, c_28, n_28, c_32]) rfl d_Mm_form_44
        · refine lv_iload_n hx hb d_Mm_form_35 rfl (lv_at hl 2 rfl) ?_
          refine lv_sipush (v := 255) hx hb d_Mm_form_36 (by decide) ?_
          refine lv_icmp_le (tgt := 45) hx hb d_Mm_form_39 (by decide) (fun c_39 => ?_) (fun c_39 => ?_)
          · have n_39 : ¬ 256 ≤ i0 := i_leT (by decide) c_39
            refine lv_aload_n hx hb d_Mm_form_45 rfl (lv_at hl 1 rfl) ?_
            refine ct_get hC hw 0 8 rfl rfl (by decide) k_233 rfl d_Mm_form_46 ?_
            refine lv_iload_n hx hb d_Mm_form_49 rfl (lv_at hl 2 rfl) ?_
            refine ct_iald hC hw 3 rfl (i_in (n := 256) rfl c_32 n_39) d_Mm_form_50 ?_
            refine lv_if_le (tgt := 57) hx hb d_Mm_form_51 (by decide) (fun c_51 => ?_) (fun c_51 => ?_)
            · refine lv_aload_n hx hb d_Mm_form_57 rfl (lv_at hl 1 rfl) ?_
              refine ct_callV (rest := []) (As := []) (n := 0) (wr := []) (W2 := fun _ : Unit => [(b0, .inr (4, [.int 0, .int z.2.1, .ref b1, .int z.2.2.1, .int z.2.2.2.1, .int z.2.2.2.2, .int 0, .ref b2, .ref b3, .ref b4, .ref b5, .ref b6])), (b1, .inl (X.2.1, 8, .inl z.1)), (b2, .inl (X.2.1, 8, .inl t.1)), (b3, .inl (X.2.1, 256, .inl f.1)), (b4, .inl (X.2.2.1, 256, .inl f.2.1)), (b5, .inl (X.2.1, 256, .inl f.2.2.2.1)), (b6, .inl (X.2.1, 2048, .inl f.2.2.1))]) hC hw hl.1 (c_Mm_forms l X b0 b1 b2 b3 b4 b5 b6 z f (t.1, 0) ) k_293 k_290 k_292 k_2 k_9 [0, 1, 2, 3, 4, 5, 6] [] [0, 1, 2, 3, 4, 5, 6] rfl rfl rfl rfl rfl rfl (by decide) rfl (fun _ => rfl) (by decide +kernel) ⟨by decide, by decide⟩ rfl (Nat.le_of_ble_eq_true rfl) ⟨by decide, by decide⟩ rfl d_Mm_form_58 (fun u H locs hw => ?_)
              refine W.eq (g2 := F0 m 61 ls [.int (nI (cnt f.1 256))]) rfl ?_
              refine lv_bipush (v := 8) hx hb d_Mm_form_61 (by decide) ?_
              refine lv_icmp_ne (tgt := 69) hx hb d_Mm_form_63 (by decide) (fun c_63 => ?_) (fun c_63 => ?_)
              · refine lv_aload_n hx hb d_Mm_form_69 rfl (lv_at hl 1 rfl) ?_
                refine ct_get hC hw 0 8 rfl rfl (by decide) k_233 rfl d_Mm_form_70 ?_
                refine lv_iload_n hx hb d_Mm_form_73 rfl (lv_at hl 2 rfl) ?_
                refine lv_iload_n hx hb d_Mm_form_74 rfl (lv_at hl 3 rfl) ?_
                refine ct_iast hC hw 3 (ws' := [(b0, .inr (4, [.int 0, .int z.2.1, .ref b1, .int z.2.2.1, .int z.2.2.2.1, .int z.2.2.2.2, .int 0, .ref b2, .ref b3, .ref b4, .ref b5, .ref b6])), (b1, .inl (X.2.1, 8, .inl z.1)), (b2, .inl (X.2.1, 8, .inl t.1)), (b3, .inl (X.2.1, 256, .inl (upd f.1 i0.toNatClampNeg of))), (b4, .inl (X.2.2.1, 256, .inl f.2.1)), (b5, .inl (X.2.1, 256, .inl f.2.2.2.1)), (b6, .inl (X.2.1, 2048, .inl f.2.2.1))]) rfl (i_in (n := 256) rfl c_32 n_39) rfl d_Mm_form_75 (fun H locs hw => ?_)
                refine lv_aload_n hx hb d_Mm_form_76 rfl (lv_at hl 1 rfl) ?_
                refine ct_get hC hw 0 9 rfl rfl (by decide) k_234 rfl d_Mm_form_77 ?_
                refine lv_iload_n hx hb d_Mm_form_80 rfl (lv_at hl 2 rfl) ?_
                refine lv_iconst (v := 0) hx hb d_Mm_form_81 (by decide) ?_
                refine ct_zast hC hw 4 (ws' := [(b0, .inr (4, [.int 0, .int z.2.1, .ref b1, .int z.2.2.1, .int z.2.2.2.1, .int z.2.2.2.2, .int 0, .ref b2, .ref b3, .ref b4, .ref b5, .ref b6])), (b1, .inl (X.2.1, 8, .inl z.1)), (b2, .inl (X.2.1, 8, .inl t.1)), (b3, .inl (X.2.1, 256, .inl (upd f.1 i0.toNatClampNeg of))), (b4, .inl (X.2.2.1, 256, .inl (upd f.2.1 i0.toNatClampNeg (vp_nar .boolean 0)))), (b5, .inl (X.2.1, 256, .inl f.2.2.2.1)), (b6, .inl (X.2.1, 2048, .inl f.2.2.1))]) rfl (i_in (n := 256) rfl c_32 n_39) rfl d_Mm_form_82 (fun H locs hw => ?_)
                refine lv_aload_n hx hb d_Mm_form_83 rfl (lv_at hl 1 rfl) ?_
                refine ct_get hC hw 0 10 rfl rfl (by decide) k_235 rfl d_Mm_form_84 ?_
                refine lv_iload_n hx hb d_Mm_form_87 rfl (lv_at hl 2 rfl) ?_
                refine lv_iload_n hx hb d_Mm_form_88 rfl (lv_at hl 0 rfl) ?_
                refine ct_iast hC hw 5 (ws' := [(b0, .inr (4, [.int 0, .int z.2.1, .ref b1, .int z.2.2.1, .int z.2.2.2.1, .int z.2.2.2.2, .int 0, .ref b2, .ref b3, .ref b4, .ref b5, .ref b6])), (b1, .inl (X.2.1, 8, .inl z.1)), (b2, .inl (X.2.1, 8, .inl t.1)), (b3, .inl (X.2.1, 256, .inl (upd f.1 i0.toNatClampNeg of))), (b4, .inl (X.2.2.1, 256, .inl (upd f.2.1 i0.toNatClampNeg (vp_nar .boolean 0)))), (b5, .inl (X.2.1, 256, .inl (upd f.2.2.2.1 i0.toNatClampNeg t.2))), (b6, .inl (X.2.1, 2048, .inl f.2.2.1))]) rfl (i_in (n := 256) rfl c_32 n_39) rfl d_Mm_form_89 (fun H locs hw => ?_)
                refine lv_iconst (v := 0) hx hb d_Mm_form_90 (by decide) ?_
                refine lv_istore (lv' := [(4, .int 0), (3, .int t.2), (0, .ref b0), (1, .int i0), (2, .int of)]) hx hb d_Mm_form_91 hl (by decide) rfl (fun ls hl => ?_)
                obtain ⟨⟨N, hN, eN⟩, -⟩ := id hI; exact l_Mm_form hx hb hC hN eN c_32 n_39 (by unfold ad; rw [if_neg (by simp [c_16, c_21, n_21, c_28, n_28, c_32, c_39, n_39, c_51, c_63, sz_1 hI.1, sz_8 hI.1]), if_pos c_51, if_neg (by rw [hI.2.2.2.2]; exact c_63)]) 9 0 ls _ _ (by omega) (by omega) hl (show Wd X A s.heap [(b0, .inr (4, [.int 0, .int z.2.1, .ref b1, .int z.2.2.1, .int z.2.2.2.1, .int z.2.2.2.2, .int 0, .ref b2, .ref b3, .ref b4, .ref b5, .ref b6])), (b1, .inl (X.2.1, 8, .inl z.1)), (b2, .inl (X.2.1, 8, .inl t.1)), (b3, .inl (X.2.1, 256, .inl (upd f.1 i0.toNatClampNeg of))), (b4, .inl (X.2.2.1, 256, .inl (upd f.2.1 i0.toNatClampNeg (vp_nar .boolean 0)))), (b5, .inl (X.2.1, 256, .inl (upd f.2.2.2.1 i0.toNatClampNeg t.2))), (b6, .inl (X.2.1, 2048, .inl (va_cpy t.1 f.2.2.1 0 (8 * i0).toNatClampNeg 0)))] _ _ by rw [cpy_0]; exact hw)
              · refine lv_bipush (v := 12) hx hb d_Mm_form_66 (by decide) ?_
                exact ct_iret (F := wX X b0 b1 b2 b3 b4 b5 b6) (z := (z, f, (t.1, 0))) (sp := ((ad f i0 of t.1 t.2).1, (z, (ad f i0 of t.1 t.2).2, (t.1, 0)))) hC hw (by simp [ad, sz_1 hI.1, sz_8 hI.1, hI.2.2.2.2, c_16, c_21, n_21, c_28, n_28, c_32, c_39, n_39, c_51, c_63]) rfl d_Mm_form_68
            · refine lv_bipush (v := 11) hx hb d_Mm_form_54 (by decide) ?_
              exact ct_iret (F := wX X b0 b1 b2 b3 b4 b5 b6) (z := (z, f, (t.1, 0))) (sp := ((ad f i0 of t.1 t.2).1, (z, (ad f i0 of t.1 t.2).2, (t.1, 0)))) hC hw (by simp [ad, sz_1 hI.1, sz_8 hI.1, hI.2.2.2.2, c_16, c_21, n_21, c_28, n_28, c_32, c_39, n_39, c_51]) rfl d_Mm_form_56
          · have n_39 : 256 ≤ i0 := i_leF (by decide) c_39
            refine lv_bipush (v := 13) hx hb d_Mm_form_42 (by decide) ?_
            exact ct_iret (F := wX X b0 b1 b2 b3 b4 b5 b6) (z := (z, f, (t.1, 0))) (sp := ((ad f i0 of t.1 t.2).1, (z, (ad f i0 of t.1 t.2).2, (t.1, 0)))) hC hw (by simp [ad, sz_1 hI.1, sz_8 hI.1, hI.2.2.2.2, c_16, c_21, n_21, c_28, n_28, c_32, c_39, n_39]) rfl d_Mm_form_44
set_option maxHeartbeats 4000000 in
set_option maxRecDepth 100000 in
theorem l_Mm_due {l : Launch} {p : Program} {e : Env} {s : State} {m : MethodId} {args : Array Value} {below : List Frame} {meth : Method} {c : Code} {A : Nat → Prop} {X : GG} {b0 b1 b2 b3 b4 b5 b6 : Nat} {z : MS} {f : FS} {t : TS} {tk fr : Int32} (hx : p.tables.exec = Jvm.exec) (hb : c.code = b_Mm_due) (hC : Cx p s m args meth c "ModeKeeperModel" b_Mm_due 5 (some .int) X)  :
    ∀ (n : Nat) (j : Nat) (i : Int32) (ls : Array Slot) (H : Heap) (locs : List Loc), j ≤ 256 → j < n → i.toInt = (j : Int) - 1 → (fr.toInt ≤ j ∨ j = 256) → lv_has ls 5 [(4, .int i), (3, .int (duA f tk j (256 - j))), (0, .ref b0), (1, .int tk), (2, .int fr)] → Wd X A s.heap [(b0, .inr (4, [.int 0, .int z.2.1, .ref b1, .int z.2.2.1, .int z.2.2.2.1, .int z.2.2.2.2, .int t.2, .ref b2, .ref b3, .ref b4, .ref b5, .ref b6])), (b1, .inl (X.2.1, 8, .inl z.1)), (b2, .inl (X.2.1, 8, .inl t.1)), (b3, .inl (X.2.1, 256, .inl f.1)), (b4, .inl (X.2.2.1, 256, .inl f.2.1)), (b5, .inl (X.2.1, 256, .inl f.2.2.2.1)), (b6, .inl (X.2.1, 2048, .inl f.2.2.1))] H locs → W p l e ({ frames := 0, cells := 0, slots := 0, locals := 0 } : Room) s m args below meth c H locs 0 0 (Fin' X below args s A (some (.int (du f tk fr))) (fun _ : Unit => wX X b0 b1 b2 b3 b4 b5 b6 (z, f, t)) 0 0) (F0 m 12 ls []) := by
  intro n
  induction n with
  | zero => intro j i ls H locs h0 h1; exact absurd h1 (by omega)
  | succ n ih =>
    intro j i ls H locs h0 h1 h2 h3 hl hw
    refine lv_iload hx hb d_Mm_due_12 (lv_at hl 0 rfl) ?_
    refine lv_if_lt (tgt := 68) hx hb d_Mm_due_14 (by decide) (fun c_14 => ?_) (fun c_14 => ?_)
    · refine lv_iload_n hx hb d_Mm_due_68 rfl (lv_at hl 1 rfl) ?_
      exact ct_iret (F := wX X b0 b1 b2 b3 b4 b5 b6) (z := (z, f, t)) (sp := (du f tk fr, (z, f, t))) hC hw (by rw [dd_end h0 h3 (Or.inl (dd_0 h2 c_14))]) rfl d_Mm_due_69
    · obtain ⟨q1, q2, q3, q4, q5⟩ := dd_cl h0 h2 c_14
      refine lv_iload hx hb d_Mm_due_17 (lv_at hl 0 rfl) ?_
      refine lv_iload_n hx hb d_Mm_due_19 rfl (lv_at hl 4 rfl) ?_
      refine lv_icmp_lt (tgt := 68) hx hb d_Mm_due_20 (by decide) (fun c_20 => ?_) (fun c_20 => ?_)
      · have n_20 : ¬ fr ≤ i := Int32.not_le.mpr c_20
        refine lv_iload_n hx hb d_Mm_due_68 rfl (lv_at hl 1 rfl) ?_
        exact ct_iret (F := wX X b0 b1 b2 b3 b4 b5 b6) (z := (z, f, t)) (sp := (du f tk fr, (z, f, t))) hC hw (by rw [dd_end h0 h3 (Or.inr (by rw [← h2]; exact i_lt.mp c_20))]) rfl d_Mm_due_69
      · have n_20 : fr ≤ i := Int32.not_lt.mp c_20
        have q6 : fr.toInt ≤ i.toInt := i_le.mp n_20
        refine lv_aload_n hx hb d_Mm_due_23 rfl (lv_at hl 2 rfl) ?_
        refine ct_get hC hw 0 8 rfl rfl (by decide) k_233 rfl d_Mm_due_24 ?_
        refine lv_iload hx hb d_Mm_due_27 (lv_at hl 0 rfl) ?_
        refine ct_iald hC hw 3 rfl (i_in (n := 256) rfl c_14 q2) d_Mm_due_29 ?_
        refine lv_if_le (tgt := 60) hx hb d_Mm_due_30 (by decide) (fun c_30 => ?_) (fun c_30 => ?_)
        · refine lv_iload_n hx hb d_Mm_due_60 rfl (lv_at hl 1 rfl) ?_
          refine lv_istore_n (lv' := [(3, .int (duA f tk j (256 - j))), (4, .int i), (0, .ref b0), (1, .int tk), (2, .int fr)]) hx hb d_Mm_due_61 rfl hl (by decide) rfl (fun ls hl => ?_)
          refine lv_iinc (v := i + (-1)) (lv' := [(4, .int (i + (-1))), (3, .int (duA f tk j (256 - j))), (0, .ref b0), (1, .int tk), (2, .int fr)]) hx hb d_Mm_due_62 hl (k := 1) rfl rfl (by decide) rfl (fun ls hl => ?_)
          refine lv_goto (tgt := 12) hx hb d_Mm_due_65 (by decide) ?_
          exact ih i.toNatClampNeg (i + (-1)) ls H locs (by omega) (by omega) q5 (Or.inl (by rw [i_clN c_14]; exact q6)) (by rw [duA_1 q3, if_neg (fun q => q.1 c_30), ← q1]; exact hl) hw
        · refine lv_aload_n hx hb d_Mm_due_33 rfl (lv_at hl 2 rfl) ?_
          refine ct_get hC hw 0 9 rfl rfl (by decide) k_234 rfl d_Mm_due_34 ?_
          refine lv_iload hx hb d_Mm_due_37 (lv_at hl 0 rfl) ?_
          refine ct_zald hC hw 4 rfl (i_in (n := 256) rfl c_14 q2) d_Mm_due_39 ?_
          refine lv_if_eq (tgt := 60) hx hb d_Mm_due_40 (by decide) (fun c_40 => ?_) (fun c_40 => ?_)
          · refine lv_iload_n hx hb d_Mm_due_60 rfl (lv_at hl 1 rfl) ?_
            refine lv_istore_n (lv' := [(3, .int (duA f tk j (256 - j))), (4, .int i), (0, .ref b0), (1, .int tk), (2, .int fr)]) hx hb d_Mm_due_61 rfl hl (by decide) rfl (fun ls hl => ?_)
            refine lv_iinc (v := i + (-1)) (lv' := [(4, .int (i + (-1))), (3, .int (duA f tk j (256 - j))), (0, .ref b0), (1, .int tk), (2, .int fr)]) hx hb d_Mm_due_62 hl (k := 1) rfl rfl (by decide) rfl (fun ls hl => ?_)
            refine lv_goto (tgt := 12) hx hb d_Mm_due_65 (by decide) ?_
            exact ih i.toNatClampNeg (i + (-1)) ls H locs (by omega) (by omega) q5 (Or.inl (by rw [i_clN c_14]; exact q6)) (by rw [duA_1 q3, if_neg (fun q => q.2.1 c_40), ← q1]; exact hl) hw
          · refine lv_iload_n hx hb d_Mm_due_43 rfl (lv_at hl 3 rfl) ?_
            refine lv_aload_n hx hb d_Mm_due_44 rfl (lv_at hl 2 rfl) ?_
            refine ct_get hC hw 0 8 rfl rfl (by decide) k_233 rfl d_Mm_due_45 ?_
            refine lv_iload hx hb d_Mm_due_48 (lv_at hl 0 rfl) ?_
            refine ct_iald hC hw 3 rfl (i_in (n := 256) rfl c_14 q2) d_Mm_due_50 ?_
            refine lv_irem hx hb d_Mm_due_51 (fun q => c_30 (by rw [q]; decide)) ?_
            refine lv_if_ne (tgt := 60) hx hb d_Mm_due_52 (by decide) (fun c_52 => ?_) (fun c_52 => ?_)
            · refine lv_iload_n hx hb d_Mm_due_60 rfl (lv_at hl 1 rfl) ?_
              refine lv_istore_n (lv' := [(3, .int (duA f tk j (256 - j))), (4, .int i), (0, .ref b0), (1, .int tk), (2, .int fr)]) hx hb d_Mm_due_61 rfl hl (by decide) rfl (fun ls hl => ?_)
              refine lv_iinc (v := i + (-1)) (lv' := [(4, .int (i + (-1))), (3, .int (duA f tk j (256 - j))), (0, .ref b0), (1, .int tk), (2, .int fr)]) hx hb d_Mm_due_62 hl (k := 1) rfl rfl (by decide) rfl (fun ls hl => ?_)
              refine lv_goto (tgt := 12) hx hb d_Mm_due_65 (by decide) ?_
              exact ih i.toNatClampNeg (i + (-1)) ls H locs (by omega) (by omega) q5 (Or.inl (by rw [i_clN c_14]; exact q6)) (by rw [duA_1 q3, if_neg (fun q => c_52 q.2.2), ← q1]; exact hl) hw
            · refine lv_iload hx hb d_Mm_due_55 (lv_at hl 0 rfl) ?_
              refine lv_goto (tgt := 61) hx hb d_Mm_due_57 (by decide) ?_
              refine lv_istore_n (lv' := [(3, .int i), (4, .int i), (0, .ref b0), (1, .int tk), (2, .int fr)]) hx hb d_Mm_due_61 rfl hl (by decide) rfl (fun ls hl => ?_)
              refine lv_iinc (v := i + (-1)) (lv' := [(4, .int (i + (-1))), (3, .int i), (0, .ref b0), (1, .int tk), (2, .int fr)]) hx hb d_Mm_due_62 hl (k := 1) rfl rfl (by decide) rfl (fun ls hl => ?_)
              refine lv_goto (tgt := 12) hx hb d_Mm_due_65 (by decide) ?_
              exact ih i.toNatClampNeg (i + (-1)) ls H locs (by omega) (by omega) q5 (Or.inl (by rw [i_clN c_14]; exact q6)) (by rw [duA_1 q3, if_pos ⟨c_30, c_40, c_52⟩, q4]; exact hl) hw
set_option maxHeartbeats 4000000 in
set_option maxRecDepth 100000 in
/-- due -/
theorem c_Mm_due (l : Launch) (X : GG) (b0 b1 b2 b3 b4 b5 b6 : Nat) (z : MS) (f : FS) (t : TS) (tk fr : Int32) : Ct l y_Mm_due b_Mm_due 5 (some .int) ({ frames := 0, cells := 0, slots := 0, locals := 0 } : Room) X [.ref b0, .int tk, .int fr] (wX X b0 b1 b2 b3 b4 b5 b6 (z, f, t)) (some (.int (du f tk fr))) (fun _ : Unit => wX X b0 b1 b2 b3 b4 b5 b6 (z, f, t)) := by
  refine ct_enter (by decide) (Nat.le_of_ble_eq_true rfl) ?_
  intro p e s m args below meth c A ls hx hb hC hin hw hl
  have hC : Cx p s m args meth c "ModeKeeperModel" b_Mm_due 5 (some .int) X := hC
  have hw : Wd X A s.heap [(b0, .inr (4, [.int 0, .int z.2.1, .ref b1, .int z.2.2.1, .int z.2.2.2.1, .int z.2.2.2.2, .int t.2, .ref b2, .ref b3, .ref b4, .ref b5, .ref b6])), (b1, .inl (X.2.1, 8, .inl z.1)), (b2, .inl (X.2.1, 8, .inl t.1)), (b3, .inl (X.2.1, 256, .inl f.1)), (b4, .inl (X.2.2.1, 256, .inl f.2.1)), (b5, .inl (X.2.1, 256, .inl f.2.2.2.1)), (b6, .inl (X.2.1, 2048, .inl f.2.2.1))] s.heap [] := hw
  have hl : lv_has ls 5 [(0, .ref b0), (1, .int tk), (2, .int fr)] := hl
  refine lv_aload_n hx hb d_Mm_due_0 rfl (lv_at hl 0 rfl) ?_
  refine lv_iconst (v := 0) hx hb d_Mm_due_1 (by decide) ?_
  refine ct_put hC hw 0 0 (ty := .int) (ws' := [(b0, .inr (4, [.int 0, .int z.2.1, .ref b1, .int z.2.2.1, .int z.2.2.2.1, .int z.2.2.2.2, .int t.2, .ref b2, .ref b3, .ref b4, .ref b5, .ref b6])), (b1, .inl (X.2.1, 8, .inl z.1)), (b2, .inl (X.2.1, 8, .inl t.1)), (b3, .inl (X.2.1, 256, .inl f.1)), (b4, .inl (X.2.2.1, 256, .inl f.2.1)), (b5, .inl (X.2.1, 256, .inl f.2.2.2.1)), (b6, .inl (X.2.1, 2048, .inl f.2.2.1))]) rfl rfl (by decide) k_225 rfl (by decide +kernel) rfl rfl (Nat.le_of_ble_eq_true rfl) rfl d_Mm_due_2 (fun H locs hw => ?_)
  refine lv_iconst (v := -1) hx hb d_Mm_due_5 (by decide) ?_
  refine lv_istore_n (lv' := [(3, .int (-1)), (0, .ref b0), (1, .int tk), (2, .int fr)]) hx hb d_Mm_due_6 rfl hl (by decide) rfl (fun ls hl => ?_)
  refine lv_sipush (v := 255) hx hb d_Mm_due_7 (by decide) ?_
  refine lv_istore (lv' := [(4, .int 255), (3, .int (-1)), (0, .ref b0), (1, .int tk), (2, .int fr)]) hx hb d_Mm_due_10 hl (by decide) rfl (fun ls hl => ?_)
  exact l_Mm_due hx hb hC 257 256 255 ls _ _ (by decide) (by decide) rfl (Or.inr rfl) hl hw
end
section
/-! THE CLAIM OUT OF ONE WALK OF THE LAW'S BODY. Your part is whole_start (and what it stands on); all else here is the same for every law, but numbers. -/
def R_law : String := "ModeKeeperLaw"
def lw_P (b : Addr) (xs : List Int32) (args : Array Value) (s : State) : Prop := args = #[.ref b] ∧ s.IntsAt b xs ∧ xs.length ≤ 1536 ∧ (Jvm.Cond.and given_1 narrow_1).before args s = true
def lw_Q (_ : Array Value) (s : State) (o : Outcome) (t : State) : Prop := o = .returned (some (.int 1)) ∧ Framed s o t [] 18 5701
def lw_Z (below : List Frame) (a : Array Value) (s : State) : State → Prop := fun t => ∃ o, t.status = .running ∧ Ended t below o ∧ lw_Q a s o t
/-- the law's own end, with 1 on the stack, nothing written that was there before, its room as the claim has it -/
theorem lw_ret {p : Program} {l : Launch} {e : Env} {s : State} {m : MethodId} {below : List Frame} {meth : Method} {c : Code} {b : Nat} (hx : p.tables.exec = Jvm.exec) (hb : c.code = code) (hr : meth.sig.returnType = ret) (hlocks : meth.locks = false) {pc : Nat} {H : Heap} {ls : Array Slot} (hdg : decode code pc = .ok (.ireturn, 1)) : W p l e room_1 s m #[Value.ref b] below meth c H [] 18 5701 (lw_Z below #[Value.ref b] s) (F0 m pc ls [.int 1]) := by
  intro T hT X
  obtain ⟨fs, hret, hrun, hended, hW, hframe⟩ := X.leave (v := some (.int 1)) (hlocks := hlocks) (fun h => by rw [hr] at h; cases h)
  have hmeth' : T.vm.method? m = some meth := X.method'
  refine ⟨T.setFrames fs, ?_, .returned (some (.int 1)), hrun, hended, rfl, ⟨_, rfl⟩, hW, hframe⟩
  jvm_step X.here [X.here.top, hx, hb, hdg, hmeth', hr, ret, narrow_b1]
  (try refine ⟨rfl, ?_⟩); (try refine ⟨rfl, ?_⟩)
  first | (intro acts; rw [hret _ acts rfl rfl rfl]) | rw [hret _ _ rfl rfl rfl]
  exact Steps.refl _
/-- what holds at the law's entry: the machine, the code, the tables' words (any of lw_tbl by 'hts w (by decide +kernel)'), the script of L ints xs at the cell b, what the Statement gives of the start (any of its parts by flat_of_before) -/
def lw_At (p : Program) (s : State) (m : MethodId) (meth : Method) (c : Code) (b L : Nat) (xs : Nat → Int32) : Prop :=
  p.tables.exec = Jvm.exec ∧ c.code = code ∧ meth.sig.returnType = ret ∧ c.maxLocals = 4 ∧ s.vm.findClass R_law = some m.cls ∧ (∀ w ∈ lw_tbl, w.before #[Value.ref b] s = true) ∧ va_X b L xs s s.heap ∧ b < s.heap.size ∧ meth.locks = false ∧ (Jvm.Cond.and given_1 narrow_1).before #[Value.ref b] s = true
theorem sw12_out {w : Int32} (h0 : ¬ w = 0) (h1 : ¬ w = 1) (h2 : ¬ w = 2) (h3 : ¬ w = 3) (h4 : ¬ w = 4) (h5 : ¬ w = 5) (h6 : ¬ w = 6) (h7 : ¬ w = 7) (h8 : ¬ w = 8) (h9 : ¬ w = 9) (h10 : ¬ w = 10) (h11 : ¬ w = 11) : w.toInt < 0 ∨ 11 < w.toInt := by
  have g0 : w.toInt ≠ 0 := fun e => h0 (Int32.toInt_inj.mp e)
  have g1 : w.toInt ≠ 1 := fun e => h1 (Int32.toInt_inj.mp e)
  have g2 : w.toInt ≠ 2 := fun e => h2 (Int32.toInt_inj.mp e)
  have g3 : w.toInt ≠ 3 := fun e => h3 (Int32.toInt_inj.mp e)
  have g4 : w.toInt ≠ 4 := fun e => h4 (Int32.toInt_inj.mp e)
  have g5 : w.toInt ≠ 5 := fun e => h5 (Int32.toInt_inj.mp e)
  have g6 : w.toInt ≠ 6 := fun e => h6 (Int32.toInt_inj.mp e)
  have g7 : w.toInt ≠ 7 := fun e => h7 (Int32.toInt_inj.mp e)
  have g8 : w.toInt ≠ 8 := fun e => h8 (Int32.toInt_inj.mp e)
  have g9 : w.toInt ≠ 9 := fun e => h9 (Int32.toInt_inj.mp e)
  have g10 : w.toInt ≠ 10 := fun e => h10 (Int32.toInt_inj.mp e)
  have g11 : w.toInt ≠ 11 := fun e => h11 (Int32.toInt_inj.mp e)
  omega
/-- the loop goes on: three more ints are there -/
theorem law_in {i L : Nat} (hL : L ≤ 1536) (hi : i ≤ L + 2) (h : ¬ Int32.ofNat L - 3 < nI i) : i + 3 ≤ L := by
  rw [i_lt] at h
  have e : (Int32.ofNat L - 3).toInt = (L : Int) - 3 := pk_sub_toInt (a := L) (b := 3) (by omega) (by decide)
  rw [e, nI_toInt (by omega)] at h
  omega
theorem law_1 {i : Nat} : nI i + 1 = nI (i + 1) := nI_add i 1
theorem law_2 {i : Nat} : nI i + 2 = nI (i + 2) := nI_add i 2
theorem law_3 {i : Nat} : nI i + 3 = nI (i + 3) := nI_add i 3
set_option maxHeartbeats 16000000 in
set_option maxRecDepth 100000 in
/-- THE LAW'S LOOP: at its head both sides hold the same picture (z, f, t) -/
theorem law_loop {p : Program} {l : Launch} {e : Env} {s : State} {m : MethodId} {below : List Frame} {meth : Method} {c : Code} {X : GG} {b L : Nat} {xs : Nat → Int32} (hL : L ≤ 1536) (hx : p.tables.exec = Jvm.exec) (hb : c.code = code) (hC : Cx p s m #[Value.ref b] meth c "ModeKeeperLaw" code 4 ret X) (hX : va_X b L xs s s.heap) (hbl : b < s.heap.size) :
    ∀ (n i : Nat) (z : MS) (f : FS) (t : TS) (h0 h1 h2 h3 h4 h5 h6 h7 h8 h9 h10 b0 b1 b2 b3 b4 b5 b6 : Nat) (ls : Array Slot) (H : Heap) (locs : List Loc), i ≤ L + 2 → L + 3 ≤ i + n → Inv f t → lv_has ls 4 [(3, .int (nI i)), (0, .ref b), (1, .ref h0), (2, .ref b0)] → Wd X (fun q : Nat => s.heap.size ≤ q) s.heap [(h0, .inr (0, [.ref h1, .ref h2, .ref h5, .ref h10, .int t.2])), (h2, .inr (2, [.ref h1, .ref h3, .ref h4, .int z.2.1, .int z.2.2.1, .int z.2.2.2.1])), (h3, .inl (X.2.1, 8, .inl safeF)), (h4, .inl (X.2.1, 8, .inl z.1)), (h1, .inr (1, [.int z.2.2.2.2])), (h5, .inr (3, [.ref h6, .ref h7, .ref h8, .ref h9, .int f.2.2.2.2])), (h6, .inl (X.2.1, 256, .inl f.1)), (h7, .inl (X.2.2.1, 256, .inl f.2.1)), (h8, .inl (X.2.2.2, 2048, .inl f.2.2.1)), (h9, .inl (X.2.1, 256, .inl f.2.2.2.1)), (h10, .inl (X.2.2.2, 8, .inl t.1)), (b0, .inr (4, [.int 0, .int z.2.1, .ref b1, .int z.2.2.1, .int z.2.2.2.1, .int z.2.2.2.2, .int t.2, .ref b2, .ref b3, .ref b4, .ref b5, .ref b6])), (b1, .inl (X.2.1, 8, .inl z.1)), (b2, .inl (X.2.1, 8, .inl t.1)), (b3, .inl (X.2.1, 256, .inl f.1)), (b4, .inl (X.2.2.1, 256, .inl f.2.1)), (b5, .inl (X.2.1, 256, .inl f.2.2.2.1)), (b6, .inl (X.2.1, 2048, .inl f.2.2.1))] H locs → W p l e room_1 s m #[Value.ref b] below meth c H locs 18 5701 (lw_Z below #[Value.ref b] s) (F0 m 18 ls []) := by
  have hbA : ¬ (fun q : Nat => s.heap.size ≤ q) b := Nat.not_le.mpr hbl
  intro n
  induction n with
  | zero => intro i z f t h0 h1 h2 h3 h4 h5 h6 h7 h8 h9 h10 b0 b1 b2 b3 b4 b5 b6 ls H locs g1 g2; exact absurd g2 (by omega)
  | succ n ih =>
    intro i z f t h0 h1 h2 h3 h4 h5 h6 h7 h8 h9 h10 b0 b1 b2 b3 b4 b5 b6 ls H locs g1 g2 hI hl hw
    refine lv_iload_n hx hb d_law_18 rfl (lv_at hl 0 rfl) ?_
    refine lv_aload_n hx hb d_law_19 rfl (lv_at hl 1 rfl) ?_
    refine va_slen hx hb hX hbl hbA hw.2.2.1 d_law_20 ?_
    refine lv_iconst (v := 3) hx hb d_law_21 (by decide) ?_
    refine lv_isub hx hb d_law_22 ?_
    refine lv_icmp_gt (tgt := 454) hx hb d_law_23 (by decide) (fun c_23 => ?_) (fun c_23 => ?_)
    · refine lv_iconst (v := 1) hx hb d_law_454 (by decide) ?_
      exact va_forget (fun q hq => hw.2.2.1.2.2 q hq) (lw_ret hx hb hC.2.2.2.2.2.2.1 hC.2.2.2.2.2.2.2 d_law_455)
    · have hi3 : i + 3 ≤ L := law_in hL g1 c_23
      refine lv_aload_n hx hb d_law_26 rfl (lv_at hl 1 rfl) ?_
      refine lv_iload_n hx hb d_law_27 rfl (lv_at hl 0 rfl) ?_
      refine va_sld hx hb hX hbl hbA hw.2.2.1 (vp_in_nI (by omega) (by omega)) d_law_28 ?_
      refine lv_bipush (v := 15) hx hb d_law_29 (by decide) ?_
      refine lv_iand hx hb d_law_31 ?_
      refine lv_topi (fun w ew => ?_)
      by_cases e_0 : w = 0
      · refine lv_tableIn (off := 64) (tgt := 96) hx hb d_law_32 (by rw [e_0]; decide) (by rw [e_0]; decide) (by rw [e_0]; rfl) (by decide) ?_
        refine lv_aload_n hx hb d_law_96 rfl (lv_at hl 2 rfl) ?_
        refine lv_aload_n hx hb d_law_97 rfl (lv_at hl 1 rfl) ?_
        refine lv_iload_n hx hb d_law_98 rfl (lv_at hl 0 rfl) ?_
        refine lv_iconst (v := 1) hx hb d_law_99 (by decide) ?_
        refine lv_iadd hx hb d_law_100 ?_
        refine va_sld hx hb hX hbl hbA hw.2.2.1 (by rw [law_1]; exact vp_in_nI (by omega) (by omega)) d_law_101 ?_
        refine lv_aload_n hx hb d_law_102 rfl (lv_at hl 1 rfl) ?_
        refine lv_iload_n hx hb d_law_103 rfl (lv_at hl 0 rfl) ?_
        refine lv_iconst (v := 2) hx hb d_law_104 (by decide) ?_
        refine lv_iadd hx hb d_law_105 ?_
        refine va_sld hx hb hX hbl hbA hw.2.2.1 (by rw [law_2]; exact vp_in_nI (by omega) (by omega)) d_law_106 ?_
        refine ct_callV (rest := []) (As := [.int (xs ((nI i) + 1).toNatClampNeg), .int (xs ((nI i) + 2).toNatClampNeg)]) (n := 2) (wr := [(b0, .inr (4, [.int 0, .int z.2.1, .ref b1, .int z.2.2.1, .int z.2.2.2.1, .int z.2.2.2.2, .int t.2, .ref b2, .ref b3, .ref b4, .ref b5, .ref b6])), (b1, .inl (X.2.1, 8, .inl z.1)), (b2, .inl (X.2.1, 8, .inl t.1)), (b3, .inl (X.2.1, 256, .inl f.1)), (b4, .inl (X.2.2.1, 256, .inl f.2.1)), (b5, .inl (X.2.1, 256, .inl f.2.2.2.1)), (b6, .inl (X.2.1, 2048, .inl f.2.2.1))]) (W2 := fun _ : Unit => [(h0, .inr (0, [.ref h1, .ref h2, .ref h5, .ref h10, .int t.2])), (h2, .inr (2, [.ref h1, .ref h3, .ref h4, .int (((mv z (xs ((nI i) + 1).toNatClampNeg) (xs ((nI i) + 2).toNatClampNeg)).2).2.1), .int (((mv z (xs ((nI i) + 1).toNatClampNeg) (xs ((nI i) + 2).toNatClampNeg)).2).2.2.1), .int (((mv z (xs ((nI i) + 1).toNatClampNeg) (xs ((nI i) + 2).toNatClampNeg)).2).2.2.2.1)])), (h3, .inl (X.2.1, 8, .inl safeF)), (h4, .inl (X.2.1, 8, .inl (((mv z (xs ((nI i) + 1).toNatClampNeg) (xs ((nI i) + 2).toNatClampNeg)).2).1))), (h1, .inr (1, [.int (((mv z (xs ((nI i) + 1).toNatClampNeg) (xs ((nI i) + 2).toNatClampNeg)).2).2.2.2.2)])), (h5, .inr (3, [.ref h6, .ref h7, .ref h8, .ref h9, .int f.2.2.2.2])), (h6, .inl (X.2.1, 256, .inl f.1)), (h7, .inl (X.2.2.1, 256, .inl f.2.1)), (h8, .inl (X.2.2.2, 2048, .inl f.2.2.1)), (h9, .inl (X.2.1, 256, .inl f.2.2.2.1)), (h10, .inl (X.2.2.2, 8, .inl t.1)), (b0, .inr (4, [.int 0, .int z.2.1, .ref b1, .int z.2.2.1, .int z.2.2.2.1, .int z.2.2.2.2, .int t.2, .ref b2, .ref b3, .ref b4, .ref b5, .ref b6])), (b1, .inl (X.2.1, 8, .inl z.1)), (b2, .inl (X.2.1, 8, .inl t.1)), (b3, .inl (X.2.1, 256, .inl f.1)), (b4, .inl (X.2.2.1, 256, .inl f.2.1)), (b5, .inl (X.2.1, 256, .inl f.2.2.2.1)), (b6, .inl (X.2.1, 2048, .inl f.2.2.1))]) hC hw hl.1 (c_MK_move l X h0 h1 h2 h3 h4 h5 h6 h7 h8 h9 h10 z f t (xs ((nI i) + 1).toNatClampNeg) (xs ((nI i) + 2).toNatClampNeg)) k_107 k_104 k_105 k_106 k_5 [0, 1, 2, 3, 4, 5, 6, 7, 8, 9, 10] [11, 12, 13, 14, 15, 16, 17] [7, 8, 9, 10, 11, 12, 13, 14, 15, 16, 17, 0, 1, 2, 3, 4, 5, 6] rfl rfl rfl rfl rfl rfl (by decide) rfl (fun _ => rfl) (by decide +kernel) ⟨by decide, by decide⟩ rfl (Nat.le_of_ble_eq_true rfl) ⟨by decide, by decide⟩ rfl d_law_107 (fun u H locs hw => ?_)
        refine W.eq (g2 := F0 m 110 ls [.int ((mv z (xs ((nI i) + 1).toNatClampNeg) (xs ((nI i) + 2).toNatClampNeg)).1)]) rfl ?_
        refine lv_aload_n hx hb d_law_110 rfl (lv_at hl 3 rfl) ?_
        refine lv_aload_n hx hb d_law_111 rfl (lv_at hl 1 rfl) ?_
        refine lv_iload_n hx hb d_law_112 rfl (lv_at hl 0 rfl) ?_
        refine lv_iconst (v := 1) hx hb d_law_113 (by decide) ?_
        refine lv_iadd hx hb d_law_114 ?_
        refine va_sld hx hb hX hbl hbA hw.2.2.1 (by rw [law_1]; exact vp_in_nI (by omega) (by omega)) d_law_115 ?_
        refine lv_aload_n hx hb d_law_116 rfl (lv_at hl 1 rfl) ?_
        refine lv_iload_n hx hb d_law_117 rfl (lv_at hl 0 rfl) ?_
        refine lv_iconst (v := 2) hx hb d_law_118 (by decide) ?_
        refine lv_iadd hx hb d_law_119 ?_
        refine va_sld hx hb hX hbl hbA hw.2.2.1 (by rw [law_2]; exact vp_in_nI (by omega) (by omega)) d_law_120 ?_
        refine ct_callV (rest := [.int ((mv z (xs ((nI i) + 1).toNatClampNeg) (xs ((nI i) + 2).toNatClampNeg)).1)]) (As := [.int (xs ((nI i) + 1).toNatClampNeg), .int (xs ((nI i) + 2).toNatClampNeg)]) (n := 2) (wr := [(h0, .inr (0, [.ref h1, .ref h2, .ref h5, .ref h10, .int t.2])), (h2, .inr (2, [.ref h1, .ref h3, .ref h4, .int (((mv z (xs ((nI i) + 1).toNatClampNeg) (xs ((nI i) + 2).toNatClampNeg)).2).2.1), .int (((mv z (xs ((nI i) + 1).toNatClampNeg) (xs ((nI i) + 2).toNatClampNeg)).2).2.2.1), .int (((mv z (xs ((nI i) + 1).toNatClampNeg) (xs ((nI i) + 2).toNatClampNeg)).2).2.2.2.1)])), (h3, .inl (X.2.1, 8, .inl safeF)), (h4, .inl (X.2.1, 8, .inl (((mv z (xs ((nI i) + 1).toNatClampNeg) (xs ((nI i) + 2).toNatClampNeg)).2).1))), (h1, .inr (1, [.int (((mv z (xs ((nI i) + 1).toNatClampNeg) (xs ((nI i) + 2).toNatClampNeg)).2).2.2.2.2)])), (h5, .inr (3, [.ref h6, .ref h7, .ref h8, .ref h9, .int f.2.2.2.2])), (h6, .inl (X.2.1, 256, .inl f.1)), (h7, .inl (X.2.2.1, 256, .inl f.2.1)), (h8, .inl (X.2.2.2, 2048, .inl f.2.2.1)), (h9, .inl (X.2.1, 256, .inl f.2.2.2.1)), (h10, .inl (X.2.2.2, 8, .inl t.1))]) (W2 := fun _ : Unit => [(h0, .inr (0, [.ref h1, .ref h2, .ref h5, .ref h10, .int t.2])), (h2, .inr (2, [.ref h1, .ref h3, .ref h4, .int (((mv z (xs ((nI i) + 1).toNatClampNeg) (xs ((nI i) + 2).toNatClampNeg)).2).2.1), .int (((mv z (xs ((nI i) + 1).toNatClampNeg) (xs ((nI i) + 2).toNatClampNeg)).2).2.2.1), .int (((mv z (xs ((nI i) + 1).toNatClampNeg) (xs ((nI i) + 2).toNatClampNeg)).2).2.2.2.1)])), (h3, .inl (X.2.1, 8, .inl safeF)), (h4, .inl (X.2.1, 8, .inl (((mv z (xs ((nI i) + 1).toNatClampNeg) (xs ((nI i) + 2).toNatClampNeg)).2).1))), (h1, .inr (1, [.int (((mv z (xs ((nI i) + 1).toNatClampNeg) (xs ((nI i) + 2).toNatClampNeg)).2).2.2.2.2)])), (h5, .inr (3, [.ref h6, .ref h7, .ref h8, .ref h9, .int f.2.2.2.2])), (h6, .inl (X.2.1, 256, .inl f.1)), (h7, .inl (X.2.2.1, 256, .inl f.2.1)), (h8, .inl (X.2.2.2, 2048, .inl f.2.2.1)), (h9, .inl (X.2.1, 256, .inl f.2.2.2.1)), (h10, .inl (X.2.2.2, 8, .inl t.1)), (b0, .inr (4, [.int 0, .int (((mv z (xs ((nI i) + 1).toNatClampNeg) (xs ((nI i) + 2).toNatClampNeg)).2).2.1), .ref b1, .int (((mv z (xs ((nI i) + 1).toNatClampNeg) (xs ((nI i) + 2).toNatClampNeg)).2).2.2.1), .int (((mv z (xs ((nI i) + 1).toNatClampNeg) (xs ((nI i) + 2).toNatClampNeg)).2).2.2.2.1), .int (((mv z (xs ((nI i) + 1).toNatClampNeg) (xs ((nI i) + 2).toNatClampNeg)).2).2.2.2.2), .int t.2, .ref b2, .ref b3, .ref b4, .ref b5, .ref b6])), (b1, .inl (X.2.1, 8, .inl (((mv z (xs ((nI i) + 1).toNatClampNeg) (xs ((nI i) + 2).toNatClampNeg)).2).1))), (b2, .inl (X.2.1, 8, .inl t.1)), (b3, .inl (X.2.1, 256, .inl f.1)), (b4, .inl (X.2.2.1, 256, .inl f.2.1)), (b5, .inl (X.2.1, 256, .inl f.2.2.2.1)), (b6, .inl (X.2.1, 2048, .inl f.2.2.1))]) hC hw hl.1 (c_Mm_move l X b0 b1 b2 b3 b4 b5 b6 z f t (xs ((nI i) + 1).toNatClampNeg) (xs ((nI i) + 2).toNatClampNeg)) k_265 k_262 k_263 k_264 k_9 [11, 12, 13, 14, 15, 16, 17] [0, 1, 2, 3, 4, 5, 6, 7, 8, 9, 10] [0, 1, 2, 3, 4, 5, 6, 7, 8, 9, 10, 11, 12, 13, 14, 15, 16, 17] rfl rfl rfl rfl rfl rfl (by decide) rfl (fun _ => rfl) (by decide +kernel) ⟨by decide, by decide⟩ rfl (Nat.le_of_ble_eq_true rfl) ⟨by decide, by decide⟩ rfl d_law_121 (fun u H locs hw => ?_)
        refine W.eq (g2 := F0 m 124 ls [.int ((mv z (xs ((nI i) + 1).toNatClampNeg) (xs ((nI i) + 2).toNatClampNeg)).1), .int ((mv z (xs ((nI i) + 1).toNatClampNeg) (xs ((nI i) + 2).toNatClampNeg)).1)]) rfl ?_
        refine lv_icmp_eq (tgt := 448) hx hb d_law_124 (by decide) (fun c_124 => ?_) (fun c_124 => ?_)
        · refine lv_iinc (v := (nI i) + 3) (lv' := [(3, .int ((nI i) + 3)), (0, .ref b), (1, .ref h0), (2, .ref b0)]) hx hb d_law_448 hl (k := 0) rfl rfl (by decide) rfl (fun ls hl => ?_)
          refine lv_goto (tgt := 18) hx hb d_law_451 (by decide) ?_
          exact ih (i + 3) ((mv z (xs ((nI i) + 1).toNatClampNeg) (xs ((nI i) + 2).toNatClampNeg)).2) f t h0 h1 h2 h3 h4 h5 h6 h7 h8 h9 h10 b0 b1 b2 b3 b4 b5 b6 ls H locs (by omega) (by omega) hI (by rw [law_3] at hl; exact hl) hw
        · exact absurd rfl c_124
      by_cases e_1 : w = 1
      · refine lv_tableIn (off := 97) (tgt := 129) hx hb d_law_32 (by rw [e_1]; decide) (by rw [e_1]; decide) (by rw [e_1]; rfl) (by decide) ?_
        refine lv_aload_n hx hb d_law_129 rfl (lv_at hl 2 rfl) ?_
        refine lv_aload_n hx hb d_law_130 rfl (lv_at hl 1 rfl) ?_
        refine lv_iload_n hx hb d_law_131 rfl (lv_at hl 0 rfl) ?_
        refine lv_iconst (v := 1) hx hb d_law_132 (by decide) ?_
        refine lv_iadd hx hb d_law_133 ?_
        refine va_sld hx hb hX hbl hbA hw.2.2.1 (by rw [law_1]; exact vp_in_nI (by omega) (by omega)) d_law_134 ?_
        refine ct_callV (rest := []) (As := [.int (xs ((nI i) + 1).toNatClampNeg)]) (n := 1) (wr := [(b0, .inr (4, [.int 0, .int z.2.1, .ref b1, .int z.2.2.1, .int z.2.2.2.1, .int z.2.2.2.2, .int t.2, .ref b2, .ref b3, .ref b4, .ref b5, .ref b6])), (b1, .inl (X.2.1, 8, .inl z.1)), (b2, .inl (X.2.1, 8, .inl t.1)), (b3, .inl (X.2.1, 256, .inl f.1)), (b4, .inl (X.2.2.1, 256, .inl f.2.1)), (b5, .inl (X.2.1, 256, .inl f.2.2.2.1)), (b6, .inl (X.2.1, 2048, .inl f.2.2.1))]) (W2 := fun _ : Unit => [(h0, .inr (0, [.ref h1, .ref h2, .ref h5, .ref h10, .int t.2])), (h2, .inr (2, [.ref h1, .ref h3, .ref h4, .int (((en z (xs ((nI i) + 1).toNatClampNeg)).2).2.1), .int (((en z (xs ((nI i) + 1).toNatClampNeg)).2).2.2.1), .int (((en z (xs ((nI i) + 1).toNatClampNeg)).2).2.2.2.1)])), (h3, .inl (X.2.1, 8, .inl safeF)), (h4, .inl (X.2.1, 8, .inl (((en z (xs ((nI i) + 1).toNatClampNeg)).2).1))), (h1, .inr (1, [.int (((en z (xs ((nI i) + 1).toNatClampNeg)).2).2.2.2.2)])), (h5, .inr (3, [.ref h6, .ref h7, .ref h8, .ref h9, .int f.2.2.2.2])), (h6, .inl (X.2.1, 256, .inl f.1)), (h7, .inl (X.2.2.1, 256, .inl f.2.1)), (h8, .inl (X.2.2.2, 2048, .inl f.2.2.1)), (h9, .inl (X.2.1, 256, .inl f.2.2.2.1)), (h10, .inl (X.2.2.2, 8, .inl t.1)), (b0, .inr (4, [.int 0, .int z.2.1, .ref b1, .int z.2.2.1, .int z.2.2.2.1, .int z.2.2.2.2, .int t.2, .ref b2, .ref b3, .ref b4, .ref b5, .ref b6])), (b1, .inl (X.2.1, 8, .inl z.1)), (b2, .inl (X.2.1, 8, .inl t.1)), (b3, .inl (X.2.1, 256, .inl f.1)), (b4, .inl (X.2.2.1, 256, .inl f.2.1)), (b5, .inl (X.2.1, 256, .inl f.2.2.2.1)), (b6, .inl (X.2.1, 2048, .inl f.2.2.1))]) hC hw hl.1 (c_MK_enter l X h0 h1 h2 h3 h4 h5 h6 h7 h8 h9 h10 z f t (xs ((nI i) + 1).toNatClampNeg)) k_119 k_116 k_117 k_118 k_5 [0, 1, 2, 3, 4, 5, 6, 7, 8, 9, 10] [11, 12, 13, 14, 15, 16, 17] [7, 8, 9, 10, 11, 12, 13, 14, 15, 16, 17, 0, 1, 2, 3, 4, 5, 6] rfl rfl rfl rfl rfl rfl (by decide) rfl (fun _ => rfl) (by decide +kernel) ⟨by decide, by decide⟩ rfl (Nat.le_of_ble_eq_true rfl) ⟨by decide, by decide⟩ rfl d_law_135 (fun u H locs hw => ?_)
        refine W.eq (g2 := F0 m 138 ls [.int ((en z (xs ((nI i) + 1).toNatClampNeg)).1)]) rfl ?_
        refine lv_aload_n hx hb d_law_138 rfl (lv_at hl 3 rfl) ?_
        refine lv_aload_n hx hb d_law_139 rfl (lv_at hl 1 rfl) ?_
        refine lv_iload_n hx hb d_law_140 rfl (lv_at hl 0 rfl) ?_
        refine lv_iconst (v := 1) hx hb d_law_141 (by decide) ?_
        refine lv_iadd hx hb d_law_142 ?_
        refine va_sld hx hb hX hbl hbA hw.2.2.1 (by rw [law_1]; exact vp_in_nI (by omega) (by omega)) d_law_143 ?_
        refine ct_callV (rest := [.int ((en z (xs ((nI i) + 1).toNatClampNeg)).1)]) (As := [.int (xs ((nI i) + 1).toNatClampNeg)]) (n := 1) (wr := [(h0, .inr (0, [.ref h1, .ref h2, .ref h5, .ref h10, .int t.2])), (h2, .inr (2, [.ref h1, .ref h3, .ref h4, .int (((en z (xs ((nI i) + 1).toNatClampNeg)).2).2.1), .int (((en z (xs ((nI i) + 1).toNatClampNeg)).2).2.2.1), .int (((en z (xs ((nI i) + 1).toNatClampNeg)).2).2.2.2.1)])), (h3, .inl (X.2.1, 8, .inl safeF)), (h4, .inl (X.2.1, 8, .inl (((en z (xs ((nI i) + 1).toNatClampNeg)).2).1))), (h1, .inr (1, [.int (((en z (xs ((nI i) + 1).toNatClampNeg)).2).2.2.2.2)])), (h5, .inr (3, [.ref h6, .ref h7, .ref h8, .ref h9, .int f.2.2.2.2])), (h6, .inl (X.2.1, 256, .inl f.1)), (h7, .inl (X.2.2.1, 256, .inl f.2.1)), (h8, .inl (X.2.2.2, 2048, .inl f.2.2.1)), (h9, .inl (X.2.1, 256, .inl f.2.2.2.1)), (h10, .inl (X.2.2.2, 8, .inl t.1))]) (W2 := fun _ : Unit => [(h0, .inr (0, [.ref h1, .ref h2, .ref h5, .ref h10, .int t.2])), (h2, .inr (2, [.ref h1, .ref h3, .ref h4, .int (((en z (xs ((nI i) + 1).toNatClampNeg)).2).2.1), .int (((en z (xs ((nI i) + 1).toNatClampNeg)).2).2.2.1), .int (((en z (xs ((nI i) + 1).toNatClampNeg)).2).2.2.2.1)])), (h3, .inl (X.2.1, 8, .inl safeF)), (h4, .inl (X.2.1, 8, .inl (((en z (xs ((nI i) + 1).toNatClampNeg)).2).1))), (h1, .inr (1, [.int (((en z (xs ((nI i) + 1).toNatClampNeg)).2).2.2.2.2)])), (h5, .inr (3, [.ref h6, .ref h7, .ref h8, .ref h9, .int f.2.2.2.2])), (h6, .inl (X.2.1, 256, .inl f.1)), (h7, .inl (X.2.2.1, 256, .inl f.2.1)), (h8, .inl (X.2.2.2, 2048, .inl f.2.2.1)), (h9, .inl (X.2.1, 256, .inl f.2.2.2.1)), (h10, .inl (X.2.2.2, 8, .inl t.1)), (b0, .inr (4, [.int 0, .int (((en z (xs ((nI i) + 1).toNatClampNeg)).2).2.1), .ref b1, .int (((en z (xs ((nI i) + 1).toNatClampNeg)).2).2.2.1), .int (((en z (xs ((nI i) + 1).toNatClampNeg)).2).2.2.2.1), .int (((en z (xs ((nI i) + 1).toNatClampNeg)).2).2.2.2.2), .int t.2, .ref b2, .ref b3, .ref b4, .ref b5, .ref b6])), (b1, .inl (X.2.1, 8, .inl (((en z (xs ((nI i) + 1).toNatClampNeg)).2).1))), (b2, .inl (X.2.1, 8, .inl t.1)), (b3, .inl (X.2.1, 256, .inl f.1)), (b4, .inl (X.2.2.1, 256, .inl f.2.1)), (b5, .inl (X.2.1, 256, .inl f.2.2.2.1)), (b6, .inl (X.2.1, 2048, .inl f.2.2.1))]) hC hw hl.1 (c_Mm_enter l X b0 b1 b2 b3 b4 b5 b6 z f t (xs ((nI i) + 1).toNatClampNeg)) k_269 k_266 k_267 k_268 k_9 [11, 12, 13, 14, 15, 16, 17] [0, 1, 2, 3, 4, 5, 6, 7, 8, 9, 10] [0, 1, 2, 3, 4, 5, 6, 7, 8, 9, 10, 11, 12, 13, 14, 15, 16, 17] rfl rfl rfl rfl rfl rfl (by decide) rfl (fun _ => rfl) (by decide +kernel) ⟨by decide, by decide⟩ rfl (Nat.le_of_ble_eq_true rfl) ⟨by decide, by decide⟩ rfl d_law_144 (fun u H locs hw => ?_)
        refine W.eq (g2 := F0 m 147 ls [.int ((en z (xs ((nI i) + 1).toNatClampNeg)).1), .int ((en z (xs ((nI i) + 1).toNatClampNeg)).1)]) rfl ?_
        refine lv_icmp_eq (tgt := 448) hx hb d_law_147 (by decide) (fun c_147 => ?_) (fun c_147 => ?_)
        · refine lv_iinc (v := (nI i) + 3) (lv' := [(3, .int ((nI i) + 3)), (0, .ref b), (1, .ref h0), (2, .ref b0)]) hx hb d_law_448 hl (k := 0) rfl rfl (by decide) rfl (fun ls hl => ?_)
          refine lv_goto (tgt := 18) hx hb d_law_451 (by decide) ?_
          exact ih (i + 3) ((en z (xs ((nI i) + 1).toNatClampNeg)).2) f t h0 h1 h2 h3 h4 h5 h6 h7 h8 h9 h10 b0 b1 b2 b3 b4 b5 b6 ls H locs (by omega) (by omega) hI (by rw [law_3] at hl; exact hl) hw
        · exact absurd rfl c_147
      by_cases e_2 : w = 2
      · refine lv_tableIn (off := 120) (tgt := 152) hx hb d_law_32 (by rw [e_2]; decide) (by rw [e_2]; decide) (by rw [e_2]; rfl) (by decide) ?_
        refine lv_aload_n hx hb d_law_152 rfl (lv_at hl 2 rfl) ?_
        refine lv_aload_n hx hb d_law_153 rfl (lv_at hl 1 rfl) ?_
        refine lv_iload_n hx hb d_law_154 rfl (lv_at hl 0 rfl) ?_
        refine lv_iconst (v := 1) hx hb d_law_155 (by decide) ?_
        refine lv_iadd hx hb d_law_156 ?_
        refine va_sld hx hb hX hbl hbA hw.2.2.1 (by rw [law_1]; exact vp_in_nI (by omega) (by omega)) d_law_157 ?_
        refine ct_callV (rest := []) (As := [.int (xs ((nI i) + 1).toNatClampNeg)]) (n := 1) (wr := [(b0, .inr (4, [.int 0, .int z.2.1, .ref b1, .int z.2.2.1, .int z.2.2.2.1, .int z.2.2.2.2, .int t.2, .ref b2, .ref b3, .ref b4, .ref b5, .ref b6])), (b1, .inl (X.2.1, 8, .inl z.1)), (b2, .inl (X.2.1, 8, .inl t.1)), (b3, .inl (X.2.1, 256, .inl f.1)), (b4, .inl (X.2.2.1, 256, .inl f.2.1)), (b5, .inl (X.2.1, 256, .inl f.2.2.2.1)), (b6, .inl (X.2.1, 2048, .inl f.2.2.1))]) (W2 := fun _ : Unit => [(h0, .inr (0, [.ref h1, .ref h2, .ref h5, .ref h10, .int t.2])), (h2, .inr (2, [.ref h1, .ref h3, .ref h4, .int (((al z (xs ((nI i) + 1).toNatClampNeg)).2).2.1), .int (((al z (xs ((nI i) + 1).toNatClampNeg)).2).2.2.1), .int (((al z (xs ((nI i) + 1).toNatClampNeg)).2).2.2.2.1)])), (h3, .inl (X.2.1, 8, .inl safeF)), (h4, .inl (X.2.1, 8, .inl (((al z (xs ((nI i) + 1).toNatClampNeg)).2).1))), (h1, .inr (1, [.int (((al z (xs ((nI i) + 1).toNatClampNeg)).2).2.2.2.2)])), (h5, .inr (3, [.ref h6, .ref h7, .ref h8, .ref h9, .int f.2.2.2.2])), (h6, .inl (X.2.1, 256, .inl f.1)), (h7, .inl (X.2.2.1, 256, .inl f.2.1)), (h8, .inl (X.2.2.2, 2048, .inl f.2.2.1)), (h9, .inl (X.2.1, 256, .inl f.2.2.2.1)), (h10, .inl (X.2.2.2, 8, .inl t.1)), (b0, .inr (4, [.int 0, .int z.2.1, .ref b1, .int z.2.2.1, .int z.2.2.2.1, .int z.2.2.2.2, .int t.2, .ref b2, .ref b3, .ref b4, .ref b5, .ref b6])), (b1, .inl (X.2.1, 8, .inl z.1)), (b2, .inl (X.2.1, 8, .inl t.1)), (b3, .inl (X.2.1, 256, .inl f.1)), (b4, .inl (X.2.2.1, 256, .inl f.2.1)), (b5, .inl (X.2.1, 256, .inl f.2.2.2.1)), (b6, .inl (X.2.1, 2048, .inl f.2.2.1))]) hC hw hl.1 (c_MK_alarm l X h0 h1 h2 h3 h4 h5 h6 h7 h8 h9 h10 z f t (xs ((nI i) + 1).toNatClampNeg)) k_148 k_145 k_146 k_147 k_5 [0, 1, 2, 3, 4, 5, 6, 7, 8, 9, 10] [11, 12, 13, 14, 15, 16, 17] [7, 8, 9, 10, 11, 12, 13, 14, 15, 16, 17, 0, 1, 2, 3, 4, 5, 6] rfl rfl rfl rfl rfl rfl (by decide) rfl (fun _ => rfl) (by decide +kernel) ⟨by decide, by decide⟩ rfl (Nat.le_of_ble_eq_true rfl) ⟨by decide, by decide⟩ rfl d_law_158 (fun u H locs hw => ?_)
        refine W.eq (g2 := F0 m 161 ls [.int ((al z (xs ((nI i) + 1).toNatClampNeg)).1)]) rfl ?_
        refine lv_aload_n hx hb d_law_161 rfl (lv_at hl 3 rfl) ?_
        refine lv_aload_n hx hb d_law_162 rfl (lv_at hl 1 rfl) ?_
        refine lv_iload_n hx hb d_law_163 rfl (lv_at hl 0 rfl) ?_
        refine lv_iconst (v := 1) hx hb d_law_164 (by decide) ?_
        refine lv_iadd hx hb d_law_165 ?_
        refine va_sld hx hb hX hbl hbA hw.2.2.1 (by rw [law_1]; exact vp_in_nI (by omega) (by omega)) d_law_166 ?_
        refine ct_callV (rest := [.int ((al z (xs ((nI i) + 1).toNatClampNeg)).1)]) (As := [.int (xs ((nI i) + 1).toNatClampNeg)]) (n := 1) (wr := [(h0, .inr (0, [.ref h1, .ref h2, .ref h5, .ref h10, .int t.2])), (h2, .inr (2, [.ref h1, .ref h3, .ref h4, .int (((al z (xs ((nI i) + 1).toNatClampNeg)).2).2.1), .int (((al z (xs ((nI i) + 1).toNatClampNeg)).2).2.2.1), .int (((al z (xs ((nI i) + 1).toNatClampNeg)).2).2.2.2.1)])), (h3, .inl (X.2.1, 8, .inl safeF)), (h4, .inl (X.2.1, 8, .inl (((al z (xs ((nI i) + 1).toNatClampNeg)).2).1))), (h1, .inr (1, [.int (((al z (xs ((nI i) + 1).toNatClampNeg)).2).2.2.2.2)])), (h5, .inr (3, [.ref h6, .ref h7, .ref h8, .ref h9, .int f.2.2.2.2])), (h6, .inl (X.2.1, 256, .inl f.1)), (h7, .inl (X.2.2.1, 256, .inl f.2.1)), (h8, .inl (X.2.2.2, 2048, .inl f.2.2.1)), (h9, .inl (X.2.1, 256, .inl f.2.2.2.1)), (h10, .inl (X.2.2.2, 8, .inl t.1))]) (W2 := fun _ : Unit => [(h0, .inr (0, [.ref h1, .ref h2, .ref h5, .ref h10, .int t.2])), (h2, .inr (2, [.ref h1, .ref h3, .ref h4, .int (((al z (xs ((nI i) + 1).toNatClampNeg)).2).2.1), .int (((al z (xs ((nI i) + 1).toNatClampNeg)).2).2.2.1), .int (((al z (xs ((nI i) + 1).toNatClampNeg)).2).2.2.2.1)])), (h3, .inl (X.2.1, 8, .inl safeF)), (h4, .inl (X.2.1, 8, .inl (((al z (xs ((nI i) + 1).toNatClampNeg)).2).1))), (h1, .inr (1, [.int (((al z (xs ((nI i) + 1).toNatClampNeg)).2).2.2.2.2)])), (h5, .inr (3, [.ref h6, .ref h7, .ref h8, .ref h9, .int f.2.2.2.2])), (h6, .inl (X.2.1, 256, .inl f.1)), (h7, .inl (X.2.2.1, 256, .inl f.2.1)), (h8, .inl (X.2.2.2, 2048, .inl f.2.2.1)), (h9, .inl (X.2.1, 256, .inl f.2.2.2.1)), (h10, .inl (X.2.2.2, 8, .inl t.1)), (b0, .inr (4, [.int 0, .int (((al z (xs ((nI i) + 1).toNatClampNeg)).2).2.1), .ref b1, .int (((al z (xs ((nI i) + 1).toNatClampNeg)).2).2.2.1), .int (((al z (xs ((nI i) + 1).toNatClampNeg)).2).2.2.2.1), .int (((al z (xs ((nI i) + 1).toNatClampNeg)).2).2.2.2.2), .int t.2, .ref b2, .ref b3, .ref b4, .ref b5, .ref b6])), (b1, .inl (X.2.1, 8, .inl (((al z (xs ((nI i) + 1).toNatClampNeg)).2).1))), (b2, .inl (X.2.1, 8, .inl t.1)), (b3, .inl (X.2.1, 256, .inl f.1)), (b4, .inl (X.2.2.1, 256, .inl f.2.1)), (b5, .inl (X.2.1, 256, .inl f.2.2.2.1)), (b6, .inl (X.2.1, 2048, .inl f.2.2.1))]) hC hw hl.1 (c_Mm_alarm l X b0 b1 b2 b3 b4 b5 b6 z f t (xs ((nI i) + 1).toNatClampNeg)) k_277 k_274 k_275 k_276 k_9 [11, 12, 13, 14, 15, 16, 17] [0, 1, 2, 3, 4, 5, 6, 7, 8, 9, 10] [0, 1, 2, 3, 4, 5, 6, 7, 8, 9, 10, 11, 12, 13, 14, 15, 16, 17] rfl rfl rfl rfl rfl rfl (by decide) rfl (fun _ => rfl) (by decide +kernel) ⟨by decide, by decide⟩ rfl (Nat.le_of_ble_eq_true rfl) ⟨by decide, by decide⟩ rfl d_law_167 (fun u H locs hw => ?_)
        refine W.eq (g2 := F0 m 170 ls [.int ((al z (xs ((nI i) + 1).toNatClampNeg)).1), .int ((al z (xs ((nI i) + 1).toNatClampNeg)).1)]) rfl ?_
        refine lv_icmp_eq (tgt := 448) hx hb d_law_170 (by decide) (fun c_170 => ?_) (fun c_170 => ?_)
        · refine lv_iinc (v := (nI i) + 3) (lv' := [(3, .int ((nI i) + 3)), (0, .ref b), (1, .ref h0), (2, .ref b0)]) hx hb d_law_448 hl (k := 0) rfl rfl (by decide) rfl (fun ls hl => ?_)
          refine lv_goto (tgt := 18) hx hb d_law_451 (by decide) ?_
          exact ih (i + 3) ((al z (xs ((nI i) + 1).toNatClampNeg)).2) f t h0 h1 h2 h3 h4 h5 h6 h7 h8 h9 h10 b0 b1 b2 b3 b4 b5 b6 ls H locs (by omega) (by omega) hI (by rw [law_3] at hl; exact hl) hw
        · exact absurd rfl c_170
      by_cases e_3 : w = 3
      · refine lv_tableIn (off := 143) (tgt := 175) hx hb d_law_32 (by rw [e_3]; decide) (by rw [e_3]; decide) (by rw [e_3]; rfl) (by decide) ?_
        refine lv_aload_n hx hb d_law_175 rfl (lv_at hl 2 rfl) ?_
        refine lv_aload_n hx hb d_law_176 rfl (lv_at hl 1 rfl) ?_
        refine lv_iload_n hx hb d_law_177 rfl (lv_at hl 0 rfl) ?_
        refine lv_iconst (v := 1) hx hb d_law_178 (by decide) ?_
        refine lv_iadd hx hb d_law_179 ?_
        refine va_sld hx hb hX hbl hbA hw.2.2.1 (by rw [law_1]; exact vp_in_nI (by omega) (by omega)) d_law_180 ?_
        refine ct_callV (rest := []) (As := [.int (xs ((nI i) + 1).toNatClampNeg)]) (n := 1) (wr := [(b0, .inr (4, [.int 0, .int z.2.1, .ref b1, .int z.2.2.1, .int z.2.2.2.1, .int z.2.2.2.2, .int t.2, .ref b2, .ref b3, .ref b4, .ref b5, .ref b6])), (b1, .inl (X.2.1, 8, .inl z.1)), (b2, .inl (X.2.1, 8, .inl t.1)), (b3, .inl (X.2.1, 256, .inl f.1)), (b4, .inl (X.2.2.1, 256, .inl f.2.1)), (b5, .inl (X.2.1, 256, .inl f.2.2.2.1)), (b6, .inl (X.2.1, 2048, .inl f.2.2.1))]) (W2 := fun _ : Unit => [(h0, .inr (0, [.ref h1, .ref h2, .ref h5, .ref h10, .int t.2])), (h2, .inr (2, [.ref h1, .ref h3, .ref h4, .int (((lk z (xs ((nI i) + 1).toNatClampNeg)).2).2.1), .int (((lk z (xs ((nI i) + 1).toNatClampNeg)).2).2.2.1), .int (((lk z (xs ((nI i) + 1).toNatClampNeg)).2).2.2.2.1)])), (h3, .inl (X.2.1, 8, .inl safeF)), (h4, .inl (X.2.1, 8, .inl (((lk z (xs ((nI i) + 1).toNatClampNeg)).2).1))), (h1, .inr (1, [.int (((lk z (xs ((nI i) + 1).toNatClampNeg)).2).2.2.2.2)])), (h5, .inr (3, [.ref h6, .ref h7, .ref h8, .ref h9, .int f.2.2.2.2])), (h6, .inl (X.2.1, 256, .inl f.1)), (h7, .inl (X.2.2.1, 256, .inl f.2.1)), (h8, .inl (X.2.2.2, 2048, .inl f.2.2.1)), (h9, .inl (X.2.1, 256, .inl f.2.2.2.1)), (h10, .inl (X.2.2.2, 8, .inl t.1)), (b0, .inr (4, [.int 0, .int z.2.1, .ref b1, .int z.2.2.1, .int z.2.2.2.1, .int z.2.2.2.2, .int t.2, .ref b2, .ref b3, .ref b4, .ref b5, .ref b6])), (b1, .inl (X.2.1, 8, .inl z.1)), (b2, .inl (X.2.1, 8, .inl t.1)), (b3, .inl (X.2.1, 256, .inl f.1)), (b4, .inl (X.2.2.1, 256, .inl f.2.1)), (b5, .inl (X.2.1, 256, .inl f.2.2.2.1)), (b6, .inl (X.2.1, 2048, .inl f.2.2.1))]) hC hw hl.1 (c_MK_look l X h0 h1 h2 h3 h4 h5 h6 h7 h8 h9 h10 z f t (xs ((nI i) + 1).toNatClampNeg)) k_156 k_153 k_154 k_155 k_5 [0, 1, 2, 3, 4, 5, 6, 7, 8, 9, 10] [11, 12, 13, 14, 15, 16, 17] [7, 8, 9, 10, 11, 12, 13, 14, 15, 16, 17, 0, 1, 2, 3, 4, 5, 6] rfl rfl rfl rfl rfl rfl (by decide) rfl (fun _ => rfl) (by decide +kernel) ⟨by decide, by decide⟩ rfl (Nat.le_of_ble_eq_true rfl) ⟨by decide, by decide⟩ rfl d_law_181 (fun u H locs hw => ?_)
        refine W.eq (g2 := F0 m 184 ls [.int ((lk z (xs ((nI i) + 1).toNatClampNeg)).1)]) rfl ?_
        refine lv_aload_n hx hb d_law_184 rfl (lv_at hl 3 rfl) ?_
        refine lv_aload_n hx hb d_law_185 rfl (lv_at hl 1 rfl) ?_
        refine lv_iload_n hx hb d_law_186 rfl (lv_at hl 0 rfl) ?_
        refine lv_iconst (v := 1) hx hb d_law_187 (by decide) ?_
        refine lv_iadd hx hb d_law_188 ?_
        refine va_sld hx hb hX hbl hbA hw.2.2.1 (by rw [law_1]; exact vp_in_nI (by omega) (by omega)) d_law_189 ?_
        refine ct_callV (rest := [.int ((lk z (xs ((nI i) + 1).toNatClampNeg)).1)]) (As := [.int (xs ((nI i) + 1).toNatClampNeg)]) (n := 1) (wr := [(h0, .inr (0, [.ref h1, .ref h2, .ref h5, .ref h10, .int t.2])), (h2, .inr (2, [.ref h1, .ref h3, .ref h4, .int (((lk z (xs ((nI i) + 1).toNatClampNeg)).2).2.1), .int (((lk z (xs ((nI i) + 1).toNatClampNeg)).2).2.2.1), .int (((lk z (xs ((nI i) + 1).toNatClampNeg)).2).2.2.2.1)])), (h3, .inl (X.2.1, 8, .inl safeF)), (h4, .inl (X.2.1, 8, .inl (((lk z (xs ((nI i) + 1).toNatClampNeg)).2).1))), (h1, .inr (1, [.int (((lk z (xs ((nI i) + 1).toNatClampNeg)).2).2.2.2.2)])), (h5, .inr (3, [.ref h6, .ref h7, .ref h8, .ref h9, .int f.2.2.2.2])), (h6, .inl (X.2.1, 256, .inl f.1)), (h7, .inl (X.2.2.1, 256, .inl f.2.1)), (h8, .inl (X.2.2.2, 2048, .inl f.2.2.1)), (h9, .inl (X.2.1, 256, .inl f.2.2.2.1)), (h10, .inl (X.2.2.2, 8, .inl t.1))]) (W2 := fun _ : Unit => [(h0, .inr (0, [.ref h1, .ref h2, .ref h5, .ref h10, .int t.2])), (h2, .inr (2, [.ref h1, .ref h3, .ref h4, .int (((lk z (xs ((nI i) + 1).toNatClampNeg)).2).2.1), .int (((lk z (xs ((nI i) + 1).toNatClampNeg)).2).2.2.1), .int (((lk z (xs ((nI i) + 1).toNatClampNeg)).2).2.2.2.1)])), (h3, .inl (X.2.1, 8, .inl safeF)), (h4, .inl (X.2.1, 8, .inl (((lk z (xs ((nI i) + 1).toNatClampNeg)).2).1))), (h1, .inr (1, [.int (((lk z (xs ((nI i) + 1).toNatClampNeg)).2).2.2.2.2)])), (h5, .inr (3, [.ref h6, .ref h7, .ref h8, .ref h9, .int f.2.2.2.2])), (h6, .inl (X.2.1, 256, .inl f.1)), (h7, .inl (X.2.2.1, 256, .inl f.2.1)), (h8, .inl (X.2.2.2, 2048, .inl f.2.2.1)), (h9, .inl (X.2.1, 256, .inl f.2.2.2.1)), (h10, .inl (X.2.2.2, 8, .inl t.1)), (b0, .inr (4, [.int 0, .int (((lk z (xs ((nI i) + 1).toNatClampNeg)).2).2.1), .ref b1, .int (((lk z (xs ((nI i) + 1).toNatClampNeg)).2).2.2.1), .int (((lk z (xs ((nI i) + 1).toNatClampNeg)).2).2.2.2.1), .int (((lk z (xs ((nI i) + 1).toNatClampNeg)).2).2.2.2.2), .int t.2, .ref b2, .ref b3, .ref b4, .ref b5, .ref b6])), (b1, .inl (X.2.1, 8, .inl (((lk z (xs ((nI i) + 1).toNatClampNeg)).2).1))), (b2, .inl (X.2.1, 8, .inl t.1)), (b3, .inl (X.2.1, 256, .inl f.1)), (b4, .inl (X.2.2.1, 256, .inl f.2.1)), (b5, .inl (X.2.1, 256, .inl f.2.2.2.1)), (b6, .inl (X.2.1, 2048, .inl f.2.2.1))]) hC hw hl.1 (c_Mm_look l X b0 b1 b2 b3 b4 b5 b6 z f t (xs ((nI i) + 1).toNatClampNeg)) k_281 k_278 k_279 k_280 k_9 [11, 12, 13, 14, 15, 16, 17] [0, 1, 2, 3, 4, 5, 6, 7, 8, 9, 10] [0, 1, 2, 3, 4, 5, 6, 7, 8, 9, 10, 11, 12, 13, 14, 15, 16, 17] rfl rfl rfl rfl rfl rfl (by decide) rfl (fun _ => rfl) (by decide +kernel) ⟨by decide, by decide⟩ rfl (Nat.le_of_ble_eq_true rfl) ⟨by decide, by decide⟩ rfl d_law_190 (fun u H locs hw => ?_)
        refine W.eq (g2 := F0 m 193 ls [.int ((lk z (xs ((nI i) + 1).toNatClampNeg)).1), .int ((lk z (xs ((nI i) + 1).toNatClampNeg)).1)]) rfl ?_
        refine lv_icmp_eq (tgt := 448) hx hb d_law_193 (by decide) (fun c_193 => ?_) (fun c_193 => ?_)
        · refine lv_iinc (v := (nI i) + 3) (lv' := [(3, .int ((nI i) + 3)), (0, .ref b), (1, .ref h0), (2, .ref b0)]) hx hb d_law_448 hl (k := 0) rfl rfl (by decide) rfl (fun ls hl => ?_)
          refine lv_goto (tgt := 18) hx hb d_law_451 (by decide) ?_
          exact ih (i + 3) ((lk z (xs ((nI i) + 1).toNatClampNeg)).2) f t h0 h1 h2 h3 h4 h5 h6 h7 h8 h9 h10 b0 b1 b2 b3 b4 b5 b6 ls H locs (by omega) (by omega) hI (by rw [law_3] at hl; exact hl) hw
        · exact absurd rfl c_193
      by_cases e_4 : w = 4
      · refine lv_tableIn (off := 166) (tgt := 198) hx hb d_law_32 (by rw [e_4]; decide) (by rw [e_4]; decide) (by rw [e_4]; rfl) (by decide) ?_
        refine lv_aload_n hx hb d_law_198 rfl (lv_at hl 2 rfl) ?_
        refine lv_aload_n hx hb d_law_199 rfl (lv_at hl 1 rfl) ?_
        refine lv_iload_n hx hb d_law_200 rfl (lv_at hl 0 rfl) ?_
        refine lv_iconst (v := 1) hx hb d_law_201 (by decide) ?_
        refine lv_iadd hx hb d_law_202 ?_
        refine va_sld hx hb hX hbl hbA hw.2.2.1 (by rw [law_1]; exact vp_in_nI (by omega) (by omega)) d_law_203 ?_
        refine ct_callV (rest := []) (As := [.int (xs ((nI i) + 1).toNatClampNeg)]) (n := 1) (wr := [(b0, .inr (4, [.int 0, .int z.2.1, .ref b1, .int z.2.2.1, .int z.2.2.2.1, .int z.2.2.2.2, .int t.2, .ref b2, .ref b3, .ref b4, .ref b5, .ref b6])), (b1, .inl (X.2.1, 8, .inl z.1)), (b2, .inl (X.2.1, 8, .inl t.1)), (b3, .inl (X.2.1, 256, .inl f.1)), (b4, .inl (X.2.2.1, 256, .inl f.2.1)), (b5, .inl (X.2.1, 256, .inl f.2.2.2.1)), (b6, .inl (X.2.1, 2048, .inl f.2.2.1))]) (W2 := fun _ : Unit => [(h0, .inr (0, [.ref h1, .ref h2, .ref h5, .ref h10, .int (((pt t (xs ((nI i) + 1).toNatClampNeg)).2).2)])), (h2, .inr (2, [.ref h1, .ref h3, .ref h4, .int z.2.1, .int z.2.2.1, .int z.2.2.2.1])), (h3, .inl (X.2.1, 8, .inl safeF)), (h4, .inl (X.2.1, 8, .inl z.1)), (h1, .inr (1, [.int z.2.2.2.2])), (h5, .inr (3, [.ref h6, .ref h7, .ref h8, .ref h9, .int f.2.2.2.2])), (h6, .inl (X.2.1, 256, .inl f.1)), (h7, .inl (X.2.2.1, 256, .inl f.2.1)), (h8, .inl (X.2.2.2, 2048, .inl f.2.2.1)), (h9, .inl (X.2.1, 256, .inl f.2.2.2.1)), (h10, .inl (X.2.2.2, 8, .inl (((pt t (xs ((nI i) + 1).toNatClampNeg)).2).1))), (b0, .inr (4, [.int 0, .int z.2.1, .ref b1, .int z.2.2.1, .int z.2.2.2.1, .int z.2.2.2.2, .int t.2, .ref b2, .ref b3, .ref b4, .ref b5, .ref b6])), (b1, .inl (X.2.1, 8, .inl z.1)), (b2, .inl (X.2.1, 8, .inl t.1)), (b3, .inl (X.2.1, 256, .inl f.1)), (b4, .inl (X.2.2.1, 256, .inl f.2.1)), (b5, .inl (X.2.1, 256, .inl f.2.2.2.1)), (b6, .inl (X.2.1, 2048, .inl f.2.2.1))]) hC hw hl.1 (c_MK_put l X h0 h1 h2 h3 h4 h5 h6 h7 h8 h9 h10 z f t (xs ((nI i) + 1).toNatClampNeg) hI) k_164 k_161 k_162 k_163 k_5 [0, 1, 2, 3, 4, 5, 6, 7, 8, 9, 10] [11, 12, 13, 14, 15, 16, 17] [7, 8, 9, 10, 11, 12, 13, 14, 15, 16, 17, 0, 1, 2, 3, 4, 5, 6] rfl rfl rfl rfl rfl rfl (by decide) rfl (fun _ => rfl) (by decide +kernel) ⟨by decide, by decide⟩ rfl (Nat.le_of_ble_eq_true rfl) ⟨by decide, by decide⟩ rfl d_law_204 (fun u H locs hw => ?_)
        refine W.eq (g2 := F0 m 207 ls [.int ((pt t (xs ((nI i) + 1).toNatClampNeg)).1)]) rfl ?_
        refine lv_aload_n hx hb d_law_207 rfl (lv_at hl 3 rfl) ?_
        refine lv_aload_n hx hb d_law_208 rfl (lv_at hl 1 rfl) ?_
        refine lv_iload_n hx hb d_law_209 rfl (lv_at hl 0 rfl) ?_
        refine lv_iconst (v := 1) hx hb d_law_210 (by decide) ?_
        refine lv_iadd hx hb d_law_211 ?_
        refine va_sld hx hb hX hbl hbA hw.2.2.1 (by rw [law_1]; exact vp_in_nI (by omega) (by omega)) d_law_212 ?_
        refine ct_callV (rest := [.int ((pt t (xs ((nI i) + 1).toNatClampNeg)).1)]) (As := [.int (xs ((nI i) + 1).toNatClampNeg)]) (n := 1) (wr := [(h0, .inr (0, [.ref h1, .ref h2, .ref h5, .ref h10, .int (((pt t (xs ((nI i) + 1).toNatClampNeg)).2).2)])), (h2, .inr (2, [.ref h1, .ref h3, .ref h4, .int z.2.1, .int z.2.2.1, .int z.2.2.2.1])), (h3, .inl (X.2.1, 8, .inl safeF)), (h4, .inl (X.2.1, 8, .inl z.1)), (h1, .inr (1, [.int z.2.2.2.2])), (h5, .inr (3, [.ref h6, .ref h7, .ref h8, .ref h9, .int f.2.2.2.2])), (h6, .inl (X.2.1, 256, .inl f.1)), (h7, .inl (X.2.2.1, 256, .inl f.2.1)), (h8, .inl (X.2.2.2, 2048, .inl f.2.2.1)), (h9, .inl (X.2.1, 256, .inl f.2.2.2.1)), (h10, .inl (X.2.2.2, 8, .inl (((pt t (xs ((nI i) + 1).toNatClampNeg)).2).1)))]) (W2 := fun _ : Unit => [(h0, .inr (0, [.ref h1, .ref h2, .ref h5, .ref h10, .int (((pt t (xs ((nI i) + 1).toNatClampNeg)).2).2)])), (h2, .inr (2, [.ref h1, .ref h3, .ref h4, .int z.2.1, .int z.2.2.1, .int z.2.2.2.1])), (h3, .inl (X.2.1, 8, .inl safeF)), (h4, .inl (X.2.1, 8, .inl z.1)), (h1, .inr (1, [.int z.2.2.2.2])), (h5, .inr (3, [.ref h6, .ref h7, .ref h8, .ref h9, .int f.2.2.2.2])), (h6, .inl (X.2.1, 256, .inl f.1)), (h7, .inl (X.2.2.1, 256, .inl f.2.1)), (h8, .inl (X.2.2.2, 2048, .inl f.2.2.1)), (h9, .inl (X.2.1, 256, .inl f.2.2.2.1)), (h10, .inl (X.2.2.2, 8, .inl (((pt t (xs ((nI i) + 1).toNatClampNeg)).2).1))), (b0, .inr (4, [.int 0, .int z.2.1, .ref b1, .int z.2.2.1, .int z.2.2.2.1, .int z.2.2.2.2, .int (((pt t (xs ((nI i) + 1).toNatClampNeg)).2).2), .ref b2, .ref b3, .ref b4, .ref b5, .ref b6])), (b1, .inl (X.2.1, 8, .inl z.1)), (b2, .inl (X.2.1, 8, .inl (((pt t (xs ((nI i) + 1).toNatClampNeg)).2).1))), (b3, .inl (X.2.1, 256, .inl f.1)), (b4, .inl (X.2.2.1, 256, .inl f.2.1)), (b5, .inl (X.2.1, 256, .inl f.2.2.2.1)), (b6, .inl (X.2.1, 2048, .inl f.2.2.1))]) hC hw hl.1 (c_Mm_put l X b0 b1 b2 b3 b4 b5 b6 z f t (xs ((nI i) + 1).toNatClampNeg) hI) k_285 k_282 k_283 k_284 k_9 [11, 12, 13, 14, 15, 16, 17] [0, 1, 2, 3, 4, 5, 6, 7, 8, 9, 10] [0, 1, 2, 3, 4, 5, 6, 7, 8, 9, 10, 11, 12, 13, 14, 15, 16, 17] rfl rfl rfl rfl rfl rfl (by decide) rfl (fun _ => rfl) (by decide +kernel) ⟨by decide, by decide⟩ rfl (Nat.le_of_ble_eq_true rfl) ⟨by decide, by decide⟩ rfl d_law_213 (fun u H locs hw => ?_)
        refine W.eq (g2 := F0 m 216 ls [.int ((pt t (xs ((nI i) + 1).toNatClampNeg)).1), .int ((pt t (xs ((nI i) + 1).toNatClampNeg)).1)]) rfl ?_
        refine lv_icmp_eq (tgt := 448) hx hb d_law_216 (by decide) (fun c_216 => ?_) (fun c_216 => ?_)
        · refine lv_iinc (v := (nI i) + 3) (lv' := [(3, .int ((nI i) + 3)), (0, .ref b), (1, .ref h0), (2, .ref b0)]) hx hb d_law_448 hl (k := 0) rfl rfl (by decide) rfl (fun ls hl => ?_)
          refine lv_goto (tgt := 18) hx hb d_law_451 (by decide) ?_
          exact ih (i + 3) z f ((pt t (xs ((nI i) + 1).toNatClampNeg)).2) h0 h1 h2 h3 h4 h5 h6 h7 h8 h9 h10 b0 b1 b2 b3 b4 b5 b6 ls H locs (by omega) (by omega) (inv_pt _ hI) (by rw [law_3] at hl; exact hl) hw
        · exact absurd rfl c_216
      by_cases e_5 : w = 5
      · refine lv_tableIn (off := 189) (tgt := 221) hx hb d_law_32 (by rw [e_5]; decide) (by rw [e_5]; decide) (by rw [e_5]; rfl) (by decide) ?_
        refine lv_aload_n hx hb d_law_221 rfl (lv_at hl 2 rfl) ?_
        refine lv_aload_n hx hb d_law_222 rfl (lv_at hl 1 rfl) ?_
        refine lv_iload_n hx hb d_law_223 rfl (lv_at hl 0 rfl) ?_
        refine lv_iconst (v := 1) hx hb d_law_224 (by decide) ?_
        refine lv_iadd hx hb d_law_225 ?_
        refine va_sld hx hb hX hbl hbA hw.2.2.1 (by rw [law_1]; exact vp_in_nI (by omega) (by omega)) d_law_226 ?_
        refine lv_aload_n hx hb d_law_227 rfl (lv_at hl 1 rfl) ?_
        refine lv_iload_n hx hb d_law_228 rfl (lv_at hl 0 rfl) ?_
        refine lv_iconst (v := 2) hx hb d_law_229 (by decide) ?_
        refine lv_iadd hx hb d_law_230 ?_
        refine va_sld hx hb hX hbl hbA hw.2.2.1 (by rw [law_2]; exact vp_in_nI (by omega) (by omega)) d_law_231 ?_
        refine ct_callV (rest := []) (As := [.int (xs ((nI i) + 1).toNatClampNeg), .int (xs ((nI i) + 2).toNatClampNeg)]) (n := 2) (wr := [(b0, .inr (4, [.int 0, .int z.2.1, .ref b1, .int z.2.2.1, .int z.2.2.2.1, .int z.2.2.2.2, .int t.2, .ref b2, .ref b3, .ref b4, .ref b5, .ref b6])), (b1, .inl (X.2.1, 8, .inl z.1)), (b2, .inl (X.2.1, 8, .inl t.1)), (b3, .inl (X.2.1, 256, .inl f.1)), (b4, .inl (X.2.2.1, 256, .inl f.2.1)), (b5, .inl (X.2.1, 256, .inl f.2.2.2.1)), (b6, .inl (X.2.1, 2048, .inl f.2.2.1))]) (W2 := fun _ : Unit => [(h0, .inr (0, [.ref h1, .ref h2, .ref h5, .ref h10, .int 0])), (h2, .inr (2, [.ref h1, .ref h3, .ref h4, .int z.2.1, .int z.2.2.1, .int z.2.2.2.1])), (h3, .inl (X.2.1, 8, .inl safeF)), (h4, .inl (X.2.1, 8, .inl z.1)), (h1, .inr (1, [.int z.2.2.2.2])), (h5, .inr (3, [.ref h6, .ref h7, .ref h8, .ref h9, .int (((ad f (xs ((nI i) + 1).toNatClampNeg) (xs ((nI i) + 2).toNatClampNeg) t.1 t.2).2).2.2.2.2)])), (h6, .inl (X.2.1, 256, .inl (((ad f (xs ((nI i) + 1).toNatClampNeg) (xs ((nI i) + 2).toNatClampNeg) t.1 t.2).2).1))), (h7, .inl (X.2.2.1, 256, .inl (((ad f (xs ((nI i) + 1).toNatClampNeg) (xs ((nI i) + 2).toNatClampNeg) t.1 t.2).2).2.1))), (h8, .inl (X.2.2.2, 2048, .inl (((ad f (xs ((nI i) + 1).toNatClampNeg) (xs ((nI i) + 2).toNatClampNeg) t.1 t.2).2).2.2.1))), (h9, .inl (X.2.1, 256, .inl (((ad f (xs ((nI i) + 1).toNatClampNeg) (xs ((nI i) + 2).toNatClampNeg) t.1 t.2).2).2.2.2.1))), (h10, .inl (X.2.2.2, 8, .inl t.1)), (b0, .inr (4, [.int 0, .int z.2.1, .ref b1, .int z.2.2.1, .int z.2.2.2.1, .int z.2.2.2.2, .int t.2, .ref b2, .ref b3, .ref b4, .ref b5, .ref b6])), (b1, .inl (X.2.1, 8, .inl z.1)), (b2, .inl (X.2.1, 8, .inl t.1)), (b3, .inl (X.2.1, 256, .inl f.1)), (b4, .inl (X.2.2.1, 256, .inl f.2.1)), (b5, .inl (X.2.1, 256, .inl f.2.2.2.1)), (b6, .inl (X.2.1, 2048, .inl f.2.2.1))]) hC hw hl.1 (c_MK_form l X h0 h1 h2 h3 h4 h5 h6 h7 h8 h9 h10 z f t (xs ((nI i) + 1).toNatClampNeg) (xs ((nI i) + 2).toNatClampNeg) hI) k_168 k_165 k_166 k_167 k_5 [0, 1, 2, 3, 4, 5, 6, 7, 8, 9, 10] [11, 12, 13, 14, 15, 16, 17] [7, 8, 9, 10, 11, 12, 13, 14, 15, 16, 17, 0, 1, 2, 3, 4, 5, 6] rfl rfl rfl rfl rfl rfl (by decide) rfl (fun _ => rfl) (by decide +kernel) ⟨by decide, by decide⟩ rfl (Nat.le_of_ble_eq_true rfl) ⟨by decide, by decide⟩ rfl d_law_232 (fun u H locs hw => ?_)
        refine W.eq (g2 := F0 m 235 ls [.int ((ad f (xs ((nI i) + 1).toNatClampNeg) (xs ((nI i) + 2).toNatClampNeg) t.1 t.2).1)]) rfl ?_
        refine lv_aload_n hx hb d_law_235 rfl (lv_at hl 3 rfl) ?_
        refine lv_aload_n hx hb d_law_236 rfl (lv_at hl 1 rfl) ?_
        refine lv_iload_n hx hb d_law_237 rfl (lv_at hl 0 rfl) ?_
        refine lv_iconst (v := 1) hx hb d_law_238 (by decide) ?_
        refine lv_iadd hx hb d_law_239 ?_
        refine va_sld hx hb hX hbl hbA hw.2.2.1 (by rw [law_1]; exact vp_in_nI (by omega) (by omega)) d_law_240 ?_
        refine lv_aload_n hx hb d_law_241 rfl (lv_at hl 1 rfl) ?_
        refine lv_iload_n hx hb d_law_242 rfl (lv_at hl 0 rfl) ?_
        refine lv_iconst (v := 2) hx hb d_law_243 (by decide) ?_
        refine lv_iadd hx hb d_law_244 ?_
        refine va_sld hx hb hX hbl hbA hw.2.2.1 (by rw [law_2]; exact vp_in_nI (by omega) (by omega)) d_law_245 ?_
        refine ct_callV (rest := [.int ((ad f (xs ((nI i) + 1).toNatClampNeg) (xs ((nI i) + 2).toNatClampNeg) t.1 t.2).1)]) (As := [.int (xs ((nI i) + 1).toNatClampNeg), .int (xs ((nI i) + 2).toNatClampNeg)]) (n := 2) (wr := [(h0, .inr (0, [.ref h1, .ref h2, .ref h5, .ref h10, .int 0])), (h2, .inr (2, [.ref h1, .ref h3, .ref h4, .int z.2.1, .int z.2.2.1, .int z.2.2.2.1])), (h3, .inl (X.2.1, 8, .inl safeF)), (h4, .inl (X.2.1, 8, .inl z.1)), (h1, .inr (1, [.int z.2.2.2.2])), (h5, .inr (3, [.ref h6, .ref h7, .ref h8, .ref h9, .int (((ad f (xs ((nI i) + 1).toNatClampNeg) (xs ((nI i) + 2).toNatClampNeg) t.1 t.2).2).2.2.2.2)])), (h6, .inl (X.2.1, 256, .inl (((ad f (xs ((nI i) + 1).toNatClampNeg) (xs ((nI i) + 2).toNatClampNeg) t.1 t.2).2).1))), (h7, .inl (X.2.2.1, 256, .inl (((ad f (xs ((nI i) + 1).toNatClampNeg) (xs ((nI i) + 2).toNatClampNeg) t.1 t.2).2).2.1))), (h8, .inl (X.2.2.2, 2048, .inl (((ad f (xs ((nI i) + 1).toNatClampNeg) (xs ((nI i) + 2).toNatClampNeg) t.1 t.2).2).2.2.1))), (h9, .inl (X.2.1, 256, .inl (((ad f (xs ((nI i) + 1).toNatClampNeg) (xs ((nI i) + 2).toNatClampNeg) t.1 t.2).2).2.2.2.1))), (h10, .inl (X.2.2.2, 8, .inl t.1))]) (W2 := fun _ : Unit => [(h0, .inr (0, [.ref h1, .ref h2, .ref h5, .ref h10, .int 0])), (h2, .inr (2, [.ref h1, .ref h3, .ref h4, .int z.2.1, .int z.2.2.1, .int z.2.2.2.1])), (h3, .inl (X.2.1, 8, .inl safeF)), (h4, .inl (X.2.1, 8, .inl z.1)), (h1, .inr (1, [.int z.2.2.2.2])), (h5, .inr (3, [.ref h6, .ref h7, .ref h8, .ref h9, .int (((ad f (xs ((nI i) + 1).toNatClampNeg) (xs ((nI i) + 2).toNatClampNeg) t.1 t.2).2).2.2.2.2)])), (h6, .inl (X.2.1, 256, .inl (((ad f (xs ((nI i) + 1).toNatClampNeg) (xs ((nI i) + 2).toNatClampNeg) t.1 t.2).2).1))), (h7, .inl (X.2.2.1, 256, .inl (((ad f (xs ((nI i) + 1).toNatClampNeg) (xs ((nI i) + 2).toNatClampNeg) t.1 t.2).2).2.1))), (h8, .inl (X.2.2.2, 2048, .inl (((ad f (xs ((nI i) + 1).toNatClampNeg) (xs ((nI i) + 2).toNatClampNeg) t.1 t.2).2).2.2.1))), (h9, .inl (X.2.1, 256, .inl (((ad f (xs ((nI i) + 1).toNatClampNeg) (xs ((nI i) + 2).toNatClampNeg) t.1 t.2).2).2.2.2.1))), (h10, .inl (X.2.2.2, 8, .inl t.1)), (b0, .inr (4, [.int 0, .int z.2.1, .ref b1, .int z.2.2.1, .int z.2.2.2.1, .int z.2.2.2.2, .int 0, .ref b2, .ref b3, .ref b4, .ref b5, .ref b6])), (b1, .inl (X.2.1, 8, .inl z.1)), (b2, .inl (X.2.1, 8, .inl t.1)), (b3, .inl (X.2.1, 256, .inl (((ad f (xs ((nI i) + 1).toNatClampNeg) (xs ((nI i) + 2).toNatClampNeg) t.1 t.2).2).1))), (b4, .inl (X.2.2.1, 256, .inl (((ad f (xs ((nI i) + 1).toNatClampNeg) (xs ((nI i) + 2).toNatClampNeg) t.1 t.2).2).2.1))), (b5, .inl (X.2.1, 256, .inl (((ad f (xs ((nI i) + 1).toNatClampNeg) (xs ((nI i) + 2).toNatClampNeg) t.1 t.2).2).2.2.2.1))), (b6, .inl (X.2.1, 2048, .inl (((ad f (xs ((nI i) + 1).toNatClampNeg) (xs ((nI i) + 2).toNatClampNeg) t.1 t.2).2).2.2.1)))]) hC hw hl.1 (c_Mm_form l X b0 b1 b2 b3 b4 b5 b6 z f t (xs ((nI i) + 1).toNatClampNeg) (xs ((nI i) + 2).toNatClampNeg) hI) k_289 k_286 k_287 k_288 k_9 [11, 12, 13, 14, 15, 16, 17] [0, 1, 2, 3, 4, 5, 6, 7, 8, 9, 10] [0, 1, 2, 3, 4, 5, 6, 7, 8, 9, 10, 11, 12, 13, 14, 15, 16, 17] rfl rfl rfl rfl rfl rfl (by decide) rfl (fun _ => rfl) (by decide +kernel) ⟨by decide, by decide⟩ rfl (Nat.le_of_ble_eq_true rfl) ⟨by decide, by decide⟩ rfl d_law_246 (fun u H locs hw => ?_)
        refine W.eq (g2 := F0 m 249 ls [.int ((ad f (xs ((nI i) + 1).toNatClampNeg) (xs ((nI i) + 2).toNatClampNeg) t.1 t.2).1), .int ((ad f (xs ((nI i) + 1).toNatClampNeg) (xs ((nI i) + 2).toNatClampNeg) t.1 t.2).1)]) rfl ?_
        refine lv_icmp_eq (tgt := 448) hx hb d_law_249 (by decide) (fun c_249 => ?_) (fun c_249 => ?_)
        · refine lv_iinc (v := (nI i) + 3) (lv' := [(3, .int ((nI i) + 3)), (0, .ref b), (1, .ref h0), (2, .ref b0)]) hx hb d_law_448 hl (k := 0) rfl rfl (by decide) rfl (fun ls hl => ?_)
          refine lv_goto (tgt := 18) hx hb d_law_451 (by decide) ?_
          exact ih (i + 3) z ((ad f (xs ((nI i) + 1).toNatClampNeg) (xs ((nI i) + 2).toNatClampNeg) t.1 t.2).2) (t.1, 0) h0 h1 h2 h3 h4 h5 h6 h7 h8 h9 h10 b0 b1 b2 b3 b4 b5 b6 ls H locs (by omega) (by omega) (inv_ad _ _ hI) (by rw [law_3] at hl; exact hl) hw
        · exact absurd rfl c_249
      by_cases e_6 : w = 6
      · refine lv_tableIn (off := 222) (tgt := 254) hx hb d_law_32 (by rw [e_6]; decide) (by rw [e_6]; decide) (by rw [e_6]; rfl) (by decide) ?_
        refine lv_aload_n hx hb d_law_254 rfl (lv_at hl 2 rfl) ?_
        refine lv_aload_n hx hb d_law_255 rfl (lv_at hl 1 rfl) ?_
        refine lv_iload_n hx hb d_law_256 rfl (lv_at hl 0 rfl) ?_
        refine lv_iconst (v := 1) hx hb d_law_257 (by decide) ?_
        refine lv_iadd hx hb d_law_258 ?_
        refine va_sld hx hb hX hbl hbA hw.2.2.1 (by rw [law_1]; exact vp_in_nI (by omega) (by omega)) d_law_259 ?_
        refine ct_callV (rest := []) (As := [.int (xs ((nI i) + 1).toNatClampNeg)]) (n := 1) (wr := [(b0, .inr (4, [.int 0, .int z.2.1, .ref b1, .int z.2.2.1, .int z.2.2.2.1, .int z.2.2.2.2, .int t.2, .ref b2, .ref b3, .ref b4, .ref b5, .ref b6])), (b1, .inl (X.2.1, 8, .inl z.1)), (b2, .inl (X.2.1, 8, .inl t.1)), (b3, .inl (X.2.1, 256, .inl f.1)), (b4, .inl (X.2.2.1, 256, .inl f.2.1)), (b5, .inl (X.2.1, 256, .inl f.2.2.2.1)), (b6, .inl (X.2.1, 2048, .inl f.2.2.1))]) (W2 := fun _ : Unit => [(h0, .inr (0, [.ref h1, .ref h2, .ref h5, .ref h10, .int t.2])), (h2, .inr (2, [.ref h1, .ref h3, .ref h4, .int z.2.1, .int z.2.2.1, .int z.2.2.2.1])), (h3, .inl (X.2.1, 8, .inl safeF)), (h4, .inl (X.2.1, 8, .inl z.1)), (h1, .inr (1, [.int z.2.2.2.2])), (h5, .inr (3, [.ref h6, .ref h7, .ref h8, .ref h9, .int (((rv f (xs ((nI i) + 1).toNatClampNeg)).2).2.2.2.2)])), (h6, .inl (X.2.1, 256, .inl (((rv f (xs ((nI i) + 1).toNatClampNeg)).2).1))), (h7, .inl (X.2.2.1, 256, .inl (((rv f (xs ((nI i) + 1).toNatClampNeg)).2).2.1))), (h8, .inl (X.2.2.2, 2048, .inl (((rv f (xs ((nI i) + 1).toNatClampNeg)).2).2.2.1))), (h9, .inl (X.2.1, 256, .inl (((rv f (xs ((nI i) + 1).toNatClampNeg)).2).2.2.2.1))), (h10, .inl (X.2.2.2, 8, .inl t.1)), (b0, .inr (4, [.int 0, .int z.2.1, .ref b1, .int z.2.2.1, .int z.2.2.2.1, .int z.2.2.2.2, .int t.2, .ref b2, .ref b3, .ref b4, .ref b5, .ref b6])), (b1, .inl (X.2.1, 8, .inl z.1)), (b2, .inl (X.2.1, 8, .inl t.1)), (b3, .inl (X.2.1, 256, .inl f.1)), (b4, .inl (X.2.2.1, 256, .inl f.2.1)), (b5, .inl (X.2.1, 256, .inl f.2.2.2.1)), (b6, .inl (X.2.1, 2048, .inl f.2.2.1))]) hC hw hl.1 (c_MK_remove l X h0 h1 h2 h3 h4 h5 h6 h7 h8 h9 h10 z f t (xs ((nI i) + 1).toNatClampNeg)) k_177 k_174 k_175 k_176 k_5 [0, 1, 2, 3, 4, 5, 6, 7, 8, 9, 10] [11, 12, 13, 14, 15, 16, 17] [7, 8, 9, 10, 11, 12, 13, 14, 15, 16, 17, 0, 1, 2, 3, 4, 5, 6] rfl rfl rfl rfl rfl rfl (by decide) rfl (fun _ => rfl) (by decide +kernel) ⟨by decide, by decide⟩ rfl (Nat.le_of_ble_eq_true rfl) ⟨by decide, by decide⟩ rfl d_law_260 (fun u H locs hw => ?_)
        refine W.eq (g2 := F0 m 263 ls [.int ((rv f (xs ((nI i) + 1).toNatClampNeg)).1)]) rfl ?_
        refine lv_aload_n hx hb d_law_263 rfl (lv_at hl 3 rfl) ?_
        refine lv_aload_n hx hb d_law_264 rfl (lv_at hl 1 rfl) ?_
        refine lv_iload_n hx hb d_law_265 rfl (lv_at hl 0 rfl) ?_
        refine lv_iconst (v := 1) hx hb d_law_266 (by decide) ?_
        refine lv_iadd hx hb d_law_267 ?_
        refine va_sld hx hb hX hbl hbA hw.2.2.1 (by rw [law_1]; exact vp_in_nI (by omega) (by omega)) d_law_268 ?_
        refine ct_callV (rest := [.int ((rv f (xs ((nI i) + 1).toNatClampNeg)).1)]) (As := [.int (xs ((nI i) + 1).toNatClampNeg)]) (n := 1) (wr := [(h0, .inr (0, [.ref h1, .ref h2, .ref h5, .ref h10, .int t.2])), (h2, .inr (2, [.ref h1, .ref h3, .ref h4, .int z.2.1, .int z.2.2.1, .int z.2.2.2.1])), (h3, .inl (X.2.1, 8, .inl safeF)), (h4, .inl (X.2.1, 8, .inl z.1)), (h1, .inr (1, [.int z.2.2.2.2])), (h5, .inr (3, [.ref h6, .ref h7, .ref h8, .ref h9, .int (((rv f (xs ((nI i) + 1).toNatClampNeg)).2).2.2.2.2)])), (h6, .inl (X.2.1, 256, .inl (((rv f (xs ((nI i) + 1).toNatClampNeg)).2).1))), (h7, .inl (X.2.2.1, 256, .inl (((rv f (xs ((nI i) + 1).toNatClampNeg)).2).2.1))), (h8, .inl (X.2.2.2, 2048, .inl (((rv f (xs ((nI i) + 1).toNatClampNeg)).2).2.2.1))), (h9, .inl (X.2.1, 256, .inl (((rv f (xs ((nI i) + 1).toNatClampNeg)).2).2.2.2.1))), (h10, .inl (X.2.2.2, 8, .inl t.1))]) (W2 := fun _ : Unit => [(h0, .inr (0, [.ref h1, .ref h2, .ref h5, .ref h10, .int t.2])), (h2, .inr (2, [.ref h1, .ref h3, .ref h4, .int z.2.1, .int z.2.2.1, .int z.2.2.2.1])), (h3, .inl (X.2.1, 8, .inl safeF)), (h4, .inl (X.2.1, 8, .inl z.1)), (h1, .inr (1, [.int z.2.2.2.2])), (h5, .inr (3, [.ref h6, .ref h7, .ref h8, .ref h9, .int (((rv f (xs ((nI i) + 1).toNatClampNeg)).2).2.2.2.2)])), (h6, .inl (X.2.1, 256, .inl (((rv f (xs ((nI i) + 1).toNatClampNeg)).2).1))), (h7, .inl (X.2.2.1, 256, .inl (((rv f (xs ((nI i) + 1).toNatClampNeg)).2).2.1))), (h8, .inl (X.2.2.2, 2048, .inl (((rv f (xs ((nI i) + 1).toNatClampNeg)).2).2.2.1))), (h9, .inl (X.2.1, 256, .inl (((rv f (xs ((nI i) + 1).toNatClampNeg)).2).2.2.2.1))), (h10, .inl (X.2.2.2, 8, .inl t.1)), (b0, .inr (4, [.int 0, .int z.2.1, .ref b1, .int z.2.2.1, .int z.2.2.2.1, .int z.2.2.2.2, .int t.2, .ref b2, .ref b3, .ref b4, .ref b5, .ref b6])), (b1, .inl (X.2.1, 8, .inl z.1)), (b2, .inl (X.2.1, 8, .inl t.1)), (b3, .inl (X.2.1, 256, .inl (((rv f (xs ((nI i) + 1).toNatClampNeg)).2).1))), (b4, .inl (X.2.2.1, 256, .inl (((rv f (xs ((nI i) + 1).toNatClampNeg)).2).2.1))), (b5, .inl (X.2.1, 256, .inl (((rv f (xs ((nI i) + 1).toNatClampNeg)).2).2.2.2.1))), (b6, .inl (X.2.1, 2048, .inl (((rv f (xs ((nI i) + 1).toNatClampNeg)).2).2.2.1)))]) hC hw hl.1 (c_Mm_remove l X b0 b1 b2 b3 b4 b5 b6 z f t (xs ((nI i) + 1).toNatClampNeg)) k_297 k_294 k_295 k_296 k_9 [11, 12, 13, 14, 15, 16, 17] [0, 1, 2, 3, 4, 5, 6, 7, 8, 9, 10] [0, 1, 2, 3, 4, 5, 6, 7, 8, 9, 10, 11, 12, 13, 14, 15, 16, 17] rfl rfl rfl rfl rfl rfl (by decide) rfl (fun _ => rfl) (by decide +kernel) ⟨by decide, by decide⟩ rfl (Nat.le_of_ble_eq_true rfl) ⟨by decide, by decide⟩ rfl d_law_269 (fun u H locs hw => ?_)
        refine W.eq (g2 := F0 m 272 ls [.int ((rv f (xs ((nI i) + 1).toNatClampNeg)).1), .int ((rv f (xs ((nI i) + 1).toNatClampNeg)).1)]) rfl ?_
        refine lv_icmp_eq (tgt := 448) hx hb d_law_272 (by decide) (fun c_272 => ?_) (fun c_272 => ?_)
        · refine lv_iinc (v := (nI i) + 3) (lv' := [(3, .int ((nI i) + 3)), (0, .ref b), (1, .ref h0), (2, .ref b0)]) hx hb d_law_448 hl (k := 0) rfl rfl (by decide) rfl (fun ls hl => ?_)
          refine lv_goto (tgt := 18) hx hb d_law_451 (by decide) ?_
          exact ih (i + 3) z ((rv f (xs ((nI i) + 1).toNatClampNeg)).2) t h0 h1 h2 h3 h4 h5 h6 h7 h8 h9 h10 b0 b1 b2 b3 b4 b5 b6 ls H locs (by omega) (by omega) (inv_rv _ hI) (by rw [law_3] at hl; exact hl) hw
        · exact absurd rfl c_272
      by_cases e_7 : w = 7
      · refine lv_tableIn (off := 245) (tgt := 277) hx hb d_law_32 (by rw [e_7]; decide) (by rw [e_7]; decide) (by rw [e_7]; rfl) (by decide) ?_
        refine lv_aload_n hx hb d_law_277 rfl (lv_at hl 2 rfl) ?_
        refine lv_aload_n hx hb d_law_278 rfl (lv_at hl 1 rfl) ?_
        refine lv_iload_n hx hb d_law_279 rfl (lv_at hl 0 rfl) ?_
        refine lv_iconst (v := 1) hx hb d_law_280 (by decide) ?_
        refine lv_iadd hx hb d_law_281 ?_
        refine va_sld hx hb hX hbl hbA hw.2.2.1 (by rw [law_1]; exact vp_in_nI (by omega) (by omega)) d_law_282 ?_
        refine lv_aload_n hx hb d_law_283 rfl (lv_at hl 1 rfl) ?_
        refine lv_iload_n hx hb d_law_284 rfl (lv_at hl 0 rfl) ?_
        refine lv_iconst (v := 2) hx hb d_law_285 (by decide) ?_
        refine lv_iadd hx hb d_law_286 ?_
        refine va_sld hx hb hX hbl hbA hw.2.2.1 (by rw [law_2]; exact vp_in_nI (by omega) (by omega)) d_law_287 ?_
        refine lv_if_eq (tgt := 295) hx hb d_law_288 (by decide) (fun c_288 => ?_) (fun c_288 => ?_)
        · refine lv_iconst (v := 0) hx hb d_law_295 (by decide) ?_
          refine ct_callV (rest := []) (As := [.int (xs ((nI i) + 1).toNatClampNeg), .int 0]) (n := 2) (wr := [(b0, .inr (4, [.int 0, .int z.2.1, .ref b1, .int z.2.2.1, .int z.2.2.2.1, .int z.2.2.2.2, .int t.2, .ref b2, .ref b3, .ref b4, .ref b5, .ref b6])), (b1, .inl (X.2.1, 8, .inl z.1)), (b2, .inl (X.2.1, 8, .inl t.1)), (b3, .inl (X.2.1, 256, .inl f.1)), (b4, .inl (X.2.2.1, 256, .inl f.2.1)), (b5, .inl (X.2.1, 256, .inl f.2.2.2.1)), (b6, .inl (X.2.1, 2048, .inl f.2.2.1))]) (W2 := fun _ : Unit => [(h0, .inr (0, [.ref h1, .ref h2, .ref h5, .ref h10, .int t.2])), (h2, .inr (2, [.ref h1, .ref h3, .ref h4, .int z.2.1, .int z.2.2.1, .int z.2.2.2.1])), (h3, .inl (X.2.1, 8, .inl safeF)), (h4, .inl (X.2.1, 8, .inl z.1)), (h1, .inr (1, [.int z.2.2.2.2])), (h5, .inr (3, [.ref h6, .ref h7, .ref h8, .ref h9, .int (((eb f (xs ((nI i) + 1).toNatClampNeg) 0).2).2.2.2.2)])), (h6, .inl (X.2.1, 256, .inl (((eb f (xs ((nI i) + 1).toNatClampNeg) 0).2).1))), (h7, .inl (X.2.2.1, 256, .inl (((eb f (xs ((nI i) + 1).toNatClampNeg) 0).2).2.1))), (h8, .inl (X.2.2.2, 2048, .inl (((eb f (xs ((nI i) + 1).toNatClampNeg) 0).2).2.2.1))), (h9, .inl (X.2.1, 256, .inl (((eb f (xs ((nI i) + 1).toNatClampNeg) 0).2).2.2.2.1))), (h10, .inl (X.2.2.2, 8, .inl t.1)), (b0, .inr (4, [.int 0, .int z.2.1, .ref b1, .int z.2.2.1, .int z.2.2.2.1, .int z.2.2.2.2, .int t.2, .ref b2, .ref b3, .ref b4, .ref b5, .ref b6])), (b1, .inl (X.2.1, 8, .inl z.1)), (b2, .inl (X.2.1, 8, .inl t.1)), (b3, .inl (X.2.1, 256, .inl f.1)), (b4, .inl (X.2.2.1, 256, .inl f.2.1)), (b5, .inl (X.2.1, 256, .inl f.2.2.2.1)), (b6, .inl (X.2.1, 2048, .inl f.2.2.1))]) hC hw hl.1 (c_MK_enable l X h0 h1 h2 h3 h4 h5 h6 h7 h8 h9 h10 z f t (xs ((nI i) + 1).toNatClampNeg) 0) k_189 k_186 k_187 k_188 k_5 [0, 1, 2, 3, 4, 5, 6, 7, 8, 9, 10] [11, 12, 13, 14, 15, 16, 17] [7, 8, 9, 10, 11, 12, 13, 14, 15, 16, 17, 0, 1, 2, 3, 4, 5, 6] rfl rfl rfl rfl rfl rfl (by decide) rfl (fun _ => rfl) (by decide +kernel) ⟨by decide, by decide⟩ rfl (Nat.le_of_ble_eq_true rfl) ⟨by decide, by decide⟩ rfl d_law_296 (fun u H locs hw => ?_)
          refine W.eq (g2 := F0 m 299 ls [.int ((eb f (xs ((nI i) + 1).toNatClampNeg) 0).1)]) rfl ?_
          refine lv_aload_n hx hb d_law_299 rfl (lv_at hl 3 rfl) ?_
          refine lv_aload_n hx hb d_law_300 rfl (lv_at hl 1 rfl) ?_
          refine lv_iload_n hx hb d_law_301 rfl (lv_at hl 0 rfl) ?_
          refine lv_iconst (v := 1) hx hb d_law_302 (by decide) ?_
          refine lv_iadd hx hb d_law_303 ?_
          refine va_sld hx hb hX hbl hbA hw.2.2.1 (by rw [law_1]; exact vp_in_nI (by omega) (by omega)) d_law_304 ?_
          refine lv_aload_n hx hb d_law_305 rfl (lv_at hl 1 rfl) ?_
          refine lv_iload_n hx hb d_law_306 rfl (lv_at hl 0 rfl) ?_
          refine lv_iconst (v := 2) hx hb d_law_307 (by decide) ?_
          refine lv_iadd hx hb d_law_308 ?_
          refine va_sld hx hb hX hbl hbA hw.2.2.1 (by rw [law_2]; exact vp_in_nI (by omega) (by omega)) d_law_309 ?_
          refine lv_if_eq (tgt := 317) hx hb d_law_310 (by decide) (fun c_310 => ?_) (fun c_310 => ?_)
          · refine lv_iconst (v := 0) hx hb d_law_317 (by decide) ?_
            refine ct_callV (rest := [.int ((eb f (xs ((nI i) + 1).toNatClampNeg) 0).1)]) (As := [.int (xs ((nI i) + 1).toNatClampNeg), .int 0]) (n := 2) (wr := [(h0, .inr (0, [.ref h1, .ref h2, .ref h5, .ref h10, .int t.2])), (h2, .inr (2, [.ref h1, .ref h3, .ref h4, .int z.2.1, .int z.2.2.1, .int z.2.2.2.1])), (h3, .inl (X.2.1, 8, .inl safeF)), (h4, .inl (X.2.1, 8, .inl z.1)), (h1, .inr (1, [.int z.2.2.2.2])), (h5, .inr (3, [.ref h6, .ref h7, .ref h8, .ref h9, .int (((eb f (xs ((nI i) + 1).toNatClampNeg) 0).2).2.2.2.2)])), (h6, .inl (X.2.1, 256, .inl (((eb f (xs ((nI i) + 1).toNatClampNeg) 0).2).1))), (h7, .inl (X.2.2.1, 256, .inl (((eb f (xs ((nI i) + 1).toNatClampNeg) 0).2).2.1))), (h8, .inl (X.2.2.2, 2048, .inl (((eb f (xs ((nI i) + 1).toNatClampNeg) 0).2).2.2.1))), (h9, .inl (X.2.1, 256, .inl (((eb f (xs ((nI i) + 1).toNatClampNeg) 0).2).2.2.2.1))), (h10, .inl (X.2.2.2, 8, .inl t.1))]) (W2 := fun _ : Unit => [(h0, .inr (0, [.ref h1, .ref h2, .ref h5, .ref h10, .int t.2])), (h2, .inr (2, [.ref h1, .ref h3, .ref h4, .int z.2.1, .int z.2.2.1, .int z.2.2.2.1])), (h3, .inl (X.2.1, 8, .inl safeF)), (h4, .inl (X.2.1, 8, .inl z.1)), (h1, .inr (1, [.int z.2.2.2.2])), (h5, .inr (3, [.ref h6, .ref h7, .ref h8, .ref h9, .int (((eb f (xs ((nI i) + 1).toNatClampNeg) 0).2).2.2.2.2)])), (h6, .inl (X.2.1, 256, .inl (((eb f (xs ((nI i) + 1).toNatClampNeg) 0).2).1))), (h7, .inl (X.2.2.1, 256, .inl (((eb f (xs ((nI i) + 1).toNatClampNeg) 0).2).2.1))), (h8, .inl (X.2.2.2, 2048, .inl (((eb f (xs ((nI i) + 1).toNatClampNeg) 0).2).2.2.1))), (h9, .inl (X.2.1, 256, .inl (((eb f (xs ((nI i) + 1).toNatClampNeg) 0).2).2.2.2.1))), (h10, .inl (X.2.2.2, 8, .inl t.1)), (b0, .inr (4, [.int 0, .int z.2.1, .ref b1, .int z.2.2.1, .int z.2.2.2.1, .int z.2.2.2.2, .int t.2, .ref b2, .ref b3, .ref b4, .ref b5, .ref b6])), (b1, .inl (X.2.1, 8, .inl z.1)), (b2, .inl (X.2.1, 8, .inl t.1)), (b3, .inl (X.2.1, 256, .inl (((eb f (xs ((nI i) + 1).toNatClampNeg) 0).2).1))), (b4, .inl (X.2.2.1, 256, .inl (((eb f (xs ((nI i) + 1).toNatClampNeg) 0).2).2.1))), (b5, .inl (X.2.1, 256, .inl (((eb f (xs ((nI i) + 1).toNatClampNeg) 0).2).2.2.2.1))), (b6, .inl (X.2.1, 2048, .inl (((eb f (xs ((nI i) + 1).toNatClampNeg) 0).2).2.2.1)))]) hC hw hl.1 (c_Mm_enable l X b0 b1 b2 b3 b4 b5 b6 z f t (xs ((nI i) + 1).toNatClampNeg) 0) k_305 k_302 k_303 k_304 k_9 [11, 12, 13, 14, 15, 16, 17] [0, 1, 2, 3, 4, 5, 6, 7, 8, 9, 10] [0, 1, 2, 3, 4, 5, 6, 7, 8, 9, 10, 11, 12, 13, 14, 15, 16, 17] rfl rfl rfl rfl rfl rfl (by decide) rfl (fun _ => rfl) (by decide +kernel) ⟨by decide, by decide⟩ rfl (Nat.le_of_ble_eq_true rfl) ⟨by decide, by decide⟩ rfl d_law_318 (fun u H locs hw => ?_)
            refine W.eq (g2 := F0 m 321 ls [.int ((eb f (xs ((nI i) + 1).toNatClampNeg) 0).1), .int ((eb f (xs ((nI i) + 1).toNatClampNeg) 0).1)]) rfl ?_
            refine lv_icmp_eq (tgt := 448) hx hb d_law_321 (by decide) (fun c_321 => ?_) (fun c_321 => ?_)
            · refine lv_iinc (v := (nI i) + 3) (lv' := [(3, .int ((nI i) + 3)), (0, .ref b), (1, .ref h0), (2, .ref b0)]) hx hb d_law_448 hl (k := 0) rfl rfl (by decide) rfl (fun ls hl => ?_)
              refine lv_goto (tgt := 18) hx hb d_law_451 (by decide) ?_
              exact ih (i + 3) z ((eb f (xs ((nI i) + 1).toNatClampNeg) 0).2) t h0 h1 h2 h3 h4 h5 h6 h7 h8 h9 h10 b0 b1 b2 b3 b4 b5 b6 ls H locs (by omega) (by omega) (inv_eb _ _ hI) (by rw [law_3] at hl; exact hl) hw
            · exact absurd rfl c_321
          · exact absurd c_288 c_310
        · refine lv_iconst (v := 1) hx hb d_law_291 (by decide) ?_
          refine lv_goto (tgt := 296) hx hb d_law_292 (by decide) ?_
          refine ct_callV (rest := []) (As := [.int (xs ((nI i) + 1).toNatClampNeg), .int 1]) (n := 2) (wr := [(b0, .inr (4, [.int 0, .int z.2.1, .ref b1, .int z.2.2.1, .int z.2.2.2.1, .int z.2.2.2.2, .int t.2, .ref b2, .ref b3, .ref b4, .ref b5, .ref b6])), (b1, .inl (X.2.1, 8, .inl z.1)), (b2, .inl (X.2.1, 8, .inl t.1)), (b3, .inl (X.2.1, 256, .inl f.1)), (b4, .inl (X.2.2.1, 256, .inl f.2.1)), (b5, .inl (X.2.1, 256, .inl f.2.2.2.1)), (b6, .inl (X.2.1, 2048, .inl f.2.2.1))]) (W2 := fun _ : Unit => [(h0, .inr (0, [.ref h1, .ref h2, .ref h5, .ref h10, .int t.2])), (h2, .inr (2, [.ref h1, .ref h3, .ref h4, .int z.2.1, .int z.2.2.1, .int z.2.2.2.1])), (h3, .inl (X.2.1, 8, .inl safeF)), (h4, .inl (X.2.1, 8, .inl z.1)), (h1, .inr (1, [.int z.2.2.2.2])), (h5, .inr (3, [.ref h6, .ref h7, .ref h8, .ref h9, .int (((eb f (xs ((nI i) + 1).toNatClampNeg) 1).2).2.2.2.2)])), (h6, .inl (X.2.1, 256, .inl (((eb f (xs ((nI i) + 1).toNatClampNeg) 1).2).1))), (h7, .inl (X.2.2.1, 256, .inl (((eb f (xs ((nI i) + 1).toNatClampNeg) 1).2).2.1))), (h8, .inl (X.2.2.2, 2048, .inl (((eb f (xs ((nI i) + 1).toNatClampNeg) 1).2).2.2.1))), (h9, .inl (X.2.1, 256, .inl (((eb f (xs ((nI i) + 1).toNatClampNeg) 1).2).2.2.2.1))), (h10, .inl (X.2.2.2, 8, .inl t.1)), (b0, .inr (4, [.int 0, .int z.2.1, .ref b1, .int z.2.2.1, .int z.2.2.2.1, .int z.2.2.2.2, .int t.2, .ref b2, .ref b3, .ref b4, .ref b5, .ref b6])), (b1, .inl (X.2.1, 8, .inl z.1)), (b2, .inl (X.2.1, 8, .inl t.1)), (b3, .inl (X.2.1, 256, .inl f.1)), (b4, .inl (X.2.2.1, 256, .inl f.2.1)), (b5, .inl (X.2.1, 256, .inl f.2.2.2.1)), (b6, .inl (X.2.1, 2048, .inl f.2.2.1))]) hC hw hl.1 (c_MK_enable l X h0 h1 h2 h3 h4 h5 h6 h7 h8 h9 h10 z f t (xs ((nI i) + 1).toNatClampNeg) 1) k_189 k_186 k_187 k_188 k_5 [0, 1, 2, 3, 4, 5, 6, 7, 8, 9, 10] [11, 12, 13, 14, 15, 16, 17] [7, 8, 9, 10, 11, 12, 13, 14, 15, 16, 17, 0, 1, 2, 3, 4, 5, 6] rfl rfl rfl rfl rfl rfl (by decide) rfl (fun _ => rfl) (by decide +kernel) ⟨by decide, by decide⟩ rfl (Nat.le_of_ble_eq_true rfl) ⟨by decide, by decide⟩ rfl d_law_296 (fun u H locs hw => ?_)
          refine W.eq (g2 := F0 m 299 ls [.int ((eb f (xs ((nI i) + 1).toNatClampNeg) 1).1)]) rfl ?_
          refine lv_aload_n hx hb d_law_299 rfl (lv_at hl 3 rfl) ?_
          refine lv_aload_n hx hb d_law_300 rfl (lv_at hl 1 rfl) ?_
          refine lv_iload_n hx hb d_law_301 rfl (lv_at hl 0 rfl) ?_
          refine lv_iconst (v := 1) hx hb d_law_302 (by decide) ?_
          refine lv_iadd hx hb d_law_303 ?_
          refine va_sld hx hb hX hbl hbA hw.2.2.1 (by rw [law_1]; exact vp_in_nI (by omega) (by omega)) d_law_304 ?_
          refine lv_aload_n hx hb d_law_305 rfl (lv_at hl 1 rfl) ?_
          refine lv_iload_n hx hb d_law_306 rfl (lv_at hl 0 rfl) ?_
          refine lv_iconst (v := 2) hx hb d_law_307 (by decide) ?_
          refine lv_iadd hx hb d_law_308 ?_
          refine va_sld hx hb hX hbl hbA hw.2.2.1 (by rw [law_2]; exact vp_in_nI (by omega) (by omega)) d_law_309 ?_
          refine lv_if_eq (tgt := 317) hx hb d_law_310 (by decide) (fun c_310 => ?_) (fun c_310 => ?_)
          · exact absurd c_310 c_288
          · refine lv_iconst (v := 1) hx hb d_law_313 (by decide) ?_
            refine lv_goto (tgt := 318) hx hb d_law_314 (by decide) ?_
            refine ct_callV (rest := [.int ((eb f (xs ((nI i) + 1).toNatClampNeg) 1).1)]) (As := [.int (xs ((nI i) + 1).toNatClampNeg), .int 1]) (n := 2) (wr := [(h0, .inr (0, [.ref h1, .ref h2, .ref h5, .ref h10, .int t.2])), (h2, .inr (2, [.ref h1, .ref h3, .ref h4, .int z.2.1, .int z.2.2.1, .int z.2.2.2.1])), (h3, .inl (X.2.1, 8, .inl safeF)), (h4, .inl (X.2.1, 8, .inl z.1)), (h1, .inr (1, [.int z.2.2.2.2])), (h5, .inr (3, [.ref h6, .ref h7, .ref h8, .ref h9, .int (((eb f (xs ((nI i) + 1).toNatClampNeg) 1).2).2.2.2.2)])), (h6, .inl (X.2.1, 256, .inl (((eb f (xs ((nI i) + 1).toNatClampNeg) 1).2).1))), (h7, .inl (X.2.2.1, 256, .inl (((eb f (xs ((nI i) + 1).toNatClampNeg) 1).2).2.1))), (h8, .inl (X.2.2.2, 2048, .inl (((eb f (xs ((nI i) + 1).toNatClampNeg) 1).2).2.2.1))), (h9, .inl (X.2.1, 256, .inl (((eb f (xs ((nI i) + 1).toNatClampNeg) 1).2).2.2.2.1))), (h10, .inl (X.2.2.2, 8, .inl t.1))]) (W2 := fun _ : Unit => [(h0, .inr (0, [.ref h1, .ref h2, .ref h5, .ref h10, .int t.2])), (h2, .inr (2, [.ref h1, .ref h3, .ref h4, .int z.2.1, .int z.2.2.1, .int z.2.2.2.1])), (h3, .inl (X.2.1, 8, .inl safeF)), (h4, .inl (X.2.1, 8, .inl z.1)), (h1, .inr (1, [.int z.2.2.2.2])), (h5, .inr (3, [.ref h6, .ref h7, .ref h8, .ref h9, .int (((eb f (xs ((nI i) + 1).toNatClampNeg) 1).2).2.2.2.2)])), (h6, .inl (X.2.1, 256, .inl (((eb f (xs ((nI i) + 1).toNatClampNeg) 1).2).1))), (h7, .inl (X.2.2.1, 256, .inl (((eb f (xs ((nI i) + 1).toNatClampNeg) 1).2).2.1))), (h8, .inl (X.2.2.2, 2048, .inl (((eb f (xs ((nI i) + 1).toNatClampNeg) 1).2).2.2.1))), (h9, .inl (X.2.1, 256, .inl (((eb f (xs ((nI i) + 1).toNatClampNeg) 1).2).2.2.2.1))), (h10, .inl (X.2.2.2, 8, .inl t.1)), (b0, .inr (4, [.int 0, .int z.2.1, .ref b1, .int z.2.2.1, .int z.2.2.2.1, .int z.2.2.2.2, .int t.2, .ref b2, .ref b3, .ref b4, .ref b5, .ref b6])), (b1, .inl (X.2.1, 8, .inl z.1)), (b2, .inl (X.2.1, 8, .inl t.1)), (b3, .inl (X.2.1, 256, .inl (((eb f (xs ((nI i) + 1).toNatClampNeg) 1).2).1))), (b4, .inl (X.2.2.1, 256, .inl (((eb f (xs ((nI i) + 1).toNatClampNeg) 1).2).2.1))), (b5, .inl (X.2.1, 256, .inl (((eb f (xs ((nI i) + 1).toNatClampNeg) 1).2).2.2.2.1))), (b6, .inl (X.2.1, 2048, .inl (((eb f (xs ((nI i) + 1).toNatClampNeg) 1).2).2.2.1)))]) hC hw hl.1 (c_Mm_enable l X b0 b1 b2 b3 b4 b5 b6 z f t (xs ((nI i) + 1).toNatClampNeg) 1) k_305 k_302 k_303 k_304 k_9 [11, 12, 13, 14, 15, 16, 17] [0, 1, 2, 3, 4, 5, 6, 7, 8, 9, 10] [0, 1, 2, 3, 4, 5, 6, 7, 8, 9, 10, 11, 12, 13, 14, 15, 16, 17] rfl rfl rfl rfl rfl rfl (by decide) rfl (fun _ => rfl) (by decide +kernel) ⟨by decide, by decide⟩ rfl (Nat.le_of_ble_eq_true rfl) ⟨by decide, by decide⟩ rfl d_law_318 (fun u H locs hw => ?_)
            refine W.eq (g2 := F0 m 321 ls [.int ((eb f (xs ((nI i) + 1).toNatClampNeg) 1).1), .int ((eb f (xs ((nI i) + 1).toNatClampNeg) 1).1)]) rfl ?_
            refine lv_icmp_eq (tgt := 448) hx hb d_law_321 (by decide) (fun c_321 => ?_) (fun c_321 => ?_)
            · refine lv_iinc (v := (nI i) + 3) (lv' := [(3, .int ((nI i) + 3)), (0, .ref b), (1, .ref h0), (2, .ref b0)]) hx hb d_law_448 hl (k := 0) rfl rfl (by decide) rfl (fun ls hl => ?_)
              refine lv_goto (tgt := 18) hx hb d_law_451 (by decide) ?_
              exact ih (i + 3) z ((eb f (xs ((nI i) + 1).toNatClampNeg) 1).2) t h0 h1 h2 h3 h4 h5 h6 h7 h8 h9 h10 b0 b1 b2 b3 b4 b5 b6 ls H locs (by omega) (by omega) (inv_eb _ _ hI) (by rw [law_3] at hl; exact hl) hw
            · exact absurd rfl c_321
      by_cases e_8 : w = 8
      · refine lv_tableIn (off := 294) (tgt := 326) hx hb d_law_32 (by rw [e_8]; decide) (by rw [e_8]; decide) (by rw [e_8]; rfl) (by decide) ?_
        refine lv_aload_n hx hb d_law_326 rfl (lv_at hl 2 rfl) ?_
        refine lv_aload_n hx hb d_law_327 rfl (lv_at hl 1 rfl) ?_
        refine lv_iload_n hx hb d_law_328 rfl (lv_at hl 0 rfl) ?_
        refine lv_iconst (v := 1) hx hb d_law_329 (by decide) ?_
        refine lv_iadd hx hb d_law_330 ?_
        refine va_sld hx hb hX hbl hbA hw.2.2.1 (by rw [law_1]; exact vp_in_nI (by omega) (by omega)) d_law_331 ?_
        refine lv_aload_n hx hb d_law_332 rfl (lv_at hl 1 rfl) ?_
        refine lv_iload_n hx hb d_law_333 rfl (lv_at hl 0 rfl) ?_
        refine lv_iconst (v := 2) hx hb d_law_334 (by decide) ?_
        refine lv_iadd hx hb d_law_335 ?_
        refine va_sld hx hb hX hbl hbA hw.2.2.1 (by rw [law_2]; exact vp_in_nI (by omega) (by omega)) d_law_336 ?_
        refine ct_callV (rest := []) (As := [.int (xs ((nI i) + 1).toNatClampNeg), .int (xs ((nI i) + 2).toNatClampNeg)]) (n := 2) (wr := [(b0, .inr (4, [.int 0, .int z.2.1, .ref b1, .int z.2.2.1, .int z.2.2.2.1, .int z.2.2.2.2, .int t.2, .ref b2, .ref b3, .ref b4, .ref b5, .ref b6])), (b1, .inl (X.2.1, 8, .inl z.1)), (b2, .inl (X.2.1, 8, .inl t.1)), (b3, .inl (X.2.1, 256, .inl f.1)), (b4, .inl (X.2.2.1, 256, .inl f.2.1)), (b5, .inl (X.2.1, 256, .inl f.2.2.2.1)), (b6, .inl (X.2.1, 2048, .inl f.2.2.1))]) (W2 := fun _ : Unit => [(h0, .inr (0, [.ref h1, .ref h2, .ref h5, .ref h10, .int t.2])), (h2, .inr (2, [.ref h1, .ref h3, .ref h4, .int z.2.1, .int z.2.2.1, .int z.2.2.2.1])), (h3, .inl (X.2.1, 8, .inl safeF)), (h4, .inl (X.2.1, 8, .inl z.1)), (h1, .inr (1, [.int z.2.2.2.2])), (h5, .inr (3, [.ref h6, .ref h7, .ref h8, .ref h9, .int f.2.2.2.2])), (h6, .inl (X.2.1, 256, .inl f.1)), (h7, .inl (X.2.2.1, 256, .inl f.2.1)), (h8, .inl (X.2.2.2, 2048, .inl f.2.2.1)), (h9, .inl (X.2.1, 256, .inl f.2.2.2.1)), (h10, .inl (X.2.2.2, 8, .inl t.1)), (b0, .inr (4, [.int 0, .int z.2.1, .ref b1, .int z.2.2.1, .int z.2.2.2.1, .int z.2.2.2.2, .int t.2, .ref b2, .ref b3, .ref b4, .ref b5, .ref b6])), (b1, .inl (X.2.1, 8, .inl z.1)), (b2, .inl (X.2.1, 8, .inl t.1)), (b3, .inl (X.2.1, 256, .inl f.1)), (b4, .inl (X.2.2.1, 256, .inl f.2.1)), (b5, .inl (X.2.1, 256, .inl f.2.2.2.1)), (b6, .inl (X.2.1, 2048, .inl f.2.2.1))]) hC hw hl.1 (c_MK_due l X h0 h1 h2 h3 h4 h5 h6 h7 h8 h9 h10 z f t (xs ((nI i) + 1).toNatClampNeg) (xs ((nI i) + 2).toNatClampNeg) hI) k_197 k_194 k_195 k_196 k_5 [0, 1, 2, 3, 4, 5, 6, 7, 8, 9, 10] [11, 12, 13, 14, 15, 16, 17] [7, 8, 9, 10, 11, 12, 13, 14, 15, 16, 17, 0, 1, 2, 3, 4, 5, 6] rfl rfl rfl rfl rfl rfl (by decide) rfl (fun _ => rfl) (by decide +kernel) ⟨by decide, by decide⟩ rfl (Nat.le_of_ble_eq_true rfl) ⟨by decide, by decide⟩ rfl d_law_337 (fun u H locs hw => ?_)
        refine W.eq (g2 := F0 m 340 ls [.int (du f (xs ((nI i) + 1).toNatClampNeg) (xs ((nI i) + 2).toNatClampNeg))]) rfl ?_
        refine lv_aload_n hx hb d_law_340 rfl (lv_at hl 3 rfl) ?_
        refine lv_aload_n hx hb d_law_341 rfl (lv_at hl 1 rfl) ?_
        refine lv_iload_n hx hb d_law_342 rfl (lv_at hl 0 rfl) ?_
        refine lv_iconst (v := 1) hx hb d_law_343 (by decide) ?_
        refine lv_iadd hx hb d_law_344 ?_
        refine va_sld hx hb hX hbl hbA hw.2.2.1 (by rw [law_1]; exact vp_in_nI (by omega) (by omega)) d_law_345 ?_
        refine lv_aload_n hx hb d_law_346 rfl (lv_at hl 1 rfl) ?_
        refine lv_iload_n hx hb d_law_347 rfl (lv_at hl 0 rfl) ?_
        refine lv_iconst (v := 2) hx hb d_law_348 (by decide) ?_
        refine lv_iadd hx hb d_law_349 ?_
        refine va_sld hx hb hX hbl hbA hw.2.2.1 (by rw [law_2]; exact vp_in_nI (by omega) (by omega)) d_law_350 ?_
        refine ct_callV (rest := [.int (du f (xs ((nI i) + 1).toNatClampNeg) (xs ((nI i) + 2).toNatClampNeg))]) (As := [.int (xs ((nI i) + 1).toNatClampNeg), .int (xs ((nI i) + 2).toNatClampNeg)]) (n := 2) (wr := [(h0, .inr (0, [.ref h1, .ref h2, .ref h5, .ref h10, .int t.2])), (h2, .inr (2, [.ref h1, .ref h3, .ref h4, .int z.2.1, .int z.2.2.1, .int z.2.2.2.1])), (h3, .inl (X.2.1, 8, .inl safeF)), (h4, .inl (X.2.1, 8, .inl z.1)), (h1, .inr (1, [.int z.2.2.2.2])), (h5, .inr (3, [.ref h6, .ref h7, .ref h8, .ref h9, .int f.2.2.2.2])), (h6, .inl (X.2.1, 256, .inl f.1)), (h7, .inl (X.2.2.1, 256, .inl f.2.1)), (h8, .inl (X.2.2.2, 2048, .inl f.2.2.1)), (h9, .inl (X.2.1, 256, .inl f.2.2.2.1)), (h10, .inl (X.2.2.2, 8, .inl t.1))]) (W2 := fun _ : Unit => [(h0, .inr (0, [.ref h1, .ref h2, .ref h5, .ref h10, .int t.2])), (h2, .inr (2, [.ref h1, .ref h3, .ref h4, .int z.2.1, .int z.2.2.1, .int z.2.2.2.1])), (h3, .inl (X.2.1, 8, .inl safeF)), (h4, .inl (X.2.1, 8, .inl z.1)), (h1, .inr (1, [.int z.2.2.2.2])), (h5, .inr (3, [.ref h6, .ref h7, .ref h8, .ref h9, .int f.2.2.2.2])), (h6, .inl (X.2.1, 256, .inl f.1)), (h7, .inl (X.2.2.1, 256, .inl f.2.1)), (h8, .inl (X.2.2.2, 2048, .inl f.2.2.1)), (h9, .inl (X.2.1, 256, .inl f.2.2.2.1)), (h10, .inl (X.2.2.2, 8, .inl t.1)), (b0, .inr (4, [.int 0, .int z.2.1, .ref b1, .int z.2.2.1, .int z.2.2.2.1, .int z.2.2.2.2, .int t.2, .ref b2, .ref b3, .ref b4, .ref b5, .ref b6])), (b1, .inl (X.2.1, 8, .inl z.1)), (b2, .inl (X.2.1, 8, .inl t.1)), (b3, .inl (X.2.1, 256, .inl f.1)), (b4, .inl (X.2.2.1, 256, .inl f.2.1)), (b5, .inl (X.2.1, 256, .inl f.2.2.2.1)), (b6, .inl (X.2.1, 2048, .inl f.2.2.1))]) hC hw hl.1 (c_Mm_due l X b0 b1 b2 b3 b4 b5 b6 z f t (xs ((nI i) + 1).toNatClampNeg) (xs ((nI i) + 2).toNatClampNeg)) k_309 k_306 k_307 k_308 k_9 [11, 12, 13, 14, 15, 16, 17] [0, 1, 2, 3, 4, 5, 6, 7, 8, 9, 10] [0, 1, 2, 3, 4, 5, 6, 7, 8, 9, 10, 11, 12, 13, 14, 15, 16, 17] rfl rfl rfl rfl rfl rfl (by decide) rfl (fun _ => rfl) (by decide +kernel) ⟨by decide, by decide⟩ rfl (Nat.le_of_ble_eq_true rfl) ⟨by decide, by decide⟩ rfl d_law_351 (fun u H locs hw => ?_)
        refine W.eq (g2 := F0 m 354 ls [.int (du f (xs ((nI i) + 1).toNatClampNeg) (xs ((nI i) + 2).toNatClampNeg)), .int (du f (xs ((nI i) + 1).toNatClampNeg) (xs ((nI i) + 2).toNatClampNeg))]) rfl ?_
        refine lv_icmp_eq (tgt := 448) hx hb d_law_354 (by decide) (fun c_354 => ?_) (fun c_354 => ?_)
        · refine lv_iinc (v := (nI i) + 3) (lv' := [(3, .int ((nI i) + 3)), (0, .ref b), (1, .ref h0), (2, .ref b0)]) hx hb d_law_448 hl (k := 0) rfl rfl (by decide) rfl (fun ls hl => ?_)
          refine lv_goto (tgt := 18) hx hb d_law_451 (by decide) ?_
          exact ih (i + 3) z f t h0 h1 h2 h3 h4 h5 h6 h7 h8 h9 h10 b0 b1 b2 b3 b4 b5 b6 ls H locs (by omega) (by omega) hI (by rw [law_3] at hl; exact hl) hw
        · exact absurd rfl c_354
      by_cases e_9 : w = 9
      · refine lv_tableIn (off := 327) (tgt := 359) hx hb d_law_32 (by rw [e_9]; decide) (by rw [e_9]; decide) (by rw [e_9]; rfl) (by decide) ?_
        refine lv_aload_n hx hb d_law_359 rfl (lv_at hl 2 rfl) ?_
        refine lv_aload_n hx hb d_law_360 rfl (lv_at hl 1 rfl) ?_
        refine lv_iload_n hx hb d_law_361 rfl (lv_at hl 0 rfl) ?_
        refine lv_iconst (v := 1) hx hb d_law_362 (by decide) ?_
        refine lv_iadd hx hb d_law_363 ?_
        refine va_sld hx hb hX hbl hbA hw.2.2.1 (by rw [law_1]; exact vp_in_nI (by omega) (by omega)) d_law_364 ?_
        refine lv_aload_n hx hb d_law_365 rfl (lv_at hl 1 rfl) ?_
        refine lv_iload_n hx hb d_law_366 rfl (lv_at hl 0 rfl) ?_
        refine lv_iconst (v := 2) hx hb d_law_367 (by decide) ?_
        refine lv_iadd hx hb d_law_368 ?_
        refine va_sld hx hb hX hbl hbA hw.2.2.1 (by rw [law_2]; exact vp_in_nI (by omega) (by omega)) d_law_369 ?_
        refine ct_callV (rest := []) (As := [.int (xs ((nI i) + 1).toNatClampNeg), .int (xs ((nI i) + 2).toNatClampNeg)]) (n := 2) (wr := [(b0, .inr (4, [.int 0, .int z.2.1, .ref b1, .int z.2.2.1, .int z.2.2.2.1, .int z.2.2.2.2, .int t.2, .ref b2, .ref b3, .ref b4, .ref b5, .ref b6])), (b1, .inl (X.2.1, 8, .inl z.1)), (b2, .inl (X.2.1, 8, .inl t.1)), (b3, .inl (X.2.1, 256, .inl f.1)), (b4, .inl (X.2.2.1, 256, .inl f.2.1)), (b5, .inl (X.2.1, 256, .inl f.2.2.2.1)), (b6, .inl (X.2.1, 2048, .inl f.2.2.1))]) (W2 := fun _ : Unit => [(h0, .inr (0, [.ref h1, .ref h2, .ref h5, .ref h10, .int t.2])), (h2, .inr (2, [.ref h1, .ref h3, .ref h4, .int z.2.1, .int z.2.2.1, .int z.2.2.2.1])), (h3, .inl (X.2.1, 8, .inl safeF)), (h4, .inl (X.2.1, 8, .inl z.1)), (h1, .inr (1, [.int z.2.2.2.2])), (h5, .inr (3, [.ref h6, .ref h7, .ref h8, .ref h9, .int f.2.2.2.2])), (h6, .inl (X.2.1, 256, .inl f.1)), (h7, .inl (X.2.2.1, 256, .inl f.2.1)), (h8, .inl (X.2.2.2, 2048, .inl f.2.2.1)), (h9, .inl (X.2.1, 256, .inl f.2.2.2.1)), (h10, .inl (X.2.2.2, 8, .inl t.1)), (b0, .inr (4, [.int 0, .int z.2.1, .ref b1, .int z.2.2.1, .int z.2.2.2.1, .int z.2.2.2.2, .int t.2, .ref b2, .ref b3, .ref b4, .ref b5, .ref b6])), (b1, .inl (X.2.1, 8, .inl z.1)), (b2, .inl (X.2.1, 8, .inl t.1)), (b3, .inl (X.2.1, 256, .inl f.1)), (b4, .inl (X.2.2.1, 256, .inl f.2.1)), (b5, .inl (X.2.1, 256, .inl f.2.2.2.1)), (b6, .inl (X.2.1, 2048, .inl f.2.2.1))]) hC hw hl.1 (c_MK_parameter l X h0 h1 h2 h3 h4 h5 h6 h7 h8 h9 h10 z f t (xs ((nI i) + 1).toNatClampNeg) (xs ((nI i) + 2).toNatClampNeg) hI) k_205 k_202 k_203 k_204 k_5 [0, 1, 2, 3, 4, 5, 6, 7, 8, 9, 10] [11, 12, 13, 14, 15, 16, 17] [7, 8, 9, 10, 11, 12, 13, 14, 15, 16, 17, 0, 1, 2, 3, 4, 5, 6] rfl rfl rfl rfl rfl rfl (by decide) rfl (fun _ => rfl) (by decide +kernel) ⟨by decide, by decide⟩ rfl (Nat.le_of_ble_eq_true rfl) ⟨by decide, by decide⟩ rfl d_law_370 (fun u H locs hw => ?_)
        refine W.eq (g2 := F0 m 373 ls [.int (pr f (xs ((nI i) + 1).toNatClampNeg) (xs ((nI i) + 2).toNatClampNeg))]) rfl ?_
        refine lv_aload_n hx hb d_law_373 rfl (lv_at hl 3 rfl) ?_
        refine lv_aload_n hx hb d_law_374 rfl (lv_at hl 1 rfl) ?_
        refine lv_iload_n hx hb d_law_375 rfl (lv_at hl 0 rfl) ?_
        refine lv_iconst (v := 1) hx hb d_law_376 (by decide) ?_
        refine lv_iadd hx hb d_law_377 ?_
        refine va_sld hx hb hX hbl hbA hw.2.2.1 (by rw [law_1]; exact vp_in_nI (by omega) (by omega)) d_law_378 ?_
        refine lv_aload_n hx hb d_law_379 rfl (lv_at hl 1 rfl) ?_
        refine lv_iload_n hx hb d_law_380 rfl (lv_at hl 0 rfl) ?_
        refine lv_iconst (v := 2) hx hb d_law_381 (by decide) ?_
        refine lv_iadd hx hb d_law_382 ?_
        refine va_sld hx hb hX hbl hbA hw.2.2.1 (by rw [law_2]; exact vp_in_nI (by omega) (by omega)) d_law_383 ?_
        refine ct_callV (rest := [.int (pr f (xs ((nI i) + 1).toNatClampNeg) (xs ((nI i) + 2).toNatClampNeg))]) (As := [.int (xs ((nI i) + 1).toNatClampNeg), .int (xs ((nI i) + 2).toNatClampNeg)]) (n := 2) (wr := [(h0, .inr (0, [.ref h1, .ref h2, .ref h5, .ref h10, .int t.2])), (h2, .inr (2, [.ref h1, .ref h3, .ref h4, .int z.2.1, .int z.2.2.1, .int z.2.2.2.1])), (h3, .inl (X.2.1, 8, .inl safeF)), (h4, .inl (X.2.1, 8, .inl z.1)), (h1, .inr (1, [.int z.2.2.2.2])), (h5, .inr (3, [.ref h6, .ref h7, .ref h8, .ref h9, .int f.2.2.2.2])), (h6, .inl (X.2.1, 256, .inl f.1)), (h7, .inl (X.2.2.1, 256, .inl f.2.1)), (h8, .inl (X.2.2.2, 2048, .inl f.2.2.1)), (h9, .inl (X.2.1, 256, .inl f.2.2.2.1)), (h10, .inl (X.2.2.2, 8, .inl t.1))]) (W2 := fun _ : Unit => [(h0, .inr (0, [.ref h1, .ref h2, .ref h5, .ref h10, .int t.2])), (h2, .inr (2, [.ref h1, .ref h3, .ref h4, .int z.2.1, .int z.2.2.1, .int z.2.2.2.1])), (h3, .inl (X.2.1, 8, .inl safeF)), (h4, .inl (X.2.1, 8, .inl z.1)), (h1, .inr (1, [.int z.2.2.2.2])), (h5, .inr (3, [.ref h6, .ref h7, .ref h8, .ref h9, .int f.2.2.2.2])), (h6, .inl (X.2.1, 256, .inl f.1)), (h7, .inl (X.2.2.1, 256, .inl f.2.1)), (h8, .inl (X.2.2.2, 2048, .inl f.2.2.1)), (h9, .inl (X.2.1, 256, .inl f.2.2.2.1)), (h10, .inl (X.2.2.2, 8, .inl t.1)), (b0, .inr (4, [.int 0, .int z.2.1, .ref b1, .int z.2.2.1, .int z.2.2.2.1, .int z.2.2.2.2, .int t.2, .ref b2, .ref b3, .ref b4, .ref b5, .ref b6])), (b1, .inl (X.2.1, 8, .inl z.1)), (b2, .inl (X.2.1, 8, .inl t.1)), (b3, .inl (X.2.1, 256, .inl f.1)), (b4, .inl (X.2.2.1, 256, .inl f.2.1)), (b5, .inl (X.2.1, 256, .inl f.2.2.2.1)), (b6, .inl (X.2.1, 2048, .inl f.2.2.1))]) hC hw hl.1 (c_Mm_parameter l X b0 b1 b2 b3 b4 b5 b6 z f t (xs ((nI i) + 1).toNatClampNeg) (xs ((nI i) + 2).toNatClampNeg) hI) k_313 k_310 k_311 k_312 k_9 [11, 12, 13, 14, 15, 16, 17] [0, 1, 2, 3, 4, 5, 6, 7, 8, 9, 10] [0, 1, 2, 3, 4, 5, 6, 7, 8, 9, 10, 11, 12, 13, 14, 15, 16, 17] rfl rfl rfl rfl rfl rfl (by decide) rfl (fun _ => rfl) (by decide +kernel) ⟨by decide, by decide⟩ rfl (Nat.le_of_ble_eq_true rfl) ⟨by decide, by decide⟩ rfl d_law_384 (fun u H locs hw => ?_)
        refine W.eq (g2 := F0 m 387 ls [.int (pr f (xs ((nI i) + 1).toNatClampNeg) (xs ((nI i) + 2).toNatClampNeg)), .int (pr f (xs ((nI i) + 1).toNatClampNeg) (xs ((nI i) + 2).toNatClampNeg))]) rfl ?_
        refine lv_icmp_eq (tgt := 448) hx hb d_law_387 (by decide) (fun c_387 => ?_) (fun c_387 => ?_)
        · refine lv_iinc (v := (nI i) + 3) (lv' := [(3, .int ((nI i) + 3)), (0, .ref b), (1, .ref h0), (2, .ref b0)]) hx hb d_law_448 hl (k := 0) rfl rfl (by decide) rfl (fun ls hl => ?_)
          refine lv_goto (tgt := 18) hx hb d_law_451 (by decide) ?_
          exact ih (i + 3) z f t h0 h1 h2 h3 h4 h5 h6 h7 h8 h9 h10 b0 b1 b2 b3 b4 b5 b6 ls H locs (by omega) (by omega) hI (by rw [law_3] at hl; exact hl) hw
        · exact absurd rfl c_387
      by_cases e_10 : w = 10
      · refine lv_tableIn (off := 360) (tgt := 392) hx hb d_law_32 (by rw [e_10]; decide) (by rw [e_10]; decide) (by rw [e_10]; rfl) (by decide) ?_
        refine lv_aload_n hx hb d_law_392 rfl (lv_at hl 2 rfl) ?_
        refine lv_aload_n hx hb d_law_393 rfl (lv_at hl 1 rfl) ?_
        refine lv_iload_n hx hb d_law_394 rfl (lv_at hl 0 rfl) ?_
        refine lv_iconst (v := 1) hx hb d_law_395 (by decide) ?_
        refine lv_iadd hx hb d_law_396 ?_
        refine va_sld hx hb hX hbl hbA hw.2.2.1 (by rw [law_1]; exact vp_in_nI (by omega) (by omega)) d_law_397 ?_
        refine ct_callV (rest := []) (As := [.int (xs ((nI i) + 1).toNatClampNeg)]) (n := 1) (wr := [(b0, .inr (4, [.int 0, .int z.2.1, .ref b1, .int z.2.2.1, .int z.2.2.2.1, .int z.2.2.2.2, .int t.2, .ref b2, .ref b3, .ref b4, .ref b5, .ref b6])), (b1, .inl (X.2.1, 8, .inl z.1)), (b2, .inl (X.2.1, 8, .inl t.1)), (b3, .inl (X.2.1, 256, .inl f.1)), (b4, .inl (X.2.2.1, 256, .inl f.2.1)), (b5, .inl (X.2.1, 256, .inl f.2.2.2.1)), (b6, .inl (X.2.1, 2048, .inl f.2.2.1))]) (W2 := fun _ : Unit => [(h0, .inr (0, [.ref h1, .ref h2, .ref h5, .ref h10, .int t.2])), (h2, .inr (2, [.ref h1, .ref h3, .ref h4, .int z.2.1, .int z.2.2.1, .int z.2.2.2.1])), (h3, .inl (X.2.1, 8, .inl safeF)), (h4, .inl (X.2.1, 8, .inl z.1)), (h1, .inr (1, [.int z.2.2.2.2])), (h5, .inr (3, [.ref h6, .ref h7, .ref h8, .ref h9, .int f.2.2.2.2])), (h6, .inl (X.2.1, 256, .inl f.1)), (h7, .inl (X.2.2.1, 256, .inl f.2.1)), (h8, .inl (X.2.2.2, 2048, .inl f.2.2.1)), (h9, .inl (X.2.1, 256, .inl f.2.2.2.1)), (h10, .inl (X.2.2.2, 8, .inl t.1)), (b0, .inr (4, [.int 0, .int z.2.1, .ref b1, .int z.2.2.1, .int z.2.2.2.1, .int z.2.2.2.2, .int t.2, .ref b2, .ref b3, .ref b4, .ref b5, .ref b6])), (b1, .inl (X.2.1, 8, .inl z.1)), (b2, .inl (X.2.1, 8, .inl t.1)), (b3, .inl (X.2.1, 256, .inl f.1)), (b4, .inl (X.2.2.1, 256, .inl f.2.1)), (b5, .inl (X.2.1, 256, .inl f.2.2.2.1)), (b6, .inl (X.2.1, 2048, .inl f.2.2.1))]) hC hw hl.1 (c_MK_value l X h0 h1 h2 h3 h4 h5 h6 h7 h8 h9 h10 z f t (xs ((nI i) + 1).toNatClampNeg)) k_214 k_211 k_212 k_213 k_5 [0, 1, 2, 3, 4, 5, 6, 7, 8, 9, 10] [11, 12, 13, 14, 15, 16, 17] [7, 8, 9, 10, 11, 12, 13, 14, 15, 16, 17, 0, 1, 2, 3, 4, 5, 6] rfl rfl rfl rfl rfl rfl (by decide) rfl (fun _ => rfl) (by decide +kernel) ⟨by decide, by decide⟩ rfl (Nat.le_of_ble_eq_true rfl) ⟨by decide, by decide⟩ rfl d_law_398 (fun u H locs hw => ?_)
        refine W.eq (g2 := F0 m 401 ls [.int (vl z f (xs ((nI i) + 1).toNatClampNeg))]) rfl ?_
        refine lv_aload_n hx hb d_law_401 rfl (lv_at hl 3 rfl) ?_
        refine lv_aload_n hx hb d_law_402 rfl (lv_at hl 1 rfl) ?_
        refine lv_iload_n hx hb d_law_403 rfl (lv_at hl 0 rfl) ?_
        refine lv_iconst (v := 1) hx hb d_law_404 (by decide) ?_
        refine lv_iadd hx hb d_law_405 ?_
        refine va_sld hx hb hX hbl hbA hw.2.2.1 (by rw [law_1]; exact vp_in_nI (by omega) (by omega)) d_law_406 ?_
        refine ct_callV (rest := [.int (vl z f (xs ((nI i) + 1).toNatClampNeg))]) (As := [.int (xs ((nI i) + 1).toNatClampNeg)]) (n := 1) (wr := [(h0, .inr (0, [.ref h1, .ref h2, .ref h5, .ref h10, .int t.2])), (h2, .inr (2, [.ref h1, .ref h3, .ref h4, .int z.2.1, .int z.2.2.1, .int z.2.2.2.1])), (h3, .inl (X.2.1, 8, .inl safeF)), (h4, .inl (X.2.1, 8, .inl z.1)), (h1, .inr (1, [.int z.2.2.2.2])), (h5, .inr (3, [.ref h6, .ref h7, .ref h8, .ref h9, .int f.2.2.2.2])), (h6, .inl (X.2.1, 256, .inl f.1)), (h7, .inl (X.2.2.1, 256, .inl f.2.1)), (h8, .inl (X.2.2.2, 2048, .inl f.2.2.1)), (h9, .inl (X.2.1, 256, .inl f.2.2.2.1)), (h10, .inl (X.2.2.2, 8, .inl t.1))]) (W2 := fun _ : Unit => [(h0, .inr (0, [.ref h1, .ref h2, .ref h5, .ref h10, .int t.2])), (h2, .inr (2, [.ref h1, .ref h3, .ref h4, .int z.2.1, .int z.2.2.1, .int z.2.2.2.1])), (h3, .inl (X.2.1, 8, .inl safeF)), (h4, .inl (X.2.1, 8, .inl z.1)), (h1, .inr (1, [.int z.2.2.2.2])), (h5, .inr (3, [.ref h6, .ref h7, .ref h8, .ref h9, .int f.2.2.2.2])), (h6, .inl (X.2.1, 256, .inl f.1)), (h7, .inl (X.2.2.1, 256, .inl f.2.1)), (h8, .inl (X.2.2.2, 2048, .inl f.2.2.1)), (h9, .inl (X.2.1, 256, .inl f.2.2.2.1)), (h10, .inl (X.2.2.2, 8, .inl t.1)), (b0, .inr (4, [.int 0, .int z.2.1, .ref b1, .int z.2.2.1, .int z.2.2.2.1, .int z.2.2.2.2, .int t.2, .ref b2, .ref b3, .ref b4, .ref b5, .ref b6])), (b1, .inl (X.2.1, 8, .inl z.1)), (b2, .inl (X.2.1, 8, .inl t.1)), (b3, .inl (X.2.1, 256, .inl f.1)), (b4, .inl (X.2.2.1, 256, .inl f.2.1)), (b5, .inl (X.2.1, 256, .inl f.2.2.2.1)), (b6, .inl (X.2.1, 2048, .inl f.2.2.1))]) hC hw hl.1 (c_Mm_value l X b0 b1 b2 b3 b4 b5 b6 z f t (xs ((nI i) + 1).toNatClampNeg) hI) k_317 k_314 k_315 k_316 k_9 [11, 12, 13, 14, 15, 16, 17] [0, 1, 2, 3, 4, 5, 6, 7, 8, 9, 10] [0, 1, 2, 3, 4, 5, 6, 7, 8, 9, 10, 11, 12, 13, 14, 15, 16, 17] rfl rfl rfl rfl rfl rfl (by decide) rfl (fun _ => rfl) (by decide +kernel) ⟨by decide, by decide⟩ rfl (Nat.le_of_ble_eq_true rfl) ⟨by decide, by decide⟩ rfl d_law_407 (fun u H locs hw => ?_)
        refine W.eq (g2 := F0 m 410 ls [.int (vl z f (xs ((nI i) + 1).toNatClampNeg)), .int (vl z f (xs ((nI i) + 1).toNatClampNeg))]) rfl ?_
        refine lv_icmp_eq (tgt := 448) hx hb d_law_410 (by decide) (fun c_410 => ?_) (fun c_410 => ?_)
        · refine lv_iinc (v := (nI i) + 3) (lv' := [(3, .int ((nI i) + 3)), (0, .ref b), (1, .ref h0), (2, .ref b0)]) hx hb d_law_448 hl (k := 0) rfl rfl (by decide) rfl (fun ls hl => ?_)
          refine lv_goto (tgt := 18) hx hb d_law_451 (by decide) ?_
          exact ih (i + 3) z f t h0 h1 h2 h3 h4 h5 h6 h7 h8 h9 h10 b0 b1 b2 b3 b4 b5 b6 ls H locs (by omega) (by omega) hI (by rw [law_3] at hl; exact hl) hw
        · exact absurd rfl c_410
      by_cases e_11 : w = 11
      · refine lv_tableIn (off := 383) (tgt := 415) hx hb d_law_32 (by rw [e_11]; decide) (by rw [e_11]; decide) (by rw [e_11]; rfl) (by decide) ?_
        refine lv_aload_n hx hb d_law_415 rfl (lv_at hl 2 rfl) ?_
        refine lv_aload_n hx hb d_law_416 rfl (lv_at hl 1 rfl) ?_
        refine lv_iload_n hx hb d_law_417 rfl (lv_at hl 0 rfl) ?_
        refine lv_iconst (v := 1) hx hb d_law_418 (by decide) ?_
        refine lv_iadd hx hb d_law_419 ?_
        refine va_sld hx hb hX hbl hbA hw.2.2.1 (by rw [law_1]; exact vp_in_nI (by omega) (by omega)) d_law_420 ?_
        refine lv_aload_n hx hb d_law_421 rfl (lv_at hl 1 rfl) ?_
        refine lv_iload_n hx hb d_law_422 rfl (lv_at hl 0 rfl) ?_
        refine lv_iconst (v := 2) hx hb d_law_423 (by decide) ?_
        refine lv_iadd hx hb d_law_424 ?_
        refine va_sld hx hb hX hbl hbA hw.2.2.1 (by rw [law_2]; exact vp_in_nI (by omega) (by omega)) d_law_425 ?_
        refine ct_callV (rest := []) (As := [.int (xs ((nI i) + 1).toNatClampNeg), .int (xs ((nI i) + 2).toNatClampNeg)]) (n := 2) (wr := [(b0, .inr (4, [.int 0, .int z.2.1, .ref b1, .int z.2.2.1, .int z.2.2.2.1, .int z.2.2.2.2, .int t.2, .ref b2, .ref b3, .ref b4, .ref b5, .ref b6])), (b1, .inl (X.2.1, 8, .inl z.1)), (b2, .inl (X.2.1, 8, .inl t.1)), (b3, .inl (X.2.1, 256, .inl f.1)), (b4, .inl (X.2.2.1, 256, .inl f.2.1)), (b5, .inl (X.2.1, 256, .inl f.2.2.2.1)), (b6, .inl (X.2.1, 2048, .inl f.2.2.1))]) (W2 := fun _ : Unit => [(h0, .inr (0, [.ref h1, .ref h2, .ref h5, .ref h10, .int t.2])), (h2, .inr (2, [.ref h1, .ref h3, .ref h4, .int z.2.1, .int z.2.2.1, .int z.2.2.2.1])), (h3, .inl (X.2.1, 8, .inl safeF)), (h4, .inl (X.2.1, 8, .inl z.1)), (h1, .inr (1, [.int z.2.2.2.2])), (h5, .inr (3, [.ref h6, .ref h7, .ref h8, .ref h9, .int f.2.2.2.2])), (h6, .inl (X.2.1, 256, .inl f.1)), (h7, .inl (X.2.2.1, 256, .inl f.2.1)), (h8, .inl (X.2.2.2, 2048, .inl f.2.2.1)), (h9, .inl (X.2.1, 256, .inl f.2.2.2.1)), (h10, .inl (X.2.2.2, 8, .inl t.1)), (b0, .inr (4, [.int 0, .int z.2.1, .ref b1, .int z.2.2.1, .int z.2.2.2.1, .int z.2.2.2.2, .int t.2, .ref b2, .ref b3, .ref b4, .ref b5, .ref b6])), (b1, .inl (X.2.1, 8, .inl z.1)), (b2, .inl (X.2.1, 8, .inl t.1)), (b3, .inl (X.2.1, 256, .inl f.1)), (b4, .inl (X.2.2.1, 256, .inl f.2.1)), (b5, .inl (X.2.1, 256, .inl f.2.2.2.1)), (b6, .inl (X.2.1, 2048, .inl f.2.2.1))]) hC hw hl.1 (c_MK_about l X h0 h1 h2 h3 h4 h5 h6 h7 h8 h9 h10 z f t (xs ((nI i) + 1).toNatClampNeg) (xs ((nI i) + 2).toNatClampNeg)) k_218 k_215 k_216 k_217 k_5 [0, 1, 2, 3, 4, 5, 6, 7, 8, 9, 10] [11, 12, 13, 14, 15, 16, 17] [7, 8, 9, 10, 11, 12, 13, 14, 15, 16, 17, 0, 1, 2, 3, 4, 5, 6] rfl rfl rfl rfl rfl rfl (by decide) rfl (fun _ => rfl) (by decide +kernel) ⟨by decide, by decide⟩ rfl (Nat.le_of_ble_eq_true rfl) ⟨by decide, by decide⟩ rfl d_law_426 (fun u H locs hw => ?_)
        refine W.eq (g2 := F0 m 429 ls [.int (ab f (xs ((nI i) + 1).toNatClampNeg) (xs ((nI i) + 2).toNatClampNeg))]) rfl ?_
        refine lv_aload_n hx hb d_law_429 rfl (lv_at hl 3 rfl) ?_
        refine lv_aload_n hx hb d_law_430 rfl (lv_at hl 1 rfl) ?_
        refine lv_iload_n hx hb d_law_431 rfl (lv_at hl 0 rfl) ?_
        refine lv_iconst (v := 1) hx hb d_law_432 (by decide) ?_
        refine lv_iadd hx hb d_law_433 ?_
        refine va_sld hx hb hX hbl hbA hw.2.2.1 (by rw [law_1]; exact vp_in_nI (by omega) (by omega)) d_law_434 ?_
        refine lv_aload_n hx hb d_law_435 rfl (lv_at hl 1 rfl) ?_
        refine lv_iload_n hx hb d_law_436 rfl (lv_at hl 0 rfl) ?_
        refine lv_iconst (v := 2) hx hb d_law_437 (by decide) ?_
        refine lv_iadd hx hb d_law_438 ?_
        refine va_sld hx hb hX hbl hbA hw.2.2.1 (by rw [law_2]; exact vp_in_nI (by omega) (by omega)) d_law_439 ?_
        refine ct_callV (rest := [.int (ab f (xs ((nI i) + 1).toNatClampNeg) (xs ((nI i) + 2).toNatClampNeg))]) (As := [.int (xs ((nI i) + 1).toNatClampNeg), .int (xs ((nI i) + 2).toNatClampNeg)]) (n := 2) (wr := [(h0, .inr (0, [.ref h1, .ref h2, .ref h5, .ref h10, .int t.2])), (h2, .inr (2, [.ref h1, .ref h3, .ref h4, .int z.2.1, .int z.2.2.1, .int z.2.2.2.1])), (h3, .inl (X.2.1, 8, .inl safeF)), (h4, .inl (X.2.1, 8, .inl z.1)), (h1, .inr (1, [.int z.2.2.2.2])), (h5, .inr (3, [.ref h6, .ref h7, .ref h8, .ref h9, .int f.2.2.2.2])), (h6, .inl (X.2.1, 256, .inl f.1)), (h7, .inl (X.2.2.1, 256, .inl f.2.1)), (h8, .inl (X.2.2.2, 2048, .inl f.2.2.1)), (h9, .inl (X.2.1, 256, .inl f.2.2.2.1)), (h10, .inl (X.2.2.2, 8, .inl t.1))]) (W2 := fun _ : Unit => [(h0, .inr (0, [.ref h1, .ref h2, .ref h5, .ref h10, .int t.2])), (h2, .inr (2, [.ref h1, .ref h3, .ref h4, .int z.2.1, .int z.2.2.1, .int z.2.2.2.1])), (h3, .inl (X.2.1, 8, .inl safeF)), (h4, .inl (X.2.1, 8, .inl z.1)), (h1, .inr (1, [.int z.2.2.2.2])), (h5, .inr (3, [.ref h6, .ref h7, .ref h8, .ref h9, .int f.2.2.2.2])), (h6, .inl (X.2.1, 256, .inl f.1)), (h7, .inl (X.2.2.1, 256, .inl f.2.1)), (h8, .inl (X.2.2.2, 2048, .inl f.2.2.1)), (h9, .inl (X.2.1, 256, .inl f.2.2.2.1)), (h10, .inl (X.2.2.2, 8, .inl t.1)), (b0, .inr (4, [.int 0, .int z.2.1, .ref b1, .int z.2.2.1, .int z.2.2.2.1, .int z.2.2.2.2, .int t.2, .ref b2, .ref b3, .ref b4, .ref b5, .ref b6])), (b1, .inl (X.2.1, 8, .inl z.1)), (b2, .inl (X.2.1, 8, .inl t.1)), (b3, .inl (X.2.1, 256, .inl f.1)), (b4, .inl (X.2.2.1, 256, .inl f.2.1)), (b5, .inl (X.2.1, 256, .inl f.2.2.2.1)), (b6, .inl (X.2.1, 2048, .inl f.2.2.1))]) hC hw hl.1 (c_Mm_about l X b0 b1 b2 b3 b4 b5 b6 z f t (xs ((nI i) + 1).toNatClampNeg) (xs ((nI i) + 2).toNatClampNeg)) k_321 k_318 k_319 k_320 k_9 [11, 12, 13, 14, 15, 16, 17] [0, 1, 2, 3, 4, 5, 6, 7, 8, 9, 10] [0, 1, 2, 3, 4, 5, 6, 7, 8, 9, 10, 11, 12, 13, 14, 15, 16, 17] rfl rfl rfl rfl rfl rfl (by decide) rfl (fun _ => rfl) (by decide +kernel) ⟨by decide, by decide⟩ rfl (Nat.le_of_ble_eq_true rfl) ⟨by decide, by decide⟩ rfl d_law_440 (fun u H locs hw => ?_)
        refine W.eq (g2 := F0 m 443 ls [.int (ab f (xs ((nI i) + 1).toNatClampNeg) (xs ((nI i) + 2).toNatClampNeg)), .int (ab f (xs ((nI i) + 1).toNatClampNeg) (xs ((nI i) + 2).toNatClampNeg))]) rfl ?_
        refine lv_icmp_eq (tgt := 448) hx hb d_law_443 (by decide) (fun c_443 => ?_) (fun c_443 => ?_)
        · refine lv_iinc (v := (nI i) + 3) (lv' := [(3, .int ((nI i) + 3)), (0, .ref b), (1, .ref h0), (2, .ref b0)]) hx hb d_law_448 hl (k := 0) rfl rfl (by decide) rfl (fun ls hl => ?_)
          refine lv_goto (tgt := 18) hx hb d_law_451 (by decide) ?_
          exact ih (i + 3) z f t h0 h1 h2 h3 h4 h5 h6 h7 h8 h9 h10 b0 b1 b2 b3 b4 b5 b6 ls H locs (by omega) (by omega) hI (by rw [law_3] at hl; exact hl) hw
        · exact absurd rfl c_443
      refine lv_tableOut (tgt := 448) hx hb d_law_32 (sw12_out e_0 e_1 e_2 e_3 e_4 e_5 e_6 e_7 e_8 e_9 e_10 e_11) (by decide) ?_
      refine lv_iinc (v := (nI i) + 3) (lv' := [(3, .int ((nI i) + 3)), (0, .ref b), (1, .ref h0), (2, .ref b0)]) hx hb d_law_448 hl (k := 0) rfl rfl (by decide) rfl (fun ls hl => ?_)
      refine lv_goto (tgt := 18) hx hb d_law_451 (by decide) ?_
      exact ih (i + 3) z f t h0 h1 h2 h3 h4 h5 h6 h7 h8 h9 h10 b0 b1 b2 b3 b4 b5 b6 ls H locs (by omega) (by omega) hI (by rw [law_3] at hl; exact hl) hw
set_option maxHeartbeats 4000000 in
set_option maxRecDepth 100000 in
/-- THE LAW, from its entry -/
theorem whole_start {p : Program} {e : Env} {s : State} {m : MethodId} {below : List Frame} {meth : Method} {c : Code} (l : Launch) {b L : Nat} {xs : Nat → Int32} (hL : L ≤ 1536) (C0 : lw_At p s m meth c b L xs) : W p l e room_1 s m #[Value.ref b] below meth c s.heap [] 0 0 (lw_Z below #[Value.ref b] s) (entryFrame m ([Value.ref b] : List Value).toArray 4) := by
  obtain ⟨hx, hb, hr, hml, hown, hts, hX, hbl, hlocks, hgv⟩ := C0
  obtain ⟨c0, iS0, hKn0⟩ := u_known (C := "ModeKeeper") (T := F_MK) (N := 5) (n := 5) hts (fun w hw => big_sub w (i_MK w hw)) (hts _ (big_sub _ k_12))
  obtain ⟨c1, iS1, hKn1⟩ := u_known (C := "ModeKeeper$Counter") (T := F_Co) (N := 1) (n := 1) hts (fun w hw => big_sub w (i_Co w hw)) (hts _ (big_sub _ k_20))
  obtain ⟨c2, iS2, hKn2⟩ := u_known (C := "ModeKeeper$Modes") (T := F_Mo) (N := 6) (n := 6) hts (fun w hw => big_sub w (i_Mo w hw)) (hts _ (big_sub _ k_31))
  obtain ⟨c3, iS3, hKn3⟩ := u_known (C := "ModeKeeper$Forms") (T := F_Fo) (N := 5) (n := 5) hts (fun w hw => big_sub w (i_Fo w hw)) (hts _ (big_sub _ k_61))
  obtain ⟨c4, iS4, hKn4⟩ := u_known (C := "ModeKeeperModel") (T := F_Mm) (N := 12) (n := 12) hts (fun w hw => big_sub w (i_Mm w hw)) (hts _ (big_sub _ k_220))
  obtain ⟨dC, dI, hKc⟩ : ∃ (dC : Nat → ClassId) (dI : Nat → Nat → Nat), ∀ (k : Nat) (q : vw_C), classes[k]? = some q → u_Kn s q.1 q.2.1 q.2.2 (dC k) (dI k) := by
    refine ⟨fun k => if k = 0 then c0 else if k = 1 then c1 else if k = 2 then c2 else if k = 3 then c3 else c4, fun k => if k = 0 then iS0 else if k = 1 then iS1 else if k = 2 then iS2 else if k = 3 then iS3 else iS4, ?_⟩
    intro k q hq
    match k, hq with
    | 0, hq => cases hq; exact hKn0
    | 1, hq => cases hq; exact hKn1
    | 2, hq => cases hq; exact hKn2
    | 3, hq => cases hq; exact hKn3
    | 4, hq => cases hq; exact hKn4
    | k + 5, hq => simp [classes] at hq
  obtain ⟨cI, kI, mI, hI1, hI2, hI3⟩ := Cond.arrayClass_spec (hts _ (big_sub _ k_59))
  obtain ⟨cZ, kZ, mZ, hZ1, hZ2, hZ3⟩ := Cond.arrayClass_spec (hts _ (big_sub _ k_86))
  obtain ⟨cB, kB, mB, hB1, hB2, hB3⟩ := Cond.arrayClass_spec (hts _ (big_sub _ k_87))
  obtain ⟨X, hXe⟩ : ∃ X : GG, X = ((dC, dI), cI, cZ, cB) := ⟨_, rfl⟩
  have hK : va_K X.1 classes (Tys X) s := by
    subst hXe
    refine ⟨hKc, fun k q h => ?_⟩
    match k, h with
    | 0, h => cases h; exact ⟨fun n z => ⟨fun k h => (by cases h), kI, hI2, mI, hI3⟩, hI1⟩
    | 1, h => cases h; exact ⟨fun n z => ⟨fun k h => (by cases h), kZ, hZ2, mZ, hZ3⟩, hZ1⟩
    | 2, h => cases h; exact ⟨fun n z => ⟨fun k h => (by cases h), kB, hB2, mB, hB3⟩, hB1⟩
    | k + 3, h => simp at h
  have hN : NX s := by
    refine ⟨va_Fw.of (hts _ k_138) (hts _ k_137) (hts _ k_143) (hts _ k_141) (hts _ k_139), ?_, ?_⟩
    · exact List.forall_mem_cons.mpr ⟨va_Nw.of rfl (hts _ k_26), List.forall_mem_cons.mpr ⟨va_Nw.of rfl (hts _ k_39), List.forall_mem_cons.mpr ⟨va_Nw.of rfl (hts _ k_41), List.forall_mem_cons.mpr ⟨va_Nw.of rfl (hts _ k_43), List.forall_mem_cons.mpr ⟨va_Nw.of rfl (hts _ k_45), List.forall_mem_cons.mpr ⟨va_Nw.of rfl (hts _ k_67), List.forall_mem_cons.mpr ⟨va_Nw.of rfl (hts _ k_69), List.forall_mem_cons.mpr ⟨va_Nw.of rfl (hts _ k_72), List.forall_mem_cons.mpr ⟨va_Nw.of rfl (hts _ k_74), fun _ h => absurd h List.not_mem_nil⟩⟩⟩⟩⟩⟩⟩⟩⟩
    · exact List.forall_mem_cons.mpr ⟨va_Nw.of rfl (hts _ k_21), List.forall_mem_cons.mpr ⟨va_Nw.of rfl (hts _ k_62), fun _ h => absurd h List.not_mem_nil⟩⟩
  have hC : Cx p s m #[Value.ref b] meth c "ModeKeeperLaw" code 4 ret X := ⟨hx, hb, hml, hown, fun w hw => hts w (big_sub w hw), ⟨hK, hN⟩, hr, hlocks⟩
  have hw : Wd X (fun q : Nat => s.heap.size ≤ q) s.heap [] s.heap [] := ⟨fun k q h => by simp at h, ⟨fun i j p q h => by simp at h, fun k q h => by simp at h⟩, va_S.rf, fun _ h => h⟩
  have hl := lv_entry ([.ref b]) (n := 4) (Nat.le_of_ble_eq_true rfl)
  rw [lg_entry_eq]
  generalize (lg_sl ([.ref b]) ++ List.replicate (4 - (lg_sl ([.ref b])).length) Slot.unset).toArray = ls at hl ⊢
  have hl : lv_has ls 4 [(0, .ref b)] := hl
  refine ct_new hC hw 0 (ws' := fun q0 => [(q0, .inr (0, [.null, .null, .null, .null, .int 0]))]) (fs := [.null, .null, .null, .null, .int 0]) rfl k_11 k_12 k_5 (by decide +kernel) (by decide) (by decide) (fun _ => rfl) d_law_0 (fun q0 H hw => ?_)
  refine W.widen (k := 1) (n := 5) (by decide) (by decide) ?_
  refine lv_dup hx hb d_law_3 rfl ?_
  refine ct_callI (rest := [.ref q0]) (As := []) (n := 0) (wr := []) (W2 := fun u : Nat × Nat × Nat × Nat × Nat × Nat × Nat × Nat × Nat × Nat => [(q0, .inr (0, [.ref u.1, .ref u.2.1, .ref u.2.2.2.2.1, .ref u.2.2.2.2.2.2.2.2.2, .int 0])), (u.2.1, .inr (2, [.ref u.1, .ref u.2.2.1, .ref u.2.2.2.1, .int 1, .int 0, .int 0])), (u.2.2.1, .inl (X.2.1, 8, .inl safeF)), (u.2.2.2.1, .inl (X.2.1, 8, .inl (fun _ => 0))), (u.1, .inr (1, [.int 0])), (u.2.2.2.2.1, .inr (3, [.ref u.2.2.2.2.2.1, .ref u.2.2.2.2.2.2.1, .ref u.2.2.2.2.2.2.2.1, .ref u.2.2.2.2.2.2.2.2.1, .int 0])), (u.2.2.2.2.2.1, .inl (X.2.1, 256, .inl (fun _ => 0))), (u.2.2.2.2.2.2.1, .inl (X.2.2.1, 256, .inl (fun _ => 0))), (u.2.2.2.2.2.2.2.1, .inl (X.2.2.2, 2048, .inl (fun _ => 0))), (u.2.2.2.2.2.2.2.2.1, .inl (X.2.1, 256, .inl (fun _ => 0))), (u.2.2.2.2.2.2.2.2.2, .inl (X.2.2.2, 8, .inl (fun _ => 0)))]) hC hw hl.1 (c_MK_init l X q0) k_15 k_13 k_14 k_5 [0] [] [0, 1, 2, 3, 4, 5, 6, 7, 8, 9, 10] rfl rfl rfl rfl (by decide) rfl (fun _ => rfl) rfl (by decide +kernel) ⟨by decide, by decide⟩ rfl (Nat.le_of_ble_eq_true rfl) ⟨by decide, by decide⟩ rfl d_law_4 (fun u H locs hw => ?_)
  obtain ⟨h1, h2, h3, h4, h5, h6, h7, h8, h9, h10⟩ := u
  have hw : Wd X _ s.heap [(q0, .inr (0, [.ref h1, .ref h2, .ref h5, .ref h10, .int 0])), (h2, .inr (2, [.ref h1, .ref h3, .ref h4, .int 1, .int 0, .int 0])), (h3, .inl (X.2.1, 8, .inl safeF)), (h4, .inl (X.2.1, 8, .inl (fun _ => 0))), (h1, .inr (1, [.int 0])), (h5, .inr (3, [.ref h6, .ref h7, .ref h8, .ref h9, .int 0])), (h6, .inl (X.2.1, 256, .inl (fun _ => 0))), (h7, .inl (X.2.2.1, 256, .inl (fun _ => 0))), (h8, .inl (X.2.2.2, 2048, .inl (fun _ => 0))), (h9, .inl (X.2.1, 256, .inl (fun _ => 0))), (h10, .inl (X.2.2.2, 8, .inl (fun _ => 0)))] H locs := hw
  refine W.widen (k := 11) (n := 2857) (by decide) (by decide) ?_
  refine W.eq (g2 := F0 m 7 ls [.ref q0]) rfl ?_
  refine lv_astore_n (lv' := [(1, .ref q0), (0, .ref b)]) hx hb d_law_7 rfl hl (by decide) rfl (fun ls hl => ?_)
  refine ct_new hC hw 4 (ws' := fun q1 => [(q0, .inr (0, [.ref h1, .ref h2, .ref h5, .ref h10, .int 0])), (h2, .inr (2, [.ref h1, .ref h3, .ref h4, .int 1, .int 0, .int 0])), (h3, .inl (X.2.1, 8, .inl safeF)), (h4, .inl (X.2.1, 8, .inl (fun _ => 0))), (h1, .inr (1, [.int 0])), (h5, .inr (3, [.ref h6, .ref h7, .ref h8, .ref h9, .int 0])), (h6, .inl (X.2.1, 256, .inl (fun _ => 0))), (h7, .inl (X.2.2.1, 256, .inl (fun _ => 0))), (h8, .inl (X.2.2.2, 2048, .inl (fun _ => 0))), (h9, .inl (X.2.1, 256, .inl (fun _ => 0))), (h10, .inl (X.2.2.2, 8, .inl (fun _ => 0))), (q1, .inr (4, [.int 0, .int 0, .null, .int 0, .int 0, .int 0, .int 0, .null, .null, .null, .null, .null]))]) (fs := [.int 0, .int 0, .null, .int 0, .int 0, .int 0, .int 0, .null, .null, .null, .null, .null]) rfl k_219 k_220 k_9 (by decide +kernel) (by decide) (by decide) (fun _ => rfl) d_law_8 (fun q1 H hw => ?_)
  refine W.widen (k := 12) (n := 2869) (by decide) (by decide) ?_
  refine lv_dup hx hb d_law_11 rfl ?_
  refine ct_callI (rest := [.ref q1]) (As := []) (n := 0) (wr := [(q0, .inr (0, [.ref h1, .ref h2, .ref h5, .ref h10, .int 0])), (h2, .inr (2, [.ref h1, .ref h3, .ref h4, .int 1, .int 0, .int 0])), (h3, .inl (X.2.1, 8, .inl safeF)), (h4, .inl (X.2.1, 8, .inl (fun _ => 0))), (h1, .inr (1, [.int 0])), (h5, .inr (3, [.ref h6, .ref h7, .ref h8, .ref h9, .int 0])), (h6, .inl (X.2.1, 256, .inl (fun _ => 0))), (h7, .inl (X.2.2.1, 256, .inl (fun _ => 0))), (h8, .inl (X.2.2.2, 2048, .inl (fun _ => 0))), (h9, .inl (X.2.1, 256, .inl (fun _ => 0))), (h10, .inl (X.2.2.2, 8, .inl (fun _ => 0)))]) (W2 := fun u : Nat × Nat × Nat × Nat × Nat × Nat => [(q0, .inr (0, [.ref h1, .ref h2, .ref h5, .ref h10, .int 0])), (h2, .inr (2, [.ref h1, .ref h3, .ref h4, .int 1, .int 0, .int 0])), (h3, .inl (X.2.1, 8, .inl safeF)), (h4, .inl (X.2.1, 8, .inl (fun _ => 0))), (h1, .inr (1, [.int 0])), (h5, .inr (3, [.ref h6, .ref h7, .ref h8, .ref h9, .int 0])), (h6, .inl (X.2.1, 256, .inl (fun _ => 0))), (h7, .inl (X.2.2.1, 256, .inl (fun _ => 0))), (h8, .inl (X.2.2.2, 2048, .inl (fun _ => 0))), (h9, .inl (X.2.1, 256, .inl (fun _ => 0))), (h10, .inl (X.2.2.2, 8, .inl (fun _ => 0))), (q1, .inr (4, [.int 0, .int 1, .ref u.1, .int 0, .int 0, .int 0, .int 0, .ref u.2.1, .ref u.2.2.1, .ref u.2.2.2.1, .ref u.2.2.2.2.1, .ref u.2.2.2.2.2])), (u.1, .inl (X.2.1, 8, .inl (fun _ => 0))), (u.2.1, .inl (X.2.1, 8, .inl (fun _ => 0))), (u.2.2.1, .inl (X.2.1, 256, .inl (fun _ => 0))), (u.2.2.2.1, .inl (X.2.2.1, 256, .inl (fun _ => 0))), (u.2.2.2.2.1, .inl (X.2.1, 256, .inl (fun _ => 0))), (u.2.2.2.2.2, .inl (X.2.1, 2048, .inl (fun _ => 0)))]) hC hw hl.1 (c_Mm_init l X q1) k_223 k_221 k_222 k_9 [11] [0, 1, 2, 3, 4, 5, 6, 7, 8, 9, 10] [0, 1, 2, 3, 4, 5, 6, 7, 8, 9, 10, 11, 12, 13, 14, 15, 16, 17] rfl rfl rfl rfl (by decide) rfl (fun _ => rfl) rfl (by decide +kernel) ⟨by decide, by decide⟩ rfl (Nat.le_of_ble_eq_true rfl) ⟨by decide, by decide⟩ rfl d_law_12 (fun u H locs hw => ?_)
  obtain ⟨b1, b2, b3, b4, b5, b6⟩ := u
  have hw : Wd X _ s.heap [(q0, .inr (0, [.ref h1, .ref h2, .ref h5, .ref h10, .int 0])), (h2, .inr (2, [.ref h1, .ref h3, .ref h4, .int 1, .int 0, .int 0])), (h3, .inl (X.2.1, 8, .inl safeF)), (h4, .inl (X.2.1, 8, .inl (fun _ => 0))), (h1, .inr (1, [.int 0])), (h5, .inr (3, [.ref h6, .ref h7, .ref h8, .ref h9, .int 0])), (h6, .inl (X.2.1, 256, .inl (fun _ => 0))), (h7, .inl (X.2.2.1, 256, .inl (fun _ => 0))), (h8, .inl (X.2.2.2, 2048, .inl (fun _ => 0))), (h9, .inl (X.2.1, 256, .inl (fun _ => 0))), (h10, .inl (X.2.2.2, 8, .inl (fun _ => 0))), (q1, .inr (4, [.int 0, .int 1, .ref b1, .int 0, .int 0, .int 0, .int 0, .ref b2, .ref b3, .ref b4, .ref b5, .ref b6])), (b1, .inl (X.2.1, 8, .inl (fun _ => 0))), (b2, .inl (X.2.1, 8, .inl (fun _ => 0))), (b3, .inl (X.2.1, 256, .inl (fun _ => 0))), (b4, .inl (X.2.2.1, 256, .inl (fun _ => 0))), (b5, .inl (X.2.1, 256, .inl (fun _ => 0))), (b6, .inl (X.2.1, 2048, .inl (fun _ => 0)))] H locs := hw
  refine W.widen (k := 18) (n := 5701) (by decide) (by decide) ?_
  refine W.eq (g2 := F0 m 15 ls [.ref q1]) rfl ?_
  refine lv_astore_n (lv' := [(2, .ref q1), (1, .ref q0), (0, .ref b)]) hx hb d_law_15 rfl hl (by decide) rfl (fun ls hl => ?_)
  refine lv_iconst (v := 0) hx hb d_law_16 (by decide) ?_
  refine lv_istore_n (lv' := [(3, .int 0), (2, .ref q1), (1, .ref q0), (0, .ref b)]) hx hb d_law_17 rfl hl (by decide) rfl (fun ls hl => ?_)
  exact law_loop hL hx hb hC hX hbl (L + 3) 0 (fun _ => 0, 1, 0, 0, 0) (fun _ => 0, fun _ => 0, fun _ => 0, fun _ => 0, 0) (fun _ => 0, 0) q0 h1 h2 h3 h4 h5 h6 h7 h8 h9 h10 q1 b1 b2 b3 b4 b5 b6 ls H _ (by omega) (by omega) inv_0 (show lv_has ls 4 [(3, .int (nI 0)), (0, .ref b), (1, .ref q0), (2, .ref q1)] by rw [nI_0]; exact lv_sub hl [0, 3, 2, 1] rfl) hw
end
section
set_option maxHeartbeats 4000000 in
theorem lw_walk (l : Launch) (b : Addr) (xs : List Int32) : MetFree l x (headSpec (Jvm.Cond.code x code maxLocals ret :: tables_1) room_1) (lw_P b xs) (fun _ _ _ _ _ => True) lw_Q := by
  refine MetFree.of_bodyS (code := code) (maxLocals := maxLocals) (ret := ret) (by decide) ?_ ?_
  · intro args s m h hn
    obtain ⟨meth, c, h1, h2, h3, h4, h5, h6, -, -⟩ := Cond.code_spec hn (atoms_spec (ws := Jvm.Cond.code x code maxLocals ret :: tables_1) h _ List.mem_cons_self)
    exact ⟨meth, c, h1, h2, h3, h4, h5, h6⟩
  · intro p e s m args below meth c s₁ B hml0 hP _
    obtain ⟨rfl, hx, hbd, hgv⟩ := hP
    obtain ⟨scr, harrAt, hlist, hof, hsmall⟩ := hx
    obtain ⟨hcb, hkn, -, -⟩ := State.arrayAt?_spec harrAt
    have hown : s.vm.findClass R_law = some m.cls := findClass_of_methodNamed B.named
    have hts0 : ∀ c ∈ (Jvm.Cond.code x code maxLocals ret :: tables_1), c.before #[Value.ref b] s = true := atoms_spec (ws := Jvm.Cond.code x code maxLocals ret :: tables_1) B.pre
    have hts : ∀ w ∈ lw_tbl, w.before #[Value.ref b] s = true := k2_hts_sels lw_privs (fun w hw => hts0 w (List.mem_cons_of_mem _ hw)) lw_privs_ok
    have hml : c.maxLocals = 4 := B.maxLocals_eq (hts0 _ List.mem_cons_self)
    have X₀ : Stand p l e room_1 s m #[Value.ref b] below meth c s₁ [] 0 0 := Stand.of_body B
    have hh0 : s₁.heap = s.heap := by rw [B.state]; rfl
    have hsz : scr.slots.size = xs.length := by rw [← Array.length_toList, hlist, List.length_map]
    have hval : ∀ j : Nat, j < xs.length → scr.slots[j]? = some (.int (xs.getD j 0)) := fun j hj => by
      rw [← Array.getElem?_toList, hlist]
      simp [hj]
    have hbl : b < s.heap.size := (Array.getElem?_eq_some_iff.mp hcb).1
    have hX : va_X b xs.length (fun j => xs.getD j 0) s s.heap := ⟨scr, hcb, hof, hkn, hsz, hval⟩
    have K : W p l e room_1 s m #[Value.ref b] below meth c s₁.heap [] 0 0 (lw_Z below #[Value.ref b] s) (entryFrame m ([Value.ref b] : List Value).toArray 4) := by
      rw [hh0]
      exact whole_start l hbd ⟨B.exec, B.bytes, B.returns, hml, hown, hts, hX, hbl, B.notSynchronized, hgv⟩
    obtain ⟨t, a1, o, b1, b2, b3⟩ := K s₁ rfl X₀
    exact ⟨t, o, a1, b1, b2, b3⟩
theorem lw_pre_spec {args : Array Value} {s : State} (h : (Jvm.Cond.and given_1 narrow_1).before args s = true) (hr : rest_1_c.before args s = true) : ∃ (b : Addr) (xs : List Int32), lw_P b xs args s := by
  have hs := flat_of_before _ h
  have hq := flat_of_before _ hr
  have hc : (Cond.count 1).before args s = true := hs _ (by decide +kernel)
  have harr : (Cond.arrayOf (.arg 0) .int).before args s = true := hs _ (by decide +kernel)
  have hle : (Cond.le (.length (.arg 0)) (.int 1536)).before args s = true := hs _ (by decide +kernel)
  have hlen : (Cond.isInt (.length (.arg 0))).before args s = true := hq _ (by decide +kernel)
  have hall : (Cond.all (.arg 0) (.isInt (.elem (.arg 0) (.index 0)))).before args s = true := hq _ (by decide +kernel)
  obtain ⟨b, xs, hb, hx⟩ := State.ints_of_pre rfl harr hlen hall
  have hsm : xs.length < 2 ^ 31 := hx.choose_spec.2.2.2
  have hev : (Term.length (.arg 0)).eval args s none [] s = some (.int xs.length.toInt32) := hx.length_eval hb
  have hv := Cond.le_ints hev (show (Term.int 1536).eval args s none [] s = some (.int 1536) from rfl)
  have hd : xs.length.toInt32 ≤ 1536 := by
    simpa [Cond.before, Cond.holds, hv] using hle
  have hN : xs.length ≤ 1536 := (Int32.ofNat_le_ofNat hsm (by decide)).mp (show Int32.ofNat xs.length ≤ Int32.ofNat 1536 from hd)
  exact ⟨b, xs, Cond.one_arg hc (show args[0]? = some (.ref b) from hb), hx, hN, h⟩
theorem lw_comes (l : Launch) : Comes l x (Jvm.Cond.code x code maxLocals ret :: tables_1) room_1 (fun tb e args s => Calls_1 tb e args s ∧ rest_1 tb e args s ∧ Pre_1 tb e args s)
    (fun _ _ args s o t => lw_Q args s o t) := by
  intro p e ha hc hk s m args below hf hfit hheap happ hpre
  obtain ⟨b, xs, hP⟩ := lw_pre_spec hpre.2.2 hpre.2.1
  obtain ⟨k, o, h1, h2, h3, hQ⟩ := lw_walk l b xs p e ha hc hk s m args below hf ((Spec.applies_iff_loose hf).mp happ).1 hP trivial
  exact ⟨k, o, h1, h2, h3, hQ⟩
theorem lw_frame {s t : State} {o : Outcome} {args : Array Value} (h : Framed s o t [] 18 5701) :
    Framed s o t (fieldLocs frame_1_writes args s ++ arrayLocs frame_1_arrays args s ++ staticLocs frame_1_statics s) 18 5701 := h
theorem lw_limb (L : Cond) (hL : ∀ (args : Array Value) (s t : State), L.after args s (.returned (some (.int 1))) t = true) :
    ArmFor flags0 classFile x code maxLocals ret World_1 tables_1 room_1 Calls_1 rest_1 Pre_1
      (fun tb e a s o t => postC L tb e a s o t ∧ Framed s o t (fieldLocs frame_1_writes a s ++ arrayLocs frame_1_arrays a s ++ staticLocs frame_1_statics s) 18 5701) := by
  intro l _ _ _ p e ha hc hk s m args below hf hfit hheap happ hpre
  obtain ⟨k, o, h1, h2, h3, rfl, hF⟩ := lw_comes l p e ha hc hk s m args below hf hfit hheap happ hpre
  exact ⟨k, _, h1, h2, h3, hL args s _, lw_frame hF⟩
theorem i_vc : Claimed_1_1 ∧ Claimed_1_2 := ⟨lw_limb limb_1_1 (fun args s t => by simp [limb_1_1, Cond.after, Cond.holds, Cond.value]), lw_limb limb_1_2 (fun args s t => Cond.after_iff.mpr (by
  first | (rw [show limb_1_2 = Cond.eq .result (.int 1) from rfl, Cond.eq_ints (x := 1) (y := 1) rfl rfl]; simp; done) | (simp [limb_1_2, Cond.value, Term.eval]; done)))⟩
end
