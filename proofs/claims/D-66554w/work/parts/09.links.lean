/-! names of methods; words of the tables that the walks use; links -/
def R_Math : String := "java/lang/Math"
def y_Vec_init : MethodName := ⟨R_Vec, "<init>", "()V"⟩
def y_Sess_init : MethodName := ⟨R_Sess, "<init>", "()V"⟩
def y_Item_init : MethodName := ⟨R_Item, "<init>", "()V"⟩
def y_St_init : MethodName := ⟨R_St, "<init>", "()V"⟩
def y_Repl_init : MethodName := ⟨R_Repl, "<init>", "()V"⟩
def y_RS_isIn : MethodName := ⟨R_RS, "isIn", "(JJJ)Z"⟩
def y_Log_init : MethodName := ⟨R_Log, "<init>", "()V"⟩
def y_RS_init : MethodName := ⟨R_RS, "<init>", "(II)V"⟩
def y_Math_min : MethodName := ⟨R_Math, "min", "(II)I"⟩
def y_RS_trim : MethodName := ⟨R_RS, "trim", "()I"⟩
def y_law_cell : MethodName := ⟨R_law, "cell", "([II)I"⟩
def y_Sess_has : MethodName := ⟨R_Sess, "has", "(I)Z"⟩
def y_Vec_covers : MethodName := ⟨R_Vec, "covers", "(LReadSide$Vector;)Z"⟩
def y_RS_may : MethodName := ⟨R_RS, "may", "(LReadSide$Replica;LReadSide$Read;)Z"⟩
def y_RS_numberOf : MethodName := ⟨R_RS, "numberOf", "(LReadSide$Replica;)I"⟩
def y_St_held : MethodName := ⟨R_St, "held", "(I)J"⟩
def y_St_ranked : MethodName := ⟨R_St, "ranked", "(I)I"⟩
def y_St_worth : MethodName := ⟨R_St, "worth", "(II)J"⟩
def y_St_answer : MethodName := ⟨R_St, "answer", "(III)J"⟩
def y_Vec_check : MethodName := ⟨R_Vec, "check", "(J)J"⟩
def y_Vec_token : MethodName := ⟨R_Vec, "token", "()J"⟩
def y_Math_max : MethodName := ⟨R_Math, "max", "(II)I"⟩
def y_Vec_rise : MethodName := ⟨R_Vec, "rise", "(LReadSide$Vector;)V"⟩
def y_RS_answer : MethodName := ⟨R_RS, "answer", "(LReadSide$Read;I)V"⟩
def y_RS_leave : MethodName := ⟨R_RS, "leave", "(I)V"⟩
def y_RS_look : MethodName := ⟨R_RS, "look", "(LReadSide$Replica;)V"⟩
def y_RS_index : MethodName := ⟨R_RS, "index", "(II)I"⟩
def y_RS_sessionAt : MethodName := ⟨R_RS, "sessionAt", "(I)LReadSide$Session;"⟩
def y_RS_want : MethodName := ⟨R_RS, "want", "(Z)V"⟩
def y_RS_mode : MethodName := ⟨R_RS, "mode", "(II)I"⟩
def y_law_mode : MethodName := ⟨R_law, "mode", "(LReadSide;II[J)I"⟩
def y_RS_replicaAt : MethodName := ⟨R_RS, "replicaAt", "(I)LReadSide$Replica;"⟩
def y_RS_home : MethodName := ⟨R_RS, "home", "(II)I"⟩
def y_law_home : MethodName := ⟨R_law, "home", "(LReadSide;II[J)I"⟩
def y_Vec_copy : MethodName := ⟨R_Vec, "copy", "(LReadSide$Vector;)V"⟩
def y_RS_need : MethodName := ⟨R_RS, "need", "(Z)V"⟩
def y_Cmd_init : MethodName := ⟨R_Cmd, "<init>", "(IIII)V"⟩
def y_RS_command : MethodName := ⟨R_RS, "command", "(IIIII)J"⟩
def y_law_command : MethodName := ⟨R_law, "command", "(LReadSide;IIIII[J)I"⟩
def y_Log_at : MethodName := ⟨R_Log, "at", "(I)LReadSide$Command;"⟩
def y_St_hold : MethodName := ⟨R_St, "hold", "(LReadSide$Item;II)V"⟩
def y_St_take : MethodName := ⟨R_St, "take", "(LReadSide$Command;)V"⟩
def y_RS_advance : MethodName := ⟨R_RS, "advance", "(LReadSide$Replica;I)I"⟩
def y_RS_step : MethodName := ⟨R_RS, "step", "(II)I"⟩
def y_law_step : MethodName := ⟨R_law, "step", "(LReadSide;II[J)I"⟩
def y_RS_speed : MethodName := ⟨R_RS, "speed", "(II)I"⟩
def y_law_speed : MethodName := ⟨R_law, "speed", "(LReadSide;II[J)I"⟩
def y_RS_fail : MethodName := ⟨R_RS, "fail", "(LReadSide$Read;)V"⟩
def y_RS_hurry : MethodName := ⟨R_RS, "hurry", "(LReadSide$Replica;)I"⟩
def y_RS_ticks : MethodName := ⟨R_RS, "ticks", "(I)I"⟩
def y_law_ticks : MethodName := ⟨R_law, "ticks", "(LReadSide;I[J)I"⟩
def y_RS_up : MethodName := ⟨R_RS, "up", "(IZ)Z"⟩
def y_law_up : MethodName := ⟨R_law, "up", "(LReadSide;IZ[J)I"⟩
def y_Item_copy : MethodName := ⟨R_Item, "copy", "(LReadSide$Item;)V"⟩
def y_St_copy : MethodName := ⟨R_St, "copy", "(LReadSide$State;)V"⟩
def y_Vec_sum : MethodName := ⟨R_Vec, "sum", "()I"⟩
def y_RS_snapshot : MethodName := ⟨R_RS, "snapshot", "(I)I"⟩
def y_law_snapshot : MethodName := ⟨R_law, "snapshot", "(LReadSide;I[J)I"⟩
def y_RS_crash : MethodName := ⟨R_RS, "crash", "(I)I"⟩
def y_law_crash : MethodName := ⟨R_law, "crash", "(LReadSide;I[J)I"⟩
def y_Read_init : MethodName := ⟨R_Read, "<init>", "(IILReadSide$Vector;IJII)V"⟩
def y_RS_question : MethodName := ⟨R_RS, "question", "(II)V"⟩
def y_RS_vectorOf : MethodName := ⟨R_RS, "vectorOf", "(J)LReadSide$Vector;"⟩
def y_RS_ask : MethodName := ⟨R_RS, "ask", "(IJIIII)I"⟩
def y_law_ask : MethodName := ⟨R_law, "ask", "(LReadSide;IJIIII[J)I"⟩
def y_Read_told : MethodName := ⟨R_Read, "told", "(I)J"⟩
def y_RS_read : MethodName := ⟨R_RS, "read", "(II)J"⟩
def y_law_read : MethodName := ⟨R_law, "read", "(LReadSide;II[J)I"⟩
def y_RS_value : MethodName := ⟨R_RS, "value", "(III)J"⟩
def y_law_value : MethodName := ⟨R_law, "value", "(LReadSide;III[J)I"⟩
def y_RS_at : MethodName := ⟨R_RS, "at", "(II)I"⟩
def y_law_at : MethodName := ⟨R_law, "at", "(LReadSide;II[J)I"⟩
def y_RS_kept : MethodName := ⟨R_RS, "kept", "(II)I"⟩
def y_law_kept : MethodName := ⟨R_law, "kept", "(LReadSide;II[J)I"⟩
def y_RS_log : MethodName := ⟨R_RS, "log", "(II)I"⟩
def y_law_log : MethodName := ⟨R_law, "log", "(LReadSide;II[J)I"⟩
def y_Cmd_told : MethodName := ⟨R_Cmd, "told", "(I)I"⟩
def y_RS_logged : MethodName := ⟨R_RS, "logged", "(III)I"⟩
def y_law_logged : MethodName := ⟨R_law, "logged", "(LReadSide;III[J)I"⟩
def y_RS_session : MethodName := ⟨R_RS, "session", "(III)I"⟩
def y_law_session : MethodName := ⟨R_law, "session", "(LReadSide;III[J)I"⟩
def y_RS_told : MethodName := ⟨R_RS, "told", "(JI)I"⟩
def y_law_told : MethodName := ⟨R_law, "told", "(LReadSide;JI[J)I"⟩
def y_RS_count : MethodName := ⟨R_RS, "count", "(I)I"⟩
def y_law_count : MethodName := ⟨R_law, "count", "(LReadSide;I[J)I"⟩
def y_Mdl_init : MethodName := ⟨R_Mdl, "<init>", "(II)V"⟩
def y_Mdl_thrown : MethodName := ⟨R_Mdl, "thrown", "()I"⟩
def y_Mdl_covers : MethodName := ⟨R_Mdl, "covers", "([III)Z"⟩
def y_Mdl_may : MethodName := ⟨R_Mdl, "may", "(II)Z"⟩
def y_Mdl_greater : MethodName := ⟨R_Mdl, "greater", "(II)I"⟩
def y_Mdl_ranked : MethodName := ⟨R_Mdl, "ranked", "(II)I"⟩
def y_Mdl_tell : MethodName := ⟨R_Mdl, "tell", "(III)J"⟩
def y_Mdl_check : MethodName := ⟨R_Mdl, "check", "(J)J"⟩
def y_Mdl_tokenOf : MethodName := ⟨R_Mdl, "tokenOf", "(III)J"⟩
def y_Mdl_answer : MethodName := ⟨R_Mdl, "answer", "(II)V"⟩
def y_Mdl_look : MethodName := ⟨R_Mdl, "look", "(I)V"⟩
def y_Mdl_in : MethodName := ⟨R_Mdl, "in", "(JJJ)Z"⟩
def y_Mdl_isSession : MethodName := ⟨R_Mdl, "isSession", "(I)Z"⟩
def y_Mdl_mode : MethodName := ⟨R_Mdl, "mode", "(II)I"⟩
def y_Mdl_isReplica : MethodName := ⟨R_Mdl, "isReplica", "(I)Z"⟩
def y_Mdl_home : MethodName := ⟨R_Mdl, "home", "(II)I"⟩
def y_Mdl_command : MethodName := ⟨R_Mdl, "command", "(IIIII)J"⟩
def y_Mdl_lesser : MethodName := ⟨R_Mdl, "lesser", "(II)I"⟩
def y_Mdl_take : MethodName := ⟨R_Mdl, "take", "(II)V"⟩
def y_Mdl_advance : MethodName := ⟨R_Mdl, "advance", "(II)I"⟩
def y_Mdl_isPart : MethodName := ⟨R_Mdl, "isPart", "(I)Z"⟩
def y_Mdl_step : MethodName := ⟨R_Mdl, "step", "(II)I"⟩
def y_Mdl_speed : MethodName := ⟨R_Mdl, "speed", "(II)I"⟩
def y_Mdl_fail : MethodName := ⟨R_Mdl, "fail", "(I)V"⟩
def y_Mdl_tick : MethodName := ⟨R_Mdl, "tick", "()I"⟩
def y_Mdl_ticks : MethodName := ⟨R_Mdl, "ticks", "(I)I"⟩
def y_Mdl_up : MethodName := ⟨R_Mdl, "up", "(IZ)Z"⟩
def y_Mdl_copy : MethodName := ⟨R_Mdl, "copy", "(II)V"⟩
def y_Mdl_sum : MethodName := ⟨R_Mdl, "sum", "(I)I"⟩
def y_Mdl_snapshot : MethodName := ⟨R_Mdl, "snapshot", "(I)I"⟩
def y_Mdl_crash : MethodName := ⟨R_Mdl, "crash", "(I)I"⟩
def y_Mdl_trim : MethodName := ⟨R_Mdl, "trim", "()I"⟩
def y_Mdl_waiting : MethodName := ⟨R_Mdl, "waiting", "()I"⟩
def y_Mdl_position : MethodName := ⟨R_Mdl, "position", "(JI)I"⟩
def y_Mdl_isQuestion : MethodName := ⟨R_Mdl, "isQuestion", "(II)Z"⟩
def y_Mdl_isToken : MethodName := ⟨R_Mdl, "isToken", "(J)Z"⟩
def y_Mdl_ask : MethodName := ⟨R_Mdl, "ask", "(IJIIII)I"⟩
def y_Mdl_read : MethodName := ⟨R_Mdl, "read", "(II)J"⟩
def y_Mdl_value : MethodName := ⟨R_Mdl, "value", "(III)J"⟩
def y_Mdl_at : MethodName := ⟨R_Mdl, "at", "(II)I"⟩
def y_Mdl_kept : MethodName := ⟨R_Mdl, "kept", "(II)I"⟩
def y_Mdl_log : MethodName := ⟨R_Mdl, "log", "(II)I"⟩
def y_Mdl_logged : MethodName := ⟨R_Mdl, "logged", "(III)I"⟩
def y_Mdl_session : MethodName := ⟨R_Mdl, "session", "(III)I"⟩
def y_Mdl_told : MethodName := ⟨R_Mdl, "told", "(JI)I"⟩
def y_Mdl_count : MethodName := ⟨R_Mdl, "count", "(I)I"⟩
def y_law_law : MethodName := ⟨R_law, "law", "([I)Z"⟩
theorem x_inW {i : Nat} {w : Cond} (h : tables_1[i]? = some w) (hk : x_wk w = true) : w ∈ x_W := List.mem_filter.mpr ⟨List.mem_append_right _ (List.mem_of_getElem? h), hk⟩
theorem x_inS {i : Nat} {w : Cond} (h : (k2_sels lw_privs)[i]? = some w) (hk : x_wk w = true) : w ∈ x_W := List.mem_filter.mpr ⟨List.mem_append_left _ (List.mem_of_getElem? h), hk⟩
theorem i_RS : ∀ w ∈ w_RS, w ∈ x_W := fun w hw => List.mem_filter.mpr ⟨(by decide +kernel : ∀ w ∈ w_RS, w ∈ lw_tbl) w hw, (by decide +kernel : ∀ w ∈ w_RS, x_wk w = true) w hw⟩
theorem i_Cmd : ∀ w ∈ w_Cmd, w ∈ x_W := fun w hw => List.mem_filter.mpr ⟨(by decide +kernel : ∀ w ∈ w_Cmd, w ∈ lw_tbl) w hw, (by decide +kernel : ∀ w ∈ w_Cmd, x_wk w = true) w hw⟩
theorem i_Item : ∀ w ∈ w_Item, w ∈ x_W := fun w hw => List.mem_filter.mpr ⟨(by decide +kernel : ∀ w ∈ w_Item, w ∈ lw_tbl) w hw, (by decide +kernel : ∀ w ∈ w_Item, x_wk w = true) w hw⟩
theorem i_Log : ∀ w ∈ w_Log, w ∈ x_W := fun w hw => List.mem_filter.mpr ⟨(by decide +kernel : ∀ w ∈ w_Log, w ∈ lw_tbl) w hw, (by decide +kernel : ∀ w ∈ w_Log, x_wk w = true) w hw⟩
theorem i_Read : ∀ w ∈ w_Read, w ∈ x_W := fun w hw => List.mem_filter.mpr ⟨(by decide +kernel : ∀ w ∈ w_Read, w ∈ lw_tbl) w hw, (by decide +kernel : ∀ w ∈ w_Read, x_wk w = true) w hw⟩
theorem i_Repl : ∀ w ∈ w_Repl, w ∈ x_W := fun w hw => List.mem_filter.mpr ⟨(by decide +kernel : ∀ w ∈ w_Repl, w ∈ lw_tbl) w hw, (by decide +kernel : ∀ w ∈ w_Repl, x_wk w = true) w hw⟩
theorem i_Sess : ∀ w ∈ w_Sess, w ∈ x_W := fun w hw => List.mem_filter.mpr ⟨(by decide +kernel : ∀ w ∈ w_Sess, w ∈ lw_tbl) w hw, (by decide +kernel : ∀ w ∈ w_Sess, x_wk w = true) w hw⟩
theorem i_St : ∀ w ∈ w_St, w ∈ x_W := fun w hw => List.mem_filter.mpr ⟨(by decide +kernel : ∀ w ∈ w_St, w ∈ lw_tbl) w hw, (by decide +kernel : ∀ w ∈ w_St, x_wk w = true) w hw⟩
theorem i_Vec : ∀ w ∈ w_Vec, w ∈ x_W := fun w hw => List.mem_filter.mpr ⟨(by decide +kernel : ∀ w ∈ w_Vec, w ∈ lw_tbl) w hw, (by decide +kernel : ∀ w ∈ w_Vec, x_wk w = true) w hw⟩
theorem i_Mdl : ∀ w ∈ w_Mdl, w ∈ x_W := fun w hw => List.mem_filter.mpr ⟨(by decide +kernel : ∀ w ∈ w_Mdl, w ∈ lw_tbl) w hw, (by decide +kernel : ∀ w ∈ w_Mdl, x_wk w = true) w hw⟩
theorem k_0 : Cond.initialized "ReadSideLaw" ∈ x_W := x_inW (i := 0) (by decide +kernel) (by decide +kernel)
theorem k_1 : Cond.initialized "ReadSide" ∈ x_W := x_inW (i := 1) (by decide +kernel) (by decide +kernel)
theorem k_2 : Cond.initialized "ReadSide$Log" ∈ x_W := x_inW (i := 2) (by decide +kernel) (by decide +kernel)
theorem k_3 : Cond.initialized "ReadSide$Replica" ∈ x_W := x_inW (i := 3) (by decide +kernel) (by decide +kernel)
theorem k_4 : Cond.initialized "ReadSide$State" ∈ x_W := x_inW (i := 4) (by decide +kernel) (by decide +kernel)
theorem k_5 : Cond.initialized "ReadSide$Vector" ∈ x_W := x_inW (i := 5) (by decide +kernel) (by decide +kernel)
theorem k_6 : Cond.initialized "ReadSide$Item" ∈ x_W := x_inW (i := 6) (by decide +kernel) (by decide +kernel)
theorem k_7 : Cond.initialized "ReadSide$Session" ∈ x_W := x_inW (i := 7) (by decide +kernel) (by decide +kernel)
theorem k_8 : Cond.initialized "ReadSideModel" ∈ x_W := x_inW (i := 8) (by decide +kernel) (by decide +kernel)
theorem k_12 : Cond.initialized "java/lang/IndexOutOfBoundsException" ∈ x_W := x_inW (i := 12) (by decide +kernel) (by decide +kernel)
theorem k_15 : Cond.initialized "java/lang/IllegalArgumentException" ∈ x_W := x_inW (i := 15) (by decide +kernel) (by decide +kernel)
theorem k_16 : Cond.initialized "java/lang/Math" ∈ x_W := x_inW (i := 16) (by decide +kernel) (by decide +kernel)
theorem k_17 : Cond.initialized "java/lang/IllegalStateException" ∈ x_W := x_inW (i := 17) (by decide +kernel) (by decide +kernel)
theorem k_18 : Cond.initialized "ReadSide$Command" ∈ x_W := x_inW (i := 18) (by decide +kernel) (by decide +kernel)
theorem k_19 : Cond.initialized "java/lang/System" ∈ x_W := x_inW (i := 19) (by decide +kernel) (by decide +kernel)
theorem k_20 : Cond.initialized "ReadSide$Read" ∈ x_W := x_inW (i := 20) (by decide +kernel) (by decide +kernel)
theorem k_21 : Cond.classLink "ReadSideLaw" 8 "ReadSide" ∈ x_W := x_inW (i := 21) (by decide +kernel) (by decide +kernel)
theorem k_22 : Cond.instantiable "ReadSide" 11 ∈ x_W := x_inW (i := 22) (by decide +kernel) (by decide +kernel)
theorem k_23 : Cond.methodLink "ReadSideLaw" 87 ⟨"ReadSide", "<init>", "(II)V"⟩ ∈ x_W := x_inW (i := 23) (by decide +kernel) (by decide +kernel)
theorem k_24 : Cond.instanceMethod ⟨"ReadSide", "<init>", "(II)V"⟩ ∈ x_W := x_inW (i := 24) (by decide +kernel) (by decide +kernel)
theorem k_25 : Cond.code ⟨"ReadSide", "<init>", "(II)V"⟩ prog_1_method_2_code 4 none ∈ x_W := x_inW (i := 25) (by decide +kernel) (by decide +kernel)
theorem k_26 : Cond.methodLink "ReadSide" 1 ⟨"java/lang/Object", "<init>", "()V"⟩ ∈ x_W := x_inW (i := 26) (by decide +kernel) (by decide +kernel)
theorem k_27 : Cond.instanceMethod ⟨"java/lang/Object", "<init>", "()V"⟩ ∈ x_W := x_inW (i := 27) (by decide +kernel) (by decide +kernel)
theorem k_28 : Cond.code ⟨"java/lang/Object", "<init>", "()V"⟩ object_method_1_code 1 none ∈ x_W := x_inW (i := 28) (by decide +kernel) (by decide +kernel)
theorem k_29 : Cond.classLink "ReadSide" 9 "ReadSide$Session" ∈ x_W := x_inW (i := 29) (by decide +kernel) (by decide +kernel)
theorem k_30 : Cond.arrayOver (.object "ReadSide$Session") ∈ x_W := x_inW (i := 30) (by decide +kernel) (by decide +kernel)
theorem k_31 : Cond.classLink "ReadSide" 15 "ReadSide$Read" ∈ x_W := x_inW (i := 31) (by decide +kernel) (by decide +kernel)
theorem k_32 : Cond.arrayOver (.object "ReadSide$Read") ∈ x_W := x_inW (i := 32) (by decide +kernel) (by decide +kernel)
theorem k_33 : Cond.constantLong "ReadSide" 25 3 ∈ x_W := x_inW (i := 33) (by decide +kernel) (by decide +kernel)
theorem k_34 : Cond.methodLink "ReadSide" 27 ⟨"ReadSide", "isIn", "(JJJ)Z"⟩ ∈ x_W := x_inW (i := 34) (by decide +kernel) (by decide +kernel)
theorem k_35 : Cond.static ⟨"ReadSide", "isIn", "(JJJ)Z"⟩ ∈ x_W := x_inW (i := 35) (by decide +kernel) (by decide +kernel)
theorem k_36 : Cond.code ⟨"ReadSide", "isIn", "(JJJ)Z"⟩ prog_1_method_1_code 6 (some .boolean) ∈ x_W := x_inW (i := 36) (by decide +kernel) (by decide +kernel)
theorem k_37 : Cond.classLink "ReadSide" 35 "ReadSide$Log" ∈ x_W := x_inW (i := 37) (by decide +kernel) (by decide +kernel)
theorem k_38 : Cond.arrayOver (.object "ReadSide$Log") ∈ x_W := x_inW (i := 38) (by decide +kernel) (by decide +kernel)
theorem k_39 : Cond.instantiable "ReadSide$Log" 3 ∈ x_W := x_inW (i := 39) (by decide +kernel) (by decide +kernel)
theorem k_40 : Cond.methodLinkNest "ReadSide" 41 ⟨"ReadSide$Log", "<init>", "()V"⟩ "ReadSide" ∈ x_W := x_inW (i := 40) (by decide +kernel) (by decide +kernel)
theorem k_41 : Cond.instanceMethod ⟨"ReadSide$Log", "<init>", "()V"⟩ ∈ x_W := x_inW (i := 41) (by decide +kernel) (by decide +kernel)
theorem k_42 : Cond.code ⟨"ReadSide$Log", "<init>", "()V"⟩ prog_4_method_1_code 1 none ∈ x_W := x_inW (i := 42) (by decide +kernel) (by decide +kernel)
theorem k_43 : Cond.methodLink "ReadSide$Log" 3 ⟨"java/lang/Object", "<init>", "()V"⟩ ∈ x_W := x_inW (i := 43) (by decide +kernel) (by decide +kernel)
theorem k_44 : Cond.classLink "ReadSide$Log" 9 "ReadSide$Command" ∈ x_W := x_inW (i := 44) (by decide +kernel) (by decide +kernel)
theorem k_45 : Cond.arrayOver (.object "ReadSide$Command") ∈ x_W := x_inW (i := 45) (by decide +kernel) (by decide +kernel)
theorem k_46 : Cond.fieldLink "ReadSide$Log" 11 "ReadSide$Log" "row" "[LReadSide$Command;" ∈ x_W := x_inW (i := 46) (by decide +kernel) (by decide +kernel)
theorem k_47 : Cond.fieldLinkNest "ReadSide" 122 "ReadSide$Log" "row" "[LReadSide$Command;" "ReadSide" ∈ x_W := x_inW (i := 47) (by decide +kernel) (by decide +kernel)
theorem k_48 : Cond.fieldLinkNest "ReadSide" 91 "ReadSide$Log" "end" "I" "ReadSide" ∈ x_W := x_inW (i := 48) (by decide +kernel) (by decide +kernel)
theorem k_49 : Cond.fieldLinkNest "ReadSide" 225 "ReadSide$Log" "trimmed" "I" "ReadSide" ∈ x_W := x_inW (i := 49) (by decide +kernel) (by decide +kernel)
theorem k_57 : Cond.arrayClass .int ∈ x_W := x_inW (i := 57) (by decide +kernel) (by decide +kernel)
theorem k_58 : Cond.constantLong "ReadSide" 42 4 ∈ x_W := x_inW (i := 58) (by decide +kernel) (by decide +kernel)
theorem k_59 : Cond.classLink "ReadSide" 44 "ReadSide$Replica" ∈ x_W := x_inW (i := 59) (by decide +kernel) (by decide +kernel)
theorem k_60 : Cond.arrayOver (.object "ReadSide$Replica") ∈ x_W := x_inW (i := 60) (by decide +kernel) (by decide +kernel)
theorem k_61 : Cond.instantiable "ReadSide$Replica" 5 ∈ x_W := x_inW (i := 61) (by decide +kernel) (by decide +kernel)
theorem k_62 : Cond.methodLinkNest "ReadSide" 50 ⟨"ReadSide$Replica", "<init>", "()V"⟩ "ReadSide" ∈ x_W := x_inW (i := 62) (by decide +kernel) (by decide +kernel)
theorem k_63 : Cond.instanceMethod ⟨"ReadSide$Replica", "<init>", "()V"⟩ ∈ x_W := x_inW (i := 63) (by decide +kernel) (by decide +kernel)
theorem k_64 : Cond.code ⟨"ReadSide$Replica", "<init>", "()V"⟩ prog_6_method_1_code 1 none ∈ x_W := x_inW (i := 64) (by decide +kernel) (by decide +kernel)
theorem k_65 : Cond.methodLink "ReadSide$Replica" 1 ⟨"java/lang/Object", "<init>", "()V"⟩ ∈ x_W := x_inW (i := 65) (by decide +kernel) (by decide +kernel)
theorem k_66 : Cond.classLink "ReadSide$Replica" 7 "ReadSide$State" ∈ x_W := x_inW (i := 66) (by decide +kernel) (by decide +kernel)
theorem k_67 : Cond.instantiable "ReadSide$State" 4 ∈ x_W := x_inW (i := 67) (by decide +kernel) (by decide +kernel)
theorem k_68 : Cond.methodLink "ReadSide$Replica" 9 ⟨"ReadSide$State", "<init>", "()V"⟩ ∈ x_W := x_inW (i := 68) (by decide +kernel) (by decide +kernel)
theorem k_69 : Cond.instanceMethod ⟨"ReadSide$State", "<init>", "()V"⟩ ∈ x_W := x_inW (i := 69) (by decide +kernel) (by decide +kernel)
theorem k_70 : Cond.code ⟨"ReadSide$State", "<init>", "()V"⟩ prog_8_method_1_code 2 none ∈ x_W := x_inW (i := 70) (by decide +kernel) (by decide +kernel)
theorem k_71 : Cond.methodLink "ReadSide$State" 3 ⟨"java/lang/Object", "<init>", "()V"⟩ ∈ x_W := x_inW (i := 71) (by decide +kernel) (by decide +kernel)
theorem k_72 : Cond.classLink "ReadSide$State" 9 "ReadSide$Item" ∈ x_W := x_inW (i := 72) (by decide +kernel) (by decide +kernel)
theorem k_73 : Cond.arrayOver (.object "ReadSide$Item") ∈ x_W := x_inW (i := 73) (by decide +kernel) (by decide +kernel)
theorem k_74 : Cond.classLink "ReadSide$State" 25 "ReadSide$Vector" ∈ x_W := x_inW (i := 74) (by decide +kernel) (by decide +kernel)
theorem k_75 : Cond.instantiable "ReadSide$Vector" 1 ∈ x_W := x_inW (i := 75) (by decide +kernel) (by decide +kernel)
theorem k_76 : Cond.methodLinkNest "ReadSide$State" 27 ⟨"ReadSide$Vector", "<init>", "()V"⟩ "ReadSide" ∈ x_W := x_inW (i := 76) (by decide +kernel) (by decide +kernel)
theorem k_77 : Cond.instanceMethod ⟨"ReadSide$Vector", "<init>", "()V"⟩ ∈ x_W := x_inW (i := 77) (by decide +kernel) (by decide +kernel)
theorem k_78 : Cond.code ⟨"ReadSide$Vector", "<init>", "()V"⟩ prog_9_method_1_code 1 none ∈ x_W := x_inW (i := 78) (by decide +kernel) (by decide +kernel)
theorem k_79 : Cond.methodLink "ReadSide$Vector" 1 ⟨"java/lang/Object", "<init>", "()V"⟩ ∈ x_W := x_inW (i := 79) (by decide +kernel) (by decide +kernel)
theorem k_80 : Cond.fieldLink "ReadSide$Vector" 7 "ReadSide$Vector" "row" "[I" ∈ x_W := x_inW (i := 80) (by decide +kernel) (by decide +kernel)
theorem k_81 : Cond.fieldLinkNest "ReadSide$Command" 29 "ReadSide$Vector" "row" "[I" "ReadSide" ∈ x_W := x_inW (i := 81) (by decide +kernel) (by decide +kernel)
theorem k_82 : Cond.fieldLinkNest "ReadSide" 126 "ReadSide$Vector" "row" "[I" "ReadSide" ∈ x_W := x_inW (i := 82) (by decide +kernel) (by decide +kernel)
theorem k_86 : Cond.arrayClass .long ∈ x_W := x_inW (i := 86) (by decide +kernel) (by decide +kernel)
theorem k_87 : Cond.instantiable "ReadSide$Item" 5 ∈ x_W := x_inW (i := 87) (by decide +kernel) (by decide +kernel)
theorem k_88 : Cond.methodLinkNest "ReadSide$State" 32 ⟨"ReadSide$Item", "<init>", "()V"⟩ "ReadSide" ∈ x_W := x_inW (i := 88) (by decide +kernel) (by decide +kernel)
theorem k_89 : Cond.instanceMethod ⟨"ReadSide$Item", "<init>", "()V"⟩ ∈ x_W := x_inW (i := 89) (by decide +kernel) (by decide +kernel)
theorem k_90 : Cond.code ⟨"ReadSide$Item", "<init>", "()V"⟩ prog_3_method_1_code 1 none ∈ x_W := x_inW (i := 90) (by decide +kernel) (by decide +kernel)
theorem k_91 : Cond.methodLink "ReadSide$Item" 3 ⟨"java/lang/Object", "<init>", "()V"⟩ ∈ x_W := x_inW (i := 91) (by decide +kernel) (by decide +kernel)
theorem k_92 : Cond.fieldLink "ReadSide$Item" 19 "ReadSide$Item" "stock" "I" ∈ x_W := x_inW (i := 92) (by decide +kernel) (by decide +kernel)
theorem k_93 : Cond.fieldLinkNest "ReadSide$State" 58 "ReadSide$Item" "stock" "I" "ReadSide" ∈ x_W := x_inW (i := 93) (by decide +kernel) (by decide +kernel)
theorem k_94 : Cond.fieldLink "ReadSide$Item" 22 "ReadSide$Item" "reserved" "I" ∈ x_W := x_inW (i := 94) (by decide +kernel) (by decide +kernel)
theorem k_95 : Cond.fieldLinkNest "ReadSide$State" 62 "ReadSide$Item" "reserved" "I" "ReadSide" ∈ x_W := x_inW (i := 95) (by decide +kernel) (by decide +kernel)
theorem k_96 : Cond.fieldLink "ReadSide$Item" 25 "ReadSide$Item" "sold" "I" ∈ x_W := x_inW (i := 96) (by decide +kernel) (by decide +kernel)
theorem k_97 : Cond.fieldLinkNest "ReadSide$State" 75 "ReadSide$Item" "sold" "I" "ReadSide" ∈ x_W := x_inW (i := 97) (by decide +kernel) (by decide +kernel)
theorem k_98 : Cond.fieldLink "ReadSide$Item" 9 "ReadSide$Item" "price" "I" ∈ x_W := x_inW (i := 98) (by decide +kernel) (by decide +kernel)
theorem k_99 : Cond.fieldLinkNest "ReadSide$State" 78 "ReadSide$Item" "price" "I" "ReadSide" ∈ x_W := x_inW (i := 99) (by decide +kernel) (by decide +kernel)
theorem k_100 : Cond.fieldLink "ReadSide$Item" 15 "ReadSide$Item" "held" "[I" ∈ x_W := x_inW (i := 100) (by decide +kernel) (by decide +kernel)
theorem k_101 : Cond.fieldLinkNest "ReadSide$State" 72 "ReadSide$Item" "held" "[I" "ReadSide" ∈ x_W := x_inW (i := 101) (by decide +kernel) (by decide +kernel)
theorem k_113 : Cond.fieldLink "ReadSide$State" 11 "ReadSide$State" "items" "[LReadSide$Item;" ∈ x_W := x_inW (i := 113) (by decide +kernel) (by decide +kernel)
theorem k_114 : Cond.fieldLink "ReadSide$State" 17 "ReadSide$State" "paid" "[J" ∈ x_W := x_inW (i := 114) (by decide +kernel) (by decide +kernel)
theorem k_115 : Cond.fieldLink "ReadSide$State" 21 "ReadSide$State" "refusals" "[I" ∈ x_W := x_inW (i := 115) (by decide +kernel) (by decide +kernel)
theorem k_116 : Cond.fieldLink "ReadSide$State" 28 "ReadSide$State" "at" "LReadSide$Vector;" ∈ x_W := x_inW (i := 116) (by decide +kernel) (by decide +kernel)
theorem k_117 : Cond.fieldLinkNest "ReadSide" 154 "ReadSide$State" "at" "LReadSide$Vector;" "ReadSide" ∈ x_W := x_inW (i := 117) (by decide +kernel) (by decide +kernel)
theorem k_127 : Cond.fieldLink "ReadSide$Replica" 10 "ReadSide$Replica" "state" "LReadSide$State;" ∈ x_W := x_inW (i := 127) (by decide +kernel) (by decide +kernel)
theorem k_128 : Cond.fieldLinkNest "ReadSide" 150 "ReadSide$Replica" "state" "LReadSide$State;" "ReadSide" ∈ x_W := x_inW (i := 128) (by decide +kernel) (by decide +kernel)
theorem k_129 : Cond.fieldLink "ReadSide$Replica" 16 "ReadSide$Replica" "kept" "LReadSide$State;" ∈ x_W := x_inW (i := 129) (by decide +kernel) (by decide +kernel)
theorem k_130 : Cond.fieldLinkNest "ReadSide" 210 "ReadSide$Replica" "kept" "LReadSide$State;" "ReadSide" ∈ x_W := x_inW (i := 130) (by decide +kernel) (by decide +kernel)
theorem k_131 : Cond.fieldLink "ReadSide$Replica" 19 "ReadSide$Replica" "up" "Z" ∈ x_W := x_inW (i := 131) (by decide +kernel) (by decide +kernel)
theorem k_132 : Cond.fieldLinkNest "ReadSide" 173 "ReadSide$Replica" "up" "Z" "ReadSide" ∈ x_W := x_inW (i := 132) (by decide +kernel) (by decide +kernel)
theorem k_133 : Cond.fieldLinkNest "ReadSide" 183 "ReadSide$Replica" "speed" "I" "ReadSide" ∈ x_W := x_inW (i := 133) (by decide +kernel) (by decide +kernel)
theorem k_134 : Cond.fieldLinkNest "ReadSide" 170 "ReadSide$Replica" "next" "I" "ReadSide" ∈ x_W := x_inW (i := 134) (by decide +kernel) (by decide +kernel)
theorem k_146 : Cond.instantiable "ReadSide$Session" 4 ∈ x_W := x_inW (i := 146) (by decide +kernel) (by decide +kernel)
theorem k_147 : Cond.methodLinkNest "ReadSide" 51 ⟨"ReadSide$Session", "<init>", "()V"⟩ "ReadSide" ∈ x_W := x_inW (i := 147) (by decide +kernel) (by decide +kernel)
theorem k_148 : Cond.instanceMethod ⟨"ReadSide$Session", "<init>", "()V"⟩ ∈ x_W := x_inW (i := 148) (by decide +kernel) (by decide +kernel)
theorem k_149 : Cond.code ⟨"ReadSide$Session", "<init>", "()V"⟩ prog_7_method_1_code 1 none ∈ x_W := x_inW (i := 149) (by decide +kernel) (by decide +kernel)
theorem k_150 : Cond.methodLink "ReadSide$Session" 1 ⟨"java/lang/Object", "<init>", "()V"⟩ ∈ x_W := x_inW (i := 150) (by decide +kernel) (by decide +kernel)
theorem k_151 : Cond.classLink "ReadSide$Session" 7 "ReadSide$Vector" ∈ x_W := x_inW (i := 151) (by decide +kernel) (by decide +kernel)
theorem k_152 : Cond.methodLinkNest "ReadSide$Session" 9 ⟨"ReadSide$Vector", "<init>", "()V"⟩ "ReadSide" ∈ x_W := x_inW (i := 152) (by decide +kernel) (by decide +kernel)
theorem k_153 : Cond.fieldLink "ReadSide$Session" 19 "ReadSide$Session" "mode" "I" ∈ x_W := x_inW (i := 153) (by decide +kernel) (by decide +kernel)
theorem k_154 : Cond.fieldLinkNest "ReadSide" 75 "ReadSide$Session" "mode" "I" "ReadSide" ∈ x_W := x_inW (i := 154) (by decide +kernel) (by decide +kernel)
theorem k_155 : Cond.fieldLinkNest "ReadSide" 86 "ReadSide$Session" "home" "I" "ReadSide" ∈ x_W := x_inW (i := 155) (by decide +kernel) (by decide +kernel)
theorem k_156 : Cond.fieldLink "ReadSide$Session" 10 "ReadSide$Session" "wrote" "LReadSide$Vector;" ∈ x_W := x_inW (i := 156) (by decide +kernel) (by decide +kernel)
theorem k_157 : Cond.fieldLinkNest "ReadSide" 119 "ReadSide$Session" "wrote" "LReadSide$Vector;" "ReadSide" ∈ x_W := x_inW (i := 157) (by decide +kernel) (by decide +kernel)
theorem k_158 : Cond.fieldLink "ReadSide$Session" 16 "ReadSide$Session" "saw" "LReadSide$Vector;" ∈ x_W := x_inW (i := 158) (by decide +kernel) (by decide +kernel)
theorem k_159 : Cond.fieldLinkNest "ReadSide" 110 "ReadSide$Session" "saw" "LReadSide$Vector;" "ReadSide" ∈ x_W := x_inW (i := 159) (by decide +kernel) (by decide +kernel)
theorem k_169 : Cond.fieldLink "ReadSide" 31 "ReadSide" "partitions" "I" ∈ x_W := x_inW (i := 169) (by decide +kernel) (by decide +kernel)
theorem k_170 : Cond.fieldLink "ReadSide" 37 "ReadSide" "logs" "[LReadSide$Log;" ∈ x_W := x_inW (i := 170) (by decide +kernel) (by decide +kernel)
theorem k_171 : Cond.fieldLink "ReadSide" 46 "ReadSide" "replicas" "[LReadSide$Replica;" ∈ x_W := x_inW (i := 171) (by decide +kernel) (by decide +kernel)
theorem k_172 : Cond.fieldLink "ReadSide" 11 "ReadSide" "sessions" "[LReadSide$Session;" ∈ x_W := x_inW (i := 172) (by decide +kernel) (by decide +kernel)
theorem k_173 : Cond.fieldLink "ReadSide" 17 "ReadSide" "reads" "[LReadSide$Read;" ∈ x_W := x_inW (i := 173) (by decide +kernel) (by decide +kernel)
theorem k_174 : Cond.fieldLink "ReadSide" 283 "ReadSide" "asked" "I" ∈ x_W := x_inW (i := 174) (by decide +kernel) (by decide +kernel)
theorem k_175 : Cond.fieldLink "ReadSide" 21 "ReadSide" "waits" "[I" ∈ x_W := x_inW (i := 175) (by decide +kernel) (by decide +kernel)
theorem k_176 : Cond.fieldLink "ReadSide" 196 "ReadSide" "waiting" "I" ∈ x_W := x_inW (i := 176) (by decide +kernel) (by decide +kernel)
theorem k_177 : Cond.fieldLink "ReadSide" 257 "ReadSide" "answered" "I" ∈ x_W := x_inW (i := 177) (by decide +kernel) (by decide +kernel)
theorem k_178 : Cond.fieldLink "ReadSide" 260 "ReadSide" "failed" "I" ∈ x_W := x_inW (i := 178) (by decide +kernel) (by decide +kernel)
theorem k_179 : Cond.fieldLink "ReadSide" 188 "ReadSide" "time" "J" ∈ x_W := x_inW (i := 179) (by decide +kernel) (by decide +kernel)
theorem k_203 : Cond.methodLink "ReadSideLaw" 128 ⟨"ReadSide", "trim", "()I"⟩ ∈ x_W := x_inW (i := 203) (by decide +kernel) (by decide +kernel)
theorem k_204 : Cond.instanceMethod ⟨"ReadSide", "trim", "()I"⟩ ∈ x_W := x_inW (i := 204) (by decide +kernel) (by decide +kernel)
theorem k_205 : Cond.selects "ReadSide" ⟨"ReadSide", "trim", "()I"⟩ ⟨"ReadSide", "trim", "()I"⟩ ∈ x_W := x_inW (i := 205) (by decide +kernel) (by decide +kernel)
theorem k_206 : Cond.code ⟨"ReadSide", "trim", "()I"⟩ prog_1_method_21_code 8 (some .int) ∈ x_W := x_inW (i := 206) (by decide +kernel) (by decide +kernel)
theorem k_207 : Cond.methodLink "ReadSide" 220 ⟨"java/lang/Math", "min", "(II)I"⟩ ∈ x_W := x_inW (i := 207) (by decide +kernel) (by decide +kernel)
theorem k_208 : Cond.static ⟨"java/lang/Math", "min", "(II)I"⟩ ∈ x_W := x_inW (i := 208) (by decide +kernel) (by decide +kernel)
theorem k_209 : Cond.code ⟨"java/lang/Math", "min", "(II)I"⟩ prog_17_method_69_code 2 (some .int) ∈ x_W := x_inW (i := 209) (by decide +kernel) (by decide +kernel)
theorem k_210 : Cond.methodLink "ReadSideLaw" 81 ⟨"ReadSideLaw", "cell", "([II)I"⟩ ∈ x_W := x_inW (i := 210) (by decide +kernel) (by decide +kernel)
theorem k_211 : Cond.static ⟨"ReadSideLaw", "cell", "([II)I"⟩ ∈ x_W := x_inW (i := 211) (by decide +kernel) (by decide +kernel)
theorem k_212 : Cond.code ⟨"ReadSideLaw", "cell", "([II)I"⟩ method_2_code 2 (some .int) ∈ x_W := x_inW (i := 212) (by decide +kernel) (by decide +kernel)
theorem k_213 : Cond.methodLink "ReadSideLaw" 93 ⟨"ReadSideLaw", "mode", "(LReadSide;II[J)I"⟩ ∈ x_W := x_inW (i := 213) (by decide +kernel) (by decide +kernel)
theorem k_214 : Cond.static ⟨"ReadSideLaw", "mode", "(LReadSide;II[J)I"⟩ ∈ x_W := x_inW (i := 214) (by decide +kernel) (by decide +kernel)
theorem k_215 : Cond.codeWith ⟨"ReadSideLaw", "mode", "(LReadSide;II[J)I"⟩ method_3_code 5 (some .int) [(0, 10, 13, 13), (0, 10, 17, 15)] ∈ x_W := x_inW (i := 215) (by decide +kernel) (by decide +kernel)
theorem k_216 : Cond.classLink "ReadSideLaw" 13 "java/lang/IndexOutOfBoundsException" ∈ x_W := x_inW (i := 216) (by decide +kernel) (by decide +kernel)
theorem k_293 : Cond.classLink "ReadSideLaw" 15 "java/lang/IllegalArgumentException" ∈ x_W := x_inW (i := 293) (by decide +kernel) (by decide +kernel)
theorem k_294 : Cond.methodLink "ReadSideLaw" 7 ⟨"ReadSide", "mode", "(II)I"⟩ ∈ x_W := x_inW (i := 294) (by decide +kernel) (by decide +kernel)
theorem k_295 : Cond.instanceMethod ⟨"ReadSide", "mode", "(II)I"⟩ ∈ x_W := x_inW (i := 295) (by decide +kernel) (by decide +kernel)
theorem k_296 : Cond.selects "ReadSide" ⟨"ReadSide", "mode", "(II)I"⟩ ⟨"ReadSide", "mode", "(II)I"⟩ ∈ x_W := x_inW (i := 296) (by decide +kernel) (by decide +kernel)
theorem k_297 : Cond.code ⟨"ReadSide", "mode", "(II)I"⟩ prog_1_method_8_code 9 (some .int) ∈ x_W := x_inW (i := 297) (by decide +kernel) (by decide +kernel)
theorem k_298 : Cond.methodLink "ReadSide" 65 ⟨"ReadSide", "sessionAt", "(I)LReadSide$Session;"⟩ ∈ x_W := x_inW (i := 298) (by decide +kernel) (by decide +kernel)
theorem k_300 : Cond.instanceMethod ⟨"ReadSide", "sessionAt", "(I)LReadSide$Session;"⟩ ∈ x_W := x_inW (i := 300) (by decide +kernel) (by decide +kernel)
theorem k_301 : Cond.code ⟨"ReadSide", "sessionAt", "(I)LReadSide$Session;"⟩ prog_1_method_7_code 2 (some (.object "ReadSide$Session")) ∈ x_W := x_inW (i := 301) (by decide +kernel) (by decide +kernel)
theorem k_302 : Cond.methodLink "ReadSide" 61 ⟨"ReadSide", "index", "(II)I"⟩ ∈ x_W := x_inW (i := 302) (by decide +kernel) (by decide +kernel)
theorem k_303 : Cond.static ⟨"ReadSide", "index", "(II)I"⟩ ∈ x_W := x_inW (i := 303) (by decide +kernel) (by decide +kernel)
theorem k_304 : Cond.code ⟨"ReadSide", "index", "(II)I"⟩ prog_1_method_3_code 2 (some .int) ∈ x_W := x_inW (i := 304) (by decide +kernel) (by decide +kernel)
theorem k_305 : Cond.classLink "ReadSide" 52 "java/lang/IndexOutOfBoundsException" ∈ x_W := x_inW (i := 305) (by decide +kernel) (by decide +kernel)
theorem k_306 : Cond.instantiable "java/lang/IndexOutOfBoundsException" 6 ∈ x_W := x_inW (i := 306) (by decide +kernel) (by decide +kernel)
theorem k_307 : Cond.castable "java/lang/IndexOutOfBoundsException" "java/lang/IndexOutOfBoundsException" ∈ x_W := x_inW (i := 307) (by decide +kernel) (by decide +kernel)
theorem k_326 : Cond.constantLong "ReadSide" 69 15 ∈ x_W := x_inW (i := 326) (by decide +kernel) (by decide +kernel)
theorem k_327 : Cond.methodLink "ReadSide" 71 ⟨"ReadSide", "want", "(Z)V"⟩ ∈ x_W := x_inW (i := 327) (by decide +kernel) (by decide +kernel)
theorem k_328 : Cond.static ⟨"ReadSide", "want", "(Z)V"⟩ ∈ x_W := x_inW (i := 328) (by decide +kernel) (by decide +kernel)
theorem k_329 : Cond.code ⟨"ReadSide", "want", "(Z)V"⟩ prog_1_method_4_code 1 none ∈ x_W := x_inW (i := 329) (by decide +kernel) (by decide +kernel)
theorem k_330 : Cond.classLink "ReadSide" 55 "java/lang/IllegalArgumentException" ∈ x_W := x_inW (i := 330) (by decide +kernel) (by decide +kernel)
theorem k_331 : Cond.instantiable "java/lang/IllegalArgumentException" 6 ∈ x_W := x_inW (i := 331) (by decide +kernel) (by decide +kernel)
theorem k_332 : Cond.castable "java/lang/IllegalArgumentException" "java/lang/IllegalArgumentException" ∈ x_W := x_inW (i := 332) (by decide +kernel) (by decide +kernel)
theorem k_345 : Cond.methodLink "ReadSide" 78 ⟨"ReadSide", "look", "(LReadSide$Replica;)V"⟩ ∈ x_W := x_inW (i := 345) (by decide +kernel) (by decide +kernel)
theorem k_347 : Cond.instanceMethod ⟨"ReadSide", "look", "(LReadSide$Replica;)V"⟩ ∈ x_W := x_inW (i := 347) (by decide +kernel) (by decide +kernel)
theorem k_348 : Cond.code ⟨"ReadSide", "look", "(LReadSide$Replica;)V"⟩ prog_1_method_27_code 4 none ∈ x_W := x_inW (i := 348) (by decide +kernel) (by decide +kernel)
theorem k_349 : Cond.methodLink "ReadSide" 263 ⟨"ReadSide", "may", "(LReadSide$Replica;LReadSide$Read;)Z"⟩ ∈ x_W := x_inW (i := 349) (by decide +kernel) (by decide +kernel)
theorem k_351 : Cond.instanceMethod ⟨"ReadSide", "may", "(LReadSide$Replica;LReadSide$Read;)Z"⟩ ∈ x_W := x_inW (i := 351) (by decide +kernel) (by decide +kernel)
theorem k_352 : Cond.code ⟨"ReadSide", "may", "(LReadSide$Replica;LReadSide$Read;)Z"⟩ prog_1_method_22_code 7 (some .boolean) ∈ x_W := x_inW (i := 352) (by decide +kernel) (by decide +kernel)
theorem k_353 : Cond.methodLink "ReadSide" 162 ⟨"ReadSide$Vector", "covers", "(LReadSide$Vector;)Z"⟩ ∈ x_W := x_inW (i := 353) (by decide +kernel) (by decide +kernel)
theorem k_354 : Cond.instanceMethod ⟨"ReadSide$Vector", "covers", "(LReadSide$Vector;)Z"⟩ ∈ x_W := x_inW (i := 354) (by decide +kernel) (by decide +kernel)
theorem k_355 : Cond.selects "ReadSide$Vector" ⟨"ReadSide$Vector", "covers", "(LReadSide$Vector;)Z"⟩ ⟨"ReadSide$Vector", "covers", "(LReadSide$Vector;)Z"⟩ ∈ x_W := x_inW (i := 355) (by decide +kernel) (by decide +kernel)
theorem k_356 : Cond.code ⟨"ReadSide$Vector", "covers", "(LReadSide$Vector;)Z"⟩ prog_9_method_2_code 2 (some .boolean) ∈ x_W := x_inW (i := 356) (by decide +kernel) (by decide +kernel)
theorem k_357 : Cond.methodLink "ReadSide" 102 ⟨"ReadSide$Session", "has", "(I)Z"⟩ ∈ x_W := x_inW (i := 357) (by decide +kernel) (by decide +kernel)
theorem k_358 : Cond.instanceMethod ⟨"ReadSide$Session", "has", "(I)Z"⟩ ∈ x_W := x_inW (i := 358) (by decide +kernel) (by decide +kernel)
theorem k_359 : Cond.selects "ReadSide$Session" ⟨"ReadSide$Session", "has", "(I)Z"⟩ ⟨"ReadSide$Session", "has", "(I)Z"⟩ ∈ x_W := x_inW (i := 359) (by decide +kernel) (by decide +kernel)
theorem k_360 : Cond.code ⟨"ReadSide$Session", "has", "(I)Z"⟩ prog_7_method_2_code 2 (some .boolean) ∈ x_W := x_inW (i := 360) (by decide +kernel) (by decide +kernel)
theorem k_361 : Cond.methodLink "ReadSide" 267 ⟨"ReadSide", "numberOf", "(LReadSide$Replica;)I"⟩ ∈ x_W := x_inW (i := 361) (by decide +kernel) (by decide +kernel)
theorem k_363 : Cond.instanceMethod ⟨"ReadSide", "numberOf", "(LReadSide$Replica;)I"⟩ ∈ x_W := x_inW (i := 363) (by decide +kernel) (by decide +kernel)
theorem k_364 : Cond.code ⟨"ReadSide", "numberOf", "(LReadSide$Replica;)I"⟩ prog_1_method_26_code 3 (some .int) ∈ x_W := x_inW (i := 364) (by decide +kernel) (by decide +kernel)
theorem k_365 : Cond.methodLink "ReadSide" 270 ⟨"ReadSide", "answer", "(LReadSide$Read;I)V"⟩ ∈ x_W := x_inW (i := 365) (by decide +kernel) (by decide +kernel)
theorem k_367 : Cond.instanceMethod ⟨"ReadSide", "answer", "(LReadSide$Read;I)V"⟩ ∈ x_W := x_inW (i := 367) (by decide +kernel) (by decide +kernel)
theorem k_368 : Cond.code ⟨"ReadSide", "answer", "(LReadSide$Read;I)V"⟩ prog_1_method_23_code 4 none ∈ x_W := x_inW (i := 368) (by decide +kernel) (by decide +kernel)
theorem k_369 : Cond.methodLink "ReadSide" 247 ⟨"ReadSide$State", "answer", "(III)J"⟩ ∈ x_W := x_inW (i := 369) (by decide +kernel) (by decide +kernel)
theorem k_370 : Cond.instanceMethod ⟨"ReadSide$State", "answer", "(III)J"⟩ ∈ x_W := x_inW (i := 370) (by decide +kernel) (by decide +kernel)
theorem k_371 : Cond.selects "ReadSide$State" ⟨"ReadSide$State", "answer", "(III)J"⟩ ⟨"ReadSide$State", "answer", "(III)J"⟩ ∈ x_W := x_inW (i := 371) (by decide +kernel) (by decide +kernel)
theorem k_372 : Cond.code ⟨"ReadSide$State", "answer", "(III)J"⟩ prog_8_method_5_code 4 (some .long) ∈ x_W := x_inW (i := 372) (by decide +kernel) (by decide +kernel)
theorem k_373 : Cond.methodLink "ReadSide$State" 87 ⟨"ReadSide$State", "held", "(I)J"⟩ ∈ x_W := x_inW (i := 373) (by decide +kernel) (by decide +kernel)
theorem k_375 : Cond.instanceMethod ⟨"ReadSide$State", "held", "(I)J"⟩ ∈ x_W := x_inW (i := 375) (by decide +kernel) (by decide +kernel)
theorem k_376 : Cond.code ⟨"ReadSide$State", "held", "(I)J"⟩ prog_8_method_6_code 8 (some .long) ∈ x_W := x_inW (i := 376) (by decide +kernel) (by decide +kernel)
theorem k_377 : Cond.methodLink "ReadSide$State" 90 ⟨"ReadSide$State", "ranked", "(I)I"⟩ ∈ x_W := x_inW (i := 377) (by decide +kernel) (by decide +kernel)
theorem k_379 : Cond.instanceMethod ⟨"ReadSide$State", "ranked", "(I)I"⟩ ∈ x_W := x_inW (i := 379) (by decide +kernel) (by decide +kernel)
theorem k_380 : Cond.code ⟨"ReadSide$State", "ranked", "(I)I"⟩ prog_8_method_7_code 6 (some .int) ∈ x_W := x_inW (i := 380) (by decide +kernel) (by decide +kernel)
theorem k_381 : Cond.methodLink "ReadSide$State" 94 ⟨"ReadSide$State", "worth", "(II)J"⟩ ∈ x_W := x_inW (i := 381) (by decide +kernel) (by decide +kernel)
theorem k_383 : Cond.instanceMethod ⟨"ReadSide$State", "worth", "(II)J"⟩ ∈ x_W := x_inW (i := 383) (by decide +kernel) (by decide +kernel)
theorem k_384 : Cond.code ⟨"ReadSide$State", "worth", "(II)J"⟩ prog_8_method_8_code 6 (some .long) ∈ x_W := x_inW (i := 384) (by decide +kernel) (by decide +kernel)
theorem k_385 : Cond.methodLink "ReadSide" 132 ⟨"ReadSide$Vector", "token", "()J"⟩ ∈ x_W := x_inW (i := 385) (by decide +kernel) (by decide +kernel)
theorem k_386 : Cond.instanceMethod ⟨"ReadSide$Vector", "token", "()J"⟩ ∈ x_W := x_inW (i := 386) (by decide +kernel) (by decide +kernel)
theorem k_387 : Cond.selects "ReadSide$Vector" ⟨"ReadSide$Vector", "token", "()J"⟩ ⟨"ReadSide$Vector", "token", "()J"⟩ ∈ x_W := x_inW (i := 387) (by decide +kernel) (by decide +kernel)
theorem k_388 : Cond.code ⟨"ReadSide$Vector", "token", "()J"⟩ prog_9_method_6_code 3 (some .long) ∈ x_W := x_inW (i := 388) (by decide +kernel) (by decide +kernel)
theorem k_389 : Cond.constantLong "ReadSide$Vector" 19 512 ∈ x_W := x_inW (i := 389) (by decide +kernel) (by decide +kernel)
theorem k_390 : Cond.constantLong "ReadSide$Vector" 21 262144 ∈ x_W := x_inW (i := 390) (by decide +kernel) (by decide +kernel)
theorem k_391 : Cond.methodLink "ReadSide$Vector" 23 ⟨"ReadSide$Vector", "check", "(J)J"⟩ ∈ x_W := x_inW (i := 391) (by decide +kernel) (by decide +kernel)
theorem k_392 : Cond.static ⟨"ReadSide$Vector", "check", "(J)J"⟩ ∈ x_W := x_inW (i := 392) (by decide +kernel) (by decide +kernel)
theorem k_393 : Cond.code ⟨"ReadSide$Vector", "check", "(J)J"⟩ prog_9_method_7_code 2 (some .long) ∈ x_W := x_inW (i := 393) (by decide +kernel) (by decide +kernel)
theorem k_394 : Cond.constantLong "ReadSide$Vector" 27 (-7046029254386353131) ∈ x_W := x_inW (i := 394) (by decide +kernel) (by decide +kernel)
theorem k_395 : Cond.methodLink "ReadSide" 113 ⟨"ReadSide$Vector", "rise", "(LReadSide$Vector;)V"⟩ ∈ x_W := x_inW (i := 395) (by decide +kernel) (by decide +kernel)
theorem k_396 : Cond.instanceMethod ⟨"ReadSide$Vector", "rise", "(LReadSide$Vector;)V"⟩ ∈ x_W := x_inW (i := 396) (by decide +kernel) (by decide +kernel)
theorem k_397 : Cond.selects "ReadSide$Vector" ⟨"ReadSide$Vector", "rise", "(LReadSide$Vector;)V"⟩ ⟨"ReadSide$Vector", "rise", "(LReadSide$Vector;)V"⟩ ∈ x_W := x_inW (i := 397) (by decide +kernel) (by decide +kernel)
theorem k_398 : Cond.code ⟨"ReadSide$Vector", "rise", "(LReadSide$Vector;)V"⟩ prog_9_method_4_code 3 none ∈ x_W := x_inW (i := 398) (by decide +kernel) (by decide +kernel)
theorem k_399 : Cond.methodLink "ReadSide$Vector" 13 ⟨"java/lang/Math", "max", "(II)I"⟩ ∈ x_W := x_inW (i := 399) (by decide +kernel) (by decide +kernel)
theorem k_400 : Cond.static ⟨"java/lang/Math", "max", "(II)I"⟩ ∈ x_W := x_inW (i := 400) (by decide +kernel) (by decide +kernel)
theorem k_401 : Cond.code ⟨"java/lang/Math", "max", "(II)I"⟩ prog_17_method_65_code 2 (some .int) ∈ x_W := x_inW (i := 401) (by decide +kernel) (by decide +kernel)
theorem k_402 : Cond.methodLink "ReadSide" 206 ⟨"ReadSide", "leave", "(I)V"⟩ ∈ x_W := x_inW (i := 402) (by decide +kernel) (by decide +kernel)
theorem k_404 : Cond.instanceMethod ⟨"ReadSide", "leave", "(I)V"⟩ ∈ x_W := x_inW (i := 404) (by decide +kernel) (by decide +kernel)
theorem k_405 : Cond.code ⟨"ReadSide", "leave", "(I)V"⟩ prog_1_method_25_code 3 none ∈ x_W := x_inW (i := 405) (by decide +kernel) (by decide +kernel)
theorem k_406 : Cond.methodLink "ReadSideLaw" 101 ⟨"ReadSideLaw", "home", "(LReadSide;II[J)I"⟩ ∈ x_W := x_inW (i := 406) (by decide +kernel) (by decide +kernel)
theorem k_407 : Cond.static ⟨"ReadSideLaw", "home", "(LReadSide;II[J)I"⟩ ∈ x_W := x_inW (i := 407) (by decide +kernel) (by decide +kernel)
theorem k_408 : Cond.codeWith ⟨"ReadSideLaw", "home", "(LReadSide;II[J)I"⟩ method_4_code 5 (some .int) [(0, 10, 13, 13)] ∈ x_W := x_inW (i := 408) (by decide +kernel) (by decide +kernel)
theorem k_409 : Cond.methodLink "ReadSideLaw" 17 ⟨"ReadSide", "home", "(II)I"⟩ ∈ x_W := x_inW (i := 409) (by decide +kernel) (by decide +kernel)
theorem k_410 : Cond.instanceMethod ⟨"ReadSide", "home", "(II)I"⟩ ∈ x_W := x_inW (i := 410) (by decide +kernel) (by decide +kernel)
theorem k_411 : Cond.selects "ReadSide" ⟨"ReadSide", "home", "(II)I"⟩ ⟨"ReadSide", "home", "(II)I"⟩ ∈ x_W := x_inW (i := 411) (by decide +kernel) (by decide +kernel)
theorem k_412 : Cond.code ⟨"ReadSide", "home", "(II)I"⟩ prog_1_method_9_code 5 (some .int) ∈ x_W := x_inW (i := 412) (by decide +kernel) (by decide +kernel)
theorem k_413 : Cond.methodLink "ReadSide" 82 ⟨"ReadSide", "replicaAt", "(I)LReadSide$Replica;"⟩ ∈ x_W := x_inW (i := 413) (by decide +kernel) (by decide +kernel)
theorem k_415 : Cond.instanceMethod ⟨"ReadSide", "replicaAt", "(I)LReadSide$Replica;"⟩ ∈ x_W := x_inW (i := 415) (by decide +kernel) (by decide +kernel)
theorem k_416 : Cond.code ⟨"ReadSide", "replicaAt", "(I)LReadSide$Replica;"⟩ prog_1_method_6_code 2 (some (.object "ReadSide$Replica")) ∈ x_W := x_inW (i := 416) (by decide +kernel) (by decide +kernel)
theorem k_417 : Cond.methodLink "ReadSideLaw" 104 ⟨"ReadSideLaw", "command", "(LReadSide;IIIII[J)I"⟩ ∈ x_W := x_inW (i := 417) (by decide +kernel) (by decide +kernel)
theorem k_418 : Cond.static ⟨"ReadSideLaw", "command", "(LReadSide;IIIII[J)I"⟩ ∈ x_W := x_inW (i := 418) (by decide +kernel) (by decide +kernel)
theorem k_419 : Cond.codeWith ⟨"ReadSideLaw", "command", "(LReadSide;IIIII[J)I"⟩ method_5_code 8 (some .int) [(0, 15, 18, 13), (0, 15, 22, 15), (0, 15, 26, 24)] ∈ x_W := x_inW (i := 419) (by decide +kernel) (by decide +kernel)
theorem k_420 : Cond.classLink "ReadSideLaw" 24 "java/lang/IllegalStateException" ∈ x_W := x_inW (i := 420) (by decide +kernel) (by decide +kernel)
theorem k_421 : Cond.methodLink "ReadSideLaw" 20 ⟨"ReadSide", "command", "(IIIII)J"⟩ ∈ x_W := x_inW (i := 421) (by decide +kernel) (by decide +kernel)
theorem k_422 : Cond.instanceMethod ⟨"ReadSide", "command", "(IIIII)J"⟩ ∈ x_W := x_inW (i := 422) (by decide +kernel) (by decide +kernel)
theorem k_423 : Cond.selects "ReadSide" ⟨"ReadSide", "command", "(IIIII)J"⟩ ⟨"ReadSide", "command", "(IIIII)J"⟩ ∈ x_W := x_inW (i := 423) (by decide +kernel) (by decide +kernel)
theorem k_424 : Cond.code ⟨"ReadSide", "command", "(IIIII)J"⟩ prog_1_method_10_code 11 (some .long) ∈ x_W := x_inW (i := 424) (by decide +kernel) (by decide +kernel)
theorem k_425 : Cond.constantLong "ReadSide" 89 1000 ∈ x_W := x_inW (i := 425) (by decide +kernel) (by decide +kernel)
theorem k_426 : Cond.methodLink "ReadSide" 94 ⟨"ReadSide", "need", "(Z)V"⟩ ∈ x_W := x_inW (i := 426) (by decide +kernel) (by decide +kernel)
theorem k_427 : Cond.static ⟨"ReadSide", "need", "(Z)V"⟩ ∈ x_W := x_inW (i := 427) (by decide +kernel) (by decide +kernel)
theorem k_428 : Cond.code ⟨"ReadSide", "need", "(Z)V"⟩ prog_1_method_5_code 1 none ∈ x_W := x_inW (i := 428) (by decide +kernel) (by decide +kernel)
theorem k_429 : Cond.classLink "ReadSide" 58 "java/lang/IllegalStateException" ∈ x_W := x_inW (i := 429) (by decide +kernel) (by decide +kernel)
theorem k_430 : Cond.instantiable "java/lang/IllegalStateException" 6 ∈ x_W := x_inW (i := 430) (by decide +kernel) (by decide +kernel)
theorem k_431 : Cond.castable "java/lang/IllegalStateException" "java/lang/IllegalStateException" ∈ x_W := x_inW (i := 431) (by decide +kernel) (by decide +kernel)
theorem k_444 : Cond.classLink "ReadSide" 97 "ReadSide$Command" ∈ x_W := x_inW (i := 444) (by decide +kernel) (by decide +kernel)
theorem k_445 : Cond.instantiable "ReadSide$Command" 5 ∈ x_W := x_inW (i := 445) (by decide +kernel) (by decide +kernel)
theorem k_446 : Cond.methodLink "ReadSide" 99 ⟨"ReadSide$Command", "<init>", "(IIII)V"⟩ ∈ x_W := x_inW (i := 446) (by decide +kernel) (by decide +kernel)
theorem k_447 : Cond.instanceMethod ⟨"ReadSide$Command", "<init>", "(IIII)V"⟩ ∈ x_W := x_inW (i := 447) (by decide +kernel) (by decide +kernel)
theorem k_448 : Cond.code ⟨"ReadSide$Command", "<init>", "(IIII)V"⟩ prog_2_method_1_code 5 none ∈ x_W := x_inW (i := 448) (by decide +kernel) (by decide +kernel)
theorem k_449 : Cond.methodLink "ReadSide$Command" 1 ⟨"java/lang/Object", "<init>", "()V"⟩ ∈ x_W := x_inW (i := 449) (by decide +kernel) (by decide +kernel)
theorem k_450 : Cond.classLink "ReadSide$Command" 7 "ReadSide$Vector" ∈ x_W := x_inW (i := 450) (by decide +kernel) (by decide +kernel)
theorem k_451 : Cond.methodLinkNest "ReadSide$Command" 9 ⟨"ReadSide$Vector", "<init>", "()V"⟩ "ReadSide" ∈ x_W := x_inW (i := 451) (by decide +kernel) (by decide +kernel)
theorem k_452 : Cond.fieldLink "ReadSide$Command" 16 "ReadSide$Command" "kind" "I" ∈ x_W := x_inW (i := 452) (by decide +kernel) (by decide +kernel)
theorem k_453 : Cond.fieldLink "ReadSide$State" 55 "ReadSide$Command" "kind" "I" ∈ x_W := x_inW (i := 453) (by decide +kernel) (by decide +kernel)
theorem k_454 : Cond.fieldLink "ReadSide$Command" 20 "ReadSide$Command" "item" "I" ∈ x_W := x_inW (i := 454) (by decide +kernel) (by decide +kernel)
theorem k_455 : Cond.fieldLink "ReadSide$State" 46 "ReadSide$Command" "item" "I" ∈ x_W := x_inW (i := 455) (by decide +kernel) (by decide +kernel)
theorem k_456 : Cond.fieldLink "ReadSide$Command" 23 "ReadSide$Command" "customer" "I" ∈ x_W := x_inW (i := 456) (by decide +kernel) (by decide +kernel)
theorem k_457 : Cond.fieldLink "ReadSide$State" 65 "ReadSide$Command" "customer" "I" ∈ x_W := x_inW (i := 457) (by decide +kernel) (by decide +kernel)
theorem k_458 : Cond.fieldLink "ReadSide$Command" 26 "ReadSide$Command" "amount" "I" ∈ x_W := x_inW (i := 458) (by decide +kernel) (by decide +kernel)
theorem k_459 : Cond.fieldLink "ReadSide$State" 52 "ReadSide$Command" "amount" "I" ∈ x_W := x_inW (i := 459) (by decide +kernel) (by decide +kernel)
theorem k_460 : Cond.fieldLink "ReadSide$Command" 10 "ReadSide$Command" "needs" "LReadSide$Vector;" ∈ x_W := x_inW (i := 460) (by decide +kernel) (by decide +kernel)
theorem k_461 : Cond.fieldLink "ReadSide" 106 "ReadSide$Command" "needs" "LReadSide$Vector;" ∈ x_W := x_inW (i := 461) (by decide +kernel) (by decide +kernel)
theorem k_473 : Cond.classLink "ReadSide" 114 "ReadSide$Vector" ∈ x_W := x_inW (i := 473) (by decide +kernel) (by decide +kernel)
theorem k_474 : Cond.methodLinkNest "ReadSide" 128 ⟨"ReadSide$Vector", "<init>", "()V"⟩ "ReadSide" ∈ x_W := x_inW (i := 474) (by decide +kernel) (by decide +kernel)
theorem k_475 : Cond.methodLink "ReadSide" 129 ⟨"ReadSide$Vector", "copy", "(LReadSide$Vector;)V"⟩ ∈ x_W := x_inW (i := 475) (by decide +kernel) (by decide +kernel)
theorem k_476 : Cond.instanceMethod ⟨"ReadSide$Vector", "copy", "(LReadSide$Vector;)V"⟩ ∈ x_W := x_inW (i := 476) (by decide +kernel) (by decide +kernel)
theorem k_477 : Cond.selects "ReadSide$Vector" ⟨"ReadSide$Vector", "copy", "(LReadSide$Vector;)V"⟩ ⟨"ReadSide$Vector", "copy", "(LReadSide$Vector;)V"⟩ ∈ x_W := x_inW (i := 477) (by decide +kernel) (by decide +kernel)
theorem k_478 : Cond.code ⟨"ReadSide$Vector", "copy", "(LReadSide$Vector;)V"⟩ prog_9_method_3_code 3 none ∈ x_W := x_inW (i := 478) (by decide +kernel) (by decide +kernel)
theorem k_479 : Cond.methodLink "ReadSideLaw" 108 ⟨"ReadSideLaw", "step", "(LReadSide;II[J)I"⟩ ∈ x_W := x_inW (i := 479) (by decide +kernel) (by decide +kernel)
theorem k_480 : Cond.static ⟨"ReadSideLaw", "step", "(LReadSide;II[J)I"⟩ ∈ x_W := x_inW (i := 480) (by decide +kernel) (by decide +kernel)
theorem k_481 : Cond.codeWith ⟨"ReadSideLaw", "step", "(LReadSide;II[J)I"⟩ method_6_code 5 (some .int) [(0, 10, 13, 13)] ∈ x_W := x_inW (i := 481) (by decide +kernel) (by decide +kernel)
theorem k_482 : Cond.methodLink "ReadSideLaw" 26 ⟨"ReadSide", "step", "(II)I"⟩ ∈ x_W := x_inW (i := 482) (by decide +kernel) (by decide +kernel)
theorem k_483 : Cond.instanceMethod ⟨"ReadSide", "step", "(II)I"⟩ ∈ x_W := x_inW (i := 483) (by decide +kernel) (by decide +kernel)
theorem k_484 : Cond.selects "ReadSide" ⟨"ReadSide", "step", "(II)I"⟩ ⟨"ReadSide", "step", "(II)I"⟩ ∈ x_W := x_inW (i := 484) (by decide +kernel) (by decide +kernel)
theorem k_485 : Cond.code ⟨"ReadSide", "step", "(II)I"⟩ prog_1_method_14_code 4 (some .int) ∈ x_W := x_inW (i := 485) (by decide +kernel) (by decide +kernel)
theorem k_486 : Cond.methodLink "ReadSide" 177 ⟨"ReadSide", "advance", "(LReadSide$Replica;I)I"⟩ ∈ x_W := x_inW (i := 486) (by decide +kernel) (by decide +kernel)
theorem k_488 : Cond.instanceMethod ⟨"ReadSide", "advance", "(LReadSide$Replica;I)I"⟩ ∈ x_W := x_inW (i := 488) (by decide +kernel) (by decide +kernel)
theorem k_489 : Cond.code ⟨"ReadSide", "advance", "(LReadSide$Replica;I)I"⟩ prog_1_method_13_code 5 (some .int) ∈ x_W := x_inW (i := 489) (by decide +kernel) (by decide +kernel)
theorem k_490 : Cond.methodLink "ReadSide" 159 ⟨"ReadSide$Log", "at", "(I)LReadSide$Command;"⟩ ∈ x_W := x_inW (i := 490) (by decide +kernel) (by decide +kernel)
theorem k_491 : Cond.instanceMethod ⟨"ReadSide$Log", "at", "(I)LReadSide$Command;"⟩ ∈ x_W := x_inW (i := 491) (by decide +kernel) (by decide +kernel)
theorem k_492 : Cond.selects "ReadSide$Log" ⟨"ReadSide$Log", "at", "(I)LReadSide$Command;"⟩ ⟨"ReadSide$Log", "at", "(I)LReadSide$Command;"⟩ ∈ x_W := x_inW (i := 492) (by decide +kernel) (by decide +kernel)
theorem k_493 : Cond.code ⟨"ReadSide$Log", "at", "(I)LReadSide$Command;"⟩ prog_4_method_2_code 2 (some (.object "ReadSide$Command")) ∈ x_W := x_inW (i := 493) (by decide +kernel) (by decide +kernel)
theorem k_494 : Cond.methodLink "ReadSide" 166 ⟨"ReadSide$State", "take", "(LReadSide$Command;)V"⟩ ∈ x_W := x_inW (i := 494) (by decide +kernel) (by decide +kernel)
theorem k_495 : Cond.instanceMethod ⟨"ReadSide$State", "take", "(LReadSide$Command;)V"⟩ ∈ x_W := x_inW (i := 495) (by decide +kernel) (by decide +kernel)
theorem k_496 : Cond.selects "ReadSide$State" ⟨"ReadSide$State", "take", "(LReadSide$Command;)V"⟩ ⟨"ReadSide$State", "take", "(LReadSide$Command;)V"⟩ ∈ x_W := x_inW (i := 496) (by decide +kernel) (by decide +kernel)
theorem k_497 : Cond.code ⟨"ReadSide$State", "take", "(LReadSide$Command;)V"⟩ prog_8_method_3_code 4 none ∈ x_W := x_inW (i := 497) (by decide +kernel) (by decide +kernel)
theorem k_498 : Cond.constant "ReadSide$State" 61 100000 ∈ x_W := x_inW (i := 498) (by decide +kernel) (by decide +kernel)
theorem k_499 : Cond.methodLink "ReadSide$State" 68 ⟨"ReadSide$State", "hold", "(LReadSide$Item;II)V"⟩ ∈ x_W := x_inW (i := 499) (by decide +kernel) (by decide +kernel)
theorem k_500 : Cond.static ⟨"ReadSide$State", "hold", "(LReadSide$Item;II)V"⟩ ∈ x_W := x_inW (i := 500) (by decide +kernel) (by decide +kernel)
theorem k_501 : Cond.code ⟨"ReadSide$State", "hold", "(LReadSide$Item;II)V"⟩ prog_8_method_4_code 3 none ∈ x_W := x_inW (i := 501) (by decide +kernel) (by decide +kernel)
theorem k_502 : Cond.methodLink "ReadSide$State" 81 ⟨"java/lang/Math", "min", "(II)I"⟩ ∈ x_W := x_inW (i := 502) (by decide +kernel) (by decide +kernel)
theorem k_503 : Cond.methodLink "ReadSideLaw" 111 ⟨"ReadSideLaw", "speed", "(LReadSide;II[J)I"⟩ ∈ x_W := x_inW (i := 503) (by decide +kernel) (by decide +kernel)
theorem k_504 : Cond.static ⟨"ReadSideLaw", "speed", "(LReadSide;II[J)I"⟩ ∈ x_W := x_inW (i := 504) (by decide +kernel) (by decide +kernel)
theorem k_505 : Cond.codeWith ⟨"ReadSideLaw", "speed", "(LReadSide;II[J)I"⟩ method_7_code 5 (some .int) [(0, 10, 13, 13), (0, 10, 17, 15)] ∈ x_W := x_inW (i := 505) (by decide +kernel) (by decide +kernel)
theorem k_506 : Cond.methodLink "ReadSideLaw" 29 ⟨"ReadSide", "speed", "(II)I"⟩ ∈ x_W := x_inW (i := 506) (by decide +kernel) (by decide +kernel)
theorem k_507 : Cond.instanceMethod ⟨"ReadSide", "speed", "(II)I"⟩ ∈ x_W := x_inW (i := 507) (by decide +kernel) (by decide +kernel)
theorem k_508 : Cond.selects "ReadSide" ⟨"ReadSide", "speed", "(II)I"⟩ ⟨"ReadSide", "speed", "(II)I"⟩ ∈ x_W := x_inW (i := 508) (by decide +kernel) (by decide +kernel)
theorem k_509 : Cond.code ⟨"ReadSide", "speed", "(II)I"⟩ prog_1_method_15_code 5 (some .int) ∈ x_W := x_inW (i := 509) (by decide +kernel) (by decide +kernel)
theorem k_510 : Cond.constantLong "ReadSide" 181 10 ∈ x_W := x_inW (i := 510) (by decide +kernel) (by decide +kernel)
theorem k_511 : Cond.methodLink "ReadSideLaw" 114 ⟨"ReadSideLaw", "ticks", "(LReadSide;I[J)I"⟩ ∈ x_W := x_inW (i := 511) (by decide +kernel) (by decide +kernel)
theorem k_512 : Cond.static ⟨"ReadSideLaw", "ticks", "(LReadSide;I[J)I"⟩ ∈ x_W := x_inW (i := 512) (by decide +kernel) (by decide +kernel)
theorem k_513 : Cond.codeWith ⟨"ReadSideLaw", "ticks", "(LReadSide;I[J)I"⟩ method_8_code 4 (some .int) [(0, 9, 12, 15)] ∈ x_W := x_inW (i := 513) (by decide +kernel) (by decide +kernel)
theorem k_514 : Cond.methodLink "ReadSideLaw" 32 ⟨"ReadSide", "ticks", "(I)I"⟩ ∈ x_W := x_inW (i := 514) (by decide +kernel) (by decide +kernel)
theorem k_515 : Cond.instanceMethod ⟨"ReadSide", "ticks", "(I)I"⟩ ∈ x_W := x_inW (i := 515) (by decide +kernel) (by decide +kernel)
theorem k_516 : Cond.selects "ReadSide" ⟨"ReadSide", "ticks", "(I)I"⟩ ⟨"ReadSide", "ticks", "(I)I"⟩ ∈ x_W := x_inW (i := 516) (by decide +kernel) (by decide +kernel)
theorem k_517 : Cond.code ⟨"ReadSide", "ticks", "(I)I"⟩ prog_1_method_17_code 8 (some .int) ∈ x_W := x_inW (i := 517) (by decide +kernel) (by decide +kernel)
theorem k_518 : Cond.constantLong "ReadSide" 186 100 ∈ x_W := x_inW (i := 518) (by decide +kernel) (by decide +kernel)
theorem k_519 : Cond.methodLink "ReadSide" 192 ⟨"ReadSide", "hurry", "(LReadSide$Replica;)I"⟩ ∈ x_W := x_inW (i := 519) (by decide +kernel) (by decide +kernel)
theorem k_521 : Cond.instanceMethod ⟨"ReadSide", "hurry", "(LReadSide$Replica;)I"⟩ ∈ x_W := x_inW (i := 521) (by decide +kernel) (by decide +kernel)
theorem k_522 : Cond.code ⟨"ReadSide", "hurry", "(LReadSide$Replica;)I"⟩ prog_1_method_16_code 6 (some .int) ∈ x_W := x_inW (i := 522) (by decide +kernel) (by decide +kernel)
theorem k_523 : Cond.methodLink "ReadSide" 202 ⟨"ReadSide", "fail", "(LReadSide$Read;)V"⟩ ∈ x_W := x_inW (i := 523) (by decide +kernel) (by decide +kernel)
theorem k_525 : Cond.instanceMethod ⟨"ReadSide", "fail", "(LReadSide$Read;)V"⟩ ∈ x_W := x_inW (i := 525) (by decide +kernel) (by decide +kernel)
theorem k_526 : Cond.code ⟨"ReadSide", "fail", "(LReadSide$Read;)V"⟩ prog_1_method_24_code 2 none ∈ x_W := x_inW (i := 526) (by decide +kernel) (by decide +kernel)
theorem k_527 : Cond.methodLink "ReadSideLaw" 118 ⟨"ReadSideLaw", "up", "(LReadSide;IZ[J)I"⟩ ∈ x_W := x_inW (i := 527) (by decide +kernel) (by decide +kernel)
theorem k_528 : Cond.static ⟨"ReadSideLaw", "up", "(LReadSide;IZ[J)I"⟩ ∈ x_W := x_inW (i := 528) (by decide +kernel) (by decide +kernel)
theorem k_529 : Cond.codeWith ⟨"ReadSideLaw", "up", "(LReadSide;IZ[J)I"⟩ method_9_code 5 (some .int) [(0, 17, 20, 13)] ∈ x_W := x_inW (i := 529) (by decide +kernel) (by decide +kernel)
theorem k_530 : Cond.methodLink "ReadSideLaw" 36 ⟨"ReadSide", "up", "(IZ)Z"⟩ ∈ x_W := x_inW (i := 530) (by decide +kernel) (by decide +kernel)
theorem k_531 : Cond.instanceMethod ⟨"ReadSide", "up", "(IZ)Z"⟩ ∈ x_W := x_inW (i := 531) (by decide +kernel) (by decide +kernel)
theorem k_532 : Cond.selects "ReadSide" ⟨"ReadSide", "up", "(IZ)Z"⟩ ⟨"ReadSide", "up", "(IZ)Z"⟩ ∈ x_W := x_inW (i := 532) (by decide +kernel) (by decide +kernel)
theorem k_533 : Cond.code ⟨"ReadSide", "up", "(IZ)Z"⟩ prog_1_method_18_code 5 (some .boolean) ∈ x_W := x_inW (i := 533) (by decide +kernel) (by decide +kernel)
theorem k_534 : Cond.methodLink "ReadSideLaw" 122 ⟨"ReadSideLaw", "snapshot", "(LReadSide;I[J)I"⟩ ∈ x_W := x_inW (i := 534) (by decide +kernel) (by decide +kernel)
theorem k_535 : Cond.static ⟨"ReadSideLaw", "snapshot", "(LReadSide;I[J)I"⟩ ∈ x_W := x_inW (i := 535) (by decide +kernel) (by decide +kernel)
theorem k_536 : Cond.codeWith ⟨"ReadSideLaw", "snapshot", "(LReadSide;I[J)I"⟩ method_10_code 4 (some .int) [(0, 9, 12, 13)] ∈ x_W := x_inW (i := 536) (by decide +kernel) (by decide +kernel)
theorem k_537 : Cond.methodLink "ReadSideLaw" 40 ⟨"ReadSide", "snapshot", "(I)I"⟩ ∈ x_W := x_inW (i := 537) (by decide +kernel) (by decide +kernel)
theorem k_538 : Cond.instanceMethod ⟨"ReadSide", "snapshot", "(I)I"⟩ ∈ x_W := x_inW (i := 538) (by decide +kernel) (by decide +kernel)
theorem k_539 : Cond.selects "ReadSide" ⟨"ReadSide", "snapshot", "(I)I"⟩ ⟨"ReadSide", "snapshot", "(I)I"⟩ ∈ x_W := x_inW (i := 539) (by decide +kernel) (by decide +kernel)
theorem k_540 : Cond.code ⟨"ReadSide", "snapshot", "(I)I"⟩ prog_1_method_19_code 3 (some .int) ∈ x_W := x_inW (i := 540) (by decide +kernel) (by decide +kernel)
theorem k_541 : Cond.methodLink "ReadSide" 213 ⟨"ReadSide$State", "copy", "(LReadSide$State;)V"⟩ ∈ x_W := x_inW (i := 541) (by decide +kernel) (by decide +kernel)
theorem k_542 : Cond.instanceMethod ⟨"ReadSide$State", "copy", "(LReadSide$State;)V"⟩ ∈ x_W := x_inW (i := 542) (by decide +kernel) (by decide +kernel)
theorem k_543 : Cond.selects "ReadSide$State" ⟨"ReadSide$State", "copy", "(LReadSide$State;)V"⟩ ⟨"ReadSide$State", "copy", "(LReadSide$State;)V"⟩ ∈ x_W := x_inW (i := 543) (by decide +kernel) (by decide +kernel)
theorem k_544 : Cond.code ⟨"ReadSide$State", "copy", "(LReadSide$State;)V"⟩ prog_8_method_2_code 3 none ∈ x_W := x_inW (i := 544) (by decide +kernel) (by decide +kernel)
theorem k_545 : Cond.methodLink "ReadSide$State" 33 ⟨"ReadSide$Item", "copy", "(LReadSide$Item;)V"⟩ ∈ x_W := x_inW (i := 545) (by decide +kernel) (by decide +kernel)
theorem k_546 : Cond.instanceMethod ⟨"ReadSide$Item", "copy", "(LReadSide$Item;)V"⟩ ∈ x_W := x_inW (i := 546) (by decide +kernel) (by decide +kernel)
theorem k_547 : Cond.selects "ReadSide$Item" ⟨"ReadSide$Item", "copy", "(LReadSide$Item;)V"⟩ ⟨"ReadSide$Item", "copy", "(LReadSide$Item;)V"⟩ ∈ x_W := x_inW (i := 547) (by decide +kernel) (by decide +kernel)
theorem k_548 : Cond.code ⟨"ReadSide$Item", "copy", "(LReadSide$Item;)V"⟩ prog_3_method_2_code 2 none ∈ x_W := x_inW (i := 548) (by decide +kernel) (by decide +kernel)
theorem k_549 : Cond.methodLink "ReadSide$Item" 28 ⟨"java/lang/System", "arraycopy", "(Ljava/lang/Object;ILjava/lang/Object;II)V"⟩ ∈ x_W := x_inW (i := 549) (by decide +kernel) (by decide +kernel)
theorem k_550 : Cond.static ⟨"java/lang/System", "arraycopy", "(Ljava/lang/Object;ILjava/lang/Object;II)V"⟩ ∈ x_W := x_inW (i := 550) (by decide +kernel) (by decide +kernel)
theorem k_551 : Cond.native ⟨"java/lang/System", "arraycopy", "(Ljava/lang/Object;ILjava/lang/Object;II)V"⟩ ∈ x_W := x_inW (i := 551) (by decide +kernel) (by decide +kernel)
theorem k_552 : Cond.methodLink "ReadSide$State" 37 ⟨"java/lang/System", "arraycopy", "(Ljava/lang/Object;ILjava/lang/Object;II)V"⟩ ∈ x_W := x_inW (i := 552) (by decide +kernel) (by decide +kernel)
theorem k_553 : Cond.methodLink "ReadSide$State" 43 ⟨"ReadSide$Vector", "copy", "(LReadSide$Vector;)V"⟩ ∈ x_W := x_inW (i := 553) (by decide +kernel) (by decide +kernel)
theorem k_554 : Cond.methodLink "ReadSide" 216 ⟨"ReadSide$Vector", "sum", "()I"⟩ ∈ x_W := x_inW (i := 554) (by decide +kernel) (by decide +kernel)
theorem k_555 : Cond.instanceMethod ⟨"ReadSide$Vector", "sum", "()I"⟩ ∈ x_W := x_inW (i := 555) (by decide +kernel) (by decide +kernel)
theorem k_556 : Cond.selects "ReadSide$Vector" ⟨"ReadSide$Vector", "sum", "()I"⟩ ⟨"ReadSide$Vector", "sum", "()I"⟩ ∈ x_W := x_inW (i := 556) (by decide +kernel) (by decide +kernel)
theorem k_557 : Cond.code ⟨"ReadSide$Vector", "sum", "()I"⟩ prog_9_method_5_code 1 (some .int) ∈ x_W := x_inW (i := 557) (by decide +kernel) (by decide +kernel)
theorem k_558 : Cond.methodLink "ReadSideLaw" 125 ⟨"ReadSideLaw", "crash", "(LReadSide;I[J)I"⟩ ∈ x_W := x_inW (i := 558) (by decide +kernel) (by decide +kernel)
theorem k_559 : Cond.static ⟨"ReadSideLaw", "crash", "(LReadSide;I[J)I"⟩ ∈ x_W := x_inW (i := 559) (by decide +kernel) (by decide +kernel)
theorem k_560 : Cond.codeWith ⟨"ReadSideLaw", "crash", "(LReadSide;I[J)I"⟩ method_11_code 4 (some .int) [(0, 9, 12, 13)] ∈ x_W := x_inW (i := 560) (by decide +kernel) (by decide +kernel)
theorem k_561 : Cond.methodLink "ReadSideLaw" 43 ⟨"ReadSide", "crash", "(I)I"⟩ ∈ x_W := x_inW (i := 561) (by decide +kernel) (by decide +kernel)
theorem k_562 : Cond.instanceMethod ⟨"ReadSide", "crash", "(I)I"⟩ ∈ x_W := x_inW (i := 562) (by decide +kernel) (by decide +kernel)
theorem k_563 : Cond.selects "ReadSide" ⟨"ReadSide", "crash", "(I)I"⟩ ⟨"ReadSide", "crash", "(I)I"⟩ ∈ x_W := x_inW (i := 563) (by decide +kernel) (by decide +kernel)
theorem k_564 : Cond.code ⟨"ReadSide", "crash", "(I)I"⟩ prog_1_method_20_code 4 (some .int) ∈ x_W := x_inW (i := 564) (by decide +kernel) (by decide +kernel)
theorem k_565 : Cond.methodLink "ReadSideLaw" 134 ⟨"ReadSideLaw", "ask", "(LReadSide;IJIIII[J)I"⟩ ∈ x_W := x_inW (i := 565) (by decide +kernel) (by decide +kernel)
theorem k_566 : Cond.static ⟨"ReadSideLaw", "ask", "(LReadSide;IJIIII[J)I"⟩ ∈ x_W := x_inW (i := 566) (by decide +kernel) (by decide +kernel)
theorem k_567 : Cond.codeWith ⟨"ReadSideLaw", "ask", "(LReadSide;IJIIII[J)I"⟩ method_12_code 10 (some .int) [(0, 19, 22, 13), (0, 19, 26, 15), (0, 19, 30, 24)] ∈ x_W := x_inW (i := 567) (by decide +kernel) (by decide +kernel)
theorem k_568 : Cond.methodLink "ReadSideLaw" 46 ⟨"ReadSide", "ask", "(IJIIII)I"⟩ ∈ x_W := x_inW (i := 568) (by decide +kernel) (by decide +kernel)
theorem k_569 : Cond.instanceMethod ⟨"ReadSide", "ask", "(IJIIII)I"⟩ ∈ x_W := x_inW (i := 569) (by decide +kernel) (by decide +kernel)
theorem k_570 : Cond.selects "ReadSide" ⟨"ReadSide", "ask", "(IJIIII)I"⟩ ⟨"ReadSide", "ask", "(IJIIII)I"⟩ ∈ x_W := x_inW (i := 570) (by decide +kernel) (by decide +kernel)
theorem k_571 : Cond.code ⟨"ReadSide", "ask", "(IJIIII)I"⟩ prog_1_method_29_code 14 (some .int) ∈ x_W := x_inW (i := 571) (by decide +kernel) (by decide +kernel)
theorem k_572 : Cond.methodLink "ReadSide" 275 ⟨"ReadSide", "question", "(II)V"⟩ ∈ x_W := x_inW (i := 572) (by decide +kernel) (by decide +kernel)
theorem k_574 : Cond.instanceMethod ⟨"ReadSide", "question", "(II)V"⟩ ∈ x_W := x_inW (i := 574) (by decide +kernel) (by decide +kernel)
theorem k_575 : Cond.code ⟨"ReadSide", "question", "(II)V"⟩ prog_1_method_28_code 3 none ∈ x_W := x_inW (i := 575) (by decide +kernel) (by decide +kernel)
theorem k_576 : Cond.constantLong "ReadSide" 273 6 ∈ x_W := x_inW (i := 576) (by decide +kernel) (by decide +kernel)
theorem k_577 : Cond.methodLink "ReadSide" 146 ⟨"ReadSide", "vectorOf", "(J)LReadSide$Vector;"⟩ ∈ x_W := x_inW (i := 577) (by decide +kernel) (by decide +kernel)
theorem k_579 : Cond.instanceMethod ⟨"ReadSide", "vectorOf", "(J)LReadSide$Vector;"⟩ ∈ x_W := x_inW (i := 579) (by decide +kernel) (by decide +kernel)
theorem k_580 : Cond.code ⟨"ReadSide", "vectorOf", "(J)LReadSide$Vector;"⟩ prog_1_method_11_code 7 (some (.object "ReadSide$Vector")) ∈ x_W := x_inW (i := 580) (by decide +kernel) (by decide +kernel)
theorem k_581 : Cond.constantLong "ReadSide" 136 134217728 ∈ x_W := x_inW (i := 581) (by decide +kernel) (by decide +kernel)
theorem k_582 : Cond.constantLong "ReadSide" 138 1048575 ∈ x_W := x_inW (i := 582) (by decide +kernel) (by decide +kernel)
theorem k_583 : Cond.methodLink "ReadSide" 140 ⟨"ReadSide$Vector", "check", "(J)J"⟩ ∈ x_W := x_inW (i := 583) (by decide +kernel) (by decide +kernel)
theorem k_584 : Cond.constantLong "ReadSide" 144 511 ∈ x_W := x_inW (i := 584) (by decide +kernel) (by decide +kernel)
theorem k_585 : Cond.constantLong "ReadSide" 279 (-1) ∈ x_W := x_inW (i := 585) (by decide +kernel) (by decide +kernel)
theorem k_586 : Cond.constantLong "ReadSide" 281 400 ∈ x_W := x_inW (i := 586) (by decide +kernel) (by decide +kernel)
theorem k_587 : Cond.instantiable "ReadSide$Read" 12 ∈ x_W := x_inW (i := 587) (by decide +kernel) (by decide +kernel)
theorem k_588 : Cond.methodLink "ReadSide" 286 ⟨"ReadSide$Read", "<init>", "(IILReadSide$Vector;IJII)V"⟩ ∈ x_W := x_inW (i := 588) (by decide +kernel) (by decide +kernel)
theorem k_589 : Cond.instanceMethod ⟨"ReadSide$Read", "<init>", "(IILReadSide$Vector;IJII)V"⟩ ∈ x_W := x_inW (i := 589) (by decide +kernel) (by decide +kernel)
theorem k_590 : Cond.code ⟨"ReadSide$Read", "<init>", "(IILReadSide$Vector;IJII)V"⟩ prog_5_method_1_code 9 none ∈ x_W := x_inW (i := 590) (by decide +kernel) (by decide +kernel)
theorem k_591 : Cond.methodLink "ReadSide$Read" 3 ⟨"java/lang/Object", "<init>", "()V"⟩ ∈ x_W := x_inW (i := 591) (by decide +kernel) (by decide +kernel)
theorem k_592 : Cond.constantLong "ReadSide$Read" 18 (-1) ∈ x_W := x_inW (i := 592) (by decide +kernel) (by decide +kernel)
theorem k_593 : Cond.fieldLink "ReadSide$Read" 24 "ReadSide$Read" "number" "I" ∈ x_W := x_inW (i := 593) (by decide +kernel) (by decide +kernel)
theorem k_594 : Cond.fieldLinkNest "ReadSide" 289 "ReadSide$Read" "number" "I" "ReadSide" ∈ x_W := x_inW (i := 594) (by decide +kernel) (by decide +kernel)
theorem k_595 : Cond.fieldLink "ReadSide$Read" 27 "ReadSide$Read" "session" "I" ∈ x_W := x_inW (i := 595) (by decide +kernel) (by decide +kernel)
theorem k_596 : Cond.fieldLinkNest "ReadSide" 228 "ReadSide$Read" "session" "I" "ReadSide" ∈ x_W := x_inW (i := 596) (by decide +kernel) (by decide +kernel)
theorem k_597 : Cond.fieldLink "ReadSide$Read" 30 "ReadSide$Read" "token" "LReadSide$Vector;" ∈ x_W := x_inW (i := 597) (by decide +kernel) (by decide +kernel)
theorem k_598 : Cond.fieldLinkNest "ReadSide" 231 "ReadSide$Read" "token" "LReadSide$Vector;" "ReadSide" ∈ x_W := x_inW (i := 598) (by decide +kernel) (by decide +kernel)
theorem k_599 : Cond.fieldLink "ReadSide$Read" 34 "ReadSide$Read" "stale" "I" ∈ x_W := x_inW (i := 599) (by decide +kernel) (by decide +kernel)
theorem k_600 : Cond.fieldLinkNest "ReadSide" 233 "ReadSide$Read" "stale" "I" "ReadSide" ∈ x_W := x_inW (i := 600) (by decide +kernel) (by decide +kernel)
theorem k_601 : Cond.fieldLink "ReadSide$Read" 37 "ReadSide$Read" "over" "J" ∈ x_W := x_inW (i := 601) (by decide +kernel) (by decide +kernel)
theorem k_602 : Cond.fieldLinkNest "ReadSide" 199 "ReadSide$Read" "over" "J" "ReadSide" ∈ x_W := x_inW (i := 602) (by decide +kernel) (by decide +kernel)
theorem k_603 : Cond.fieldLink "ReadSide$Read" 40 "ReadSide$Read" "kind" "I" ∈ x_W := x_inW (i := 603) (by decide +kernel) (by decide +kernel)
theorem k_604 : Cond.fieldLinkNest "ReadSide" 241 "ReadSide$Read" "kind" "I" "ReadSide" ∈ x_W := x_inW (i := 604) (by decide +kernel) (by decide +kernel)
theorem k_605 : Cond.fieldLink "ReadSide$Read" 43 "ReadSide$Read" "a" "I" ∈ x_W := x_inW (i := 605) (by decide +kernel) (by decide +kernel)
theorem k_606 : Cond.fieldLinkNest "ReadSide" 244 "ReadSide$Read" "a" "I" "ReadSide" ∈ x_W := x_inW (i := 606) (by decide +kernel) (by decide +kernel)
theorem k_607 : Cond.fieldLink "ReadSide$Read" 9 "ReadSide$Read" "state" "I" ∈ x_W := x_inW (i := 607) (by decide +kernel) (by decide +kernel)
theorem k_608 : Cond.fieldLinkNest "ReadSide" 236 "ReadSide$Read" "state" "I" "ReadSide" ∈ x_W := x_inW (i := 608) (by decide +kernel) (by decide +kernel)
theorem k_609 : Cond.fieldLink "ReadSide$Read" 15 "ReadSide$Read" "replica" "I" ∈ x_W := x_inW (i := 609) (by decide +kernel) (by decide +kernel)
theorem k_610 : Cond.fieldLinkNest "ReadSide" 238 "ReadSide$Read" "replica" "I" "ReadSide" ∈ x_W := x_inW (i := 610) (by decide +kernel) (by decide +kernel)
theorem k_611 : Cond.fieldLink "ReadSide$Read" 46 "ReadSide$Read" "answer" "J" ∈ x_W := x_inW (i := 611) (by decide +kernel) (by decide +kernel)
theorem k_612 : Cond.fieldLinkNest "ReadSide" 251 "ReadSide$Read" "answer" "J" "ReadSide" ∈ x_W := x_inW (i := 612) (by decide +kernel) (by decide +kernel)
theorem k_613 : Cond.fieldLink "ReadSide$Read" 49 "ReadSide$Read" "vector" "J" ∈ x_W := x_inW (i := 613) (by decide +kernel) (by decide +kernel)
theorem k_614 : Cond.fieldLinkNest "ReadSide" 253 "ReadSide$Read" "vector" "J" "ReadSide" ∈ x_W := x_inW (i := 614) (by decide +kernel) (by decide +kernel)
theorem k_615 : Cond.fieldLink "ReadSide$Read" 20 "ReadSide$Read" "time" "J" ∈ x_W := x_inW (i := 615) (by decide +kernel) (by decide +kernel)
theorem k_616 : Cond.fieldLinkNest "ReadSide" 256 "ReadSide$Read" "time" "J" "ReadSide" ∈ x_W := x_inW (i := 616) (by decide +kernel) (by decide +kernel)
theorem k_642 : Cond.methodLink "ReadSideLaw" 138 ⟨"ReadSideLaw", "read", "(LReadSide;II[J)I"⟩ ∈ x_W := x_inW (i := 642) (by decide +kernel) (by decide +kernel)
theorem k_643 : Cond.static ⟨"ReadSideLaw", "read", "(LReadSide;II[J)I"⟩ ∈ x_W := x_inW (i := 643) (by decide +kernel) (by decide +kernel)
theorem k_644 : Cond.codeWith ⟨"ReadSideLaw", "read", "(LReadSide;II[J)I"⟩ method_13_code 5 (some .int) [(0, 9, 12, 13)] ∈ x_W := x_inW (i := 644) (by decide +kernel) (by decide +kernel)
theorem k_645 : Cond.methodLink "ReadSideLaw" 50 ⟨"ReadSide", "read", "(II)J"⟩ ∈ x_W := x_inW (i := 645) (by decide +kernel) (by decide +kernel)
theorem k_646 : Cond.instanceMethod ⟨"ReadSide", "read", "(II)J"⟩ ∈ x_W := x_inW (i := 646) (by decide +kernel) (by decide +kernel)
theorem k_647 : Cond.selects "ReadSide" ⟨"ReadSide", "read", "(II)J"⟩ ⟨"ReadSide", "read", "(II)J"⟩ ∈ x_W := x_inW (i := 647) (by decide +kernel) (by decide +kernel)
theorem k_648 : Cond.code ⟨"ReadSide", "read", "(II)J"⟩ prog_1_method_30_code 4 (some .long) ∈ x_W := x_inW (i := 648) (by decide +kernel) (by decide +kernel)
theorem k_649 : Cond.methodLink "ReadSide" 292 ⟨"ReadSide$Read", "told", "(I)J"⟩ ∈ x_W := x_inW (i := 649) (by decide +kernel) (by decide +kernel)
theorem k_650 : Cond.instanceMethod ⟨"ReadSide$Read", "told", "(I)J"⟩ ∈ x_W := x_inW (i := 650) (by decide +kernel) (by decide +kernel)
theorem k_651 : Cond.selects "ReadSide$Read" ⟨"ReadSide$Read", "told", "(I)J"⟩ ⟨"ReadSide$Read", "told", "(I)J"⟩ ∈ x_W := x_inW (i := 651) (by decide +kernel) (by decide +kernel)
theorem k_652 : Cond.code ⟨"ReadSide$Read", "told", "(I)J"⟩ prog_5_method_2_code 2 (some .long) ∈ x_W := x_inW (i := 652) (by decide +kernel) (by decide +kernel)
theorem k_653 : Cond.methodLink "ReadSideLaw" 141 ⟨"ReadSideLaw", "value", "(LReadSide;III[J)I"⟩ ∈ x_W := x_inW (i := 653) (by decide +kernel) (by decide +kernel)
theorem k_654 : Cond.static ⟨"ReadSideLaw", "value", "(LReadSide;III[J)I"⟩ ∈ x_W := x_inW (i := 654) (by decide +kernel) (by decide +kernel)
theorem k_655 : Cond.codeWith ⟨"ReadSideLaw", "value", "(LReadSide;III[J)I"⟩ method_14_code 6 (some .int) [(0, 11, 14, 13)] ∈ x_W := x_inW (i := 655) (by decide +kernel) (by decide +kernel)
theorem k_656 : Cond.methodLink "ReadSideLaw" 54 ⟨"ReadSide", "value", "(III)J"⟩ ∈ x_W := x_inW (i := 656) (by decide +kernel) (by decide +kernel)
theorem k_657 : Cond.instanceMethod ⟨"ReadSide", "value", "(III)J"⟩ ∈ x_W := x_inW (i := 657) (by decide +kernel) (by decide +kernel)
theorem k_658 : Cond.selects "ReadSide" ⟨"ReadSide", "value", "(III)J"⟩ ⟨"ReadSide", "value", "(III)J"⟩ ∈ x_W := x_inW (i := 658) (by decide +kernel) (by decide +kernel)
theorem k_659 : Cond.code ⟨"ReadSide", "value", "(III)J"⟩ prog_1_method_31_code 5 (some .long) ∈ x_W := x_inW (i := 659) (by decide +kernel) (by decide +kernel)
theorem k_660 : Cond.methodLink "ReadSideLaw" 145 ⟨"ReadSideLaw", "at", "(LReadSide;II[J)I"⟩ ∈ x_W := x_inW (i := 660) (by decide +kernel) (by decide +kernel)
theorem k_661 : Cond.static ⟨"ReadSideLaw", "at", "(LReadSide;II[J)I"⟩ ∈ x_W := x_inW (i := 661) (by decide +kernel) (by decide +kernel)
theorem k_662 : Cond.codeWith ⟨"ReadSideLaw", "at", "(LReadSide;II[J)I"⟩ method_15_code 5 (some .int) [(0, 10, 13, 13)] ∈ x_W := x_inW (i := 662) (by decide +kernel) (by decide +kernel)
theorem k_663 : Cond.methodLink "ReadSideLaw" 58 ⟨"ReadSide", "at", "(II)I"⟩ ∈ x_W := x_inW (i := 663) (by decide +kernel) (by decide +kernel)
theorem k_664 : Cond.instanceMethod ⟨"ReadSide", "at", "(II)I"⟩ ∈ x_W := x_inW (i := 664) (by decide +kernel) (by decide +kernel)
theorem k_665 : Cond.selects "ReadSide" ⟨"ReadSide", "at", "(II)I"⟩ ⟨"ReadSide", "at", "(II)I"⟩ ∈ x_W := x_inW (i := 665) (by decide +kernel) (by decide +kernel)
theorem k_666 : Cond.code ⟨"ReadSide", "at", "(II)I"⟩ prog_1_method_32_code 3 (some .int) ∈ x_W := x_inW (i := 666) (by decide +kernel) (by decide +kernel)
theorem k_667 : Cond.methodLink "ReadSideLaw" 148 ⟨"ReadSideLaw", "kept", "(LReadSide;II[J)I"⟩ ∈ x_W := x_inW (i := 667) (by decide +kernel) (by decide +kernel)
theorem k_668 : Cond.static ⟨"ReadSideLaw", "kept", "(LReadSide;II[J)I"⟩ ∈ x_W := x_inW (i := 668) (by decide +kernel) (by decide +kernel)
theorem k_669 : Cond.codeWith ⟨"ReadSideLaw", "kept", "(LReadSide;II[J)I"⟩ method_16_code 5 (some .int) [(0, 10, 13, 13)] ∈ x_W := x_inW (i := 669) (by decide +kernel) (by decide +kernel)
theorem k_670 : Cond.methodLink "ReadSideLaw" 61 ⟨"ReadSide", "kept", "(II)I"⟩ ∈ x_W := x_inW (i := 670) (by decide +kernel) (by decide +kernel)
theorem k_671 : Cond.instanceMethod ⟨"ReadSide", "kept", "(II)I"⟩ ∈ x_W := x_inW (i := 671) (by decide +kernel) (by decide +kernel)
theorem k_672 : Cond.selects "ReadSide" ⟨"ReadSide", "kept", "(II)I"⟩ ⟨"ReadSide", "kept", "(II)I"⟩ ∈ x_W := x_inW (i := 672) (by decide +kernel) (by decide +kernel)
theorem k_673 : Cond.code ⟨"ReadSide", "kept", "(II)I"⟩ prog_1_method_33_code 3 (some .int) ∈ x_W := x_inW (i := 673) (by decide +kernel) (by decide +kernel)
theorem k_674 : Cond.methodLink "ReadSideLaw" 151 ⟨"ReadSideLaw", "log", "(LReadSide;II[J)I"⟩ ∈ x_W := x_inW (i := 674) (by decide +kernel) (by decide +kernel)
theorem k_675 : Cond.static ⟨"ReadSideLaw", "log", "(LReadSide;II[J)I"⟩ ∈ x_W := x_inW (i := 675) (by decide +kernel) (by decide +kernel)
theorem k_676 : Cond.codeWith ⟨"ReadSideLaw", "log", "(LReadSide;II[J)I"⟩ method_17_code 5 (some .int) [(0, 10, 13, 13)] ∈ x_W := x_inW (i := 676) (by decide +kernel) (by decide +kernel)
theorem k_677 : Cond.methodLink "ReadSideLaw" 64 ⟨"ReadSide", "log", "(II)I"⟩ ∈ x_W := x_inW (i := 677) (by decide +kernel) (by decide +kernel)
theorem k_678 : Cond.instanceMethod ⟨"ReadSide", "log", "(II)I"⟩ ∈ x_W := x_inW (i := 678) (by decide +kernel) (by decide +kernel)
theorem k_679 : Cond.selects "ReadSide" ⟨"ReadSide", "log", "(II)I"⟩ ⟨"ReadSide", "log", "(II)I"⟩ ∈ x_W := x_inW (i := 679) (by decide +kernel) (by decide +kernel)
theorem k_680 : Cond.code ⟨"ReadSide", "log", "(II)I"⟩ prog_1_method_34_code 4 (some .int) ∈ x_W := x_inW (i := 680) (by decide +kernel) (by decide +kernel)
theorem k_681 : Cond.methodLink "ReadSideLaw" 154 ⟨"ReadSideLaw", "logged", "(LReadSide;III[J)I"⟩ ∈ x_W := x_inW (i := 681) (by decide +kernel) (by decide +kernel)
theorem k_682 : Cond.static ⟨"ReadSideLaw", "logged", "(LReadSide;III[J)I"⟩ ∈ x_W := x_inW (i := 682) (by decide +kernel) (by decide +kernel)
theorem k_683 : Cond.codeWith ⟨"ReadSideLaw", "logged", "(LReadSide;III[J)I"⟩ method_18_code 6 (some .int) [(0, 12, 15, 13)] ∈ x_W := x_inW (i := 683) (by decide +kernel) (by decide +kernel)
theorem k_684 : Cond.methodLink "ReadSideLaw" 67 ⟨"ReadSide", "logged", "(III)I"⟩ ∈ x_W := x_inW (i := 684) (by decide +kernel) (by decide +kernel)
theorem k_685 : Cond.instanceMethod ⟨"ReadSide", "logged", "(III)I"⟩ ∈ x_W := x_inW (i := 685) (by decide +kernel) (by decide +kernel)
theorem k_686 : Cond.selects "ReadSide" ⟨"ReadSide", "logged", "(III)I"⟩ ⟨"ReadSide", "logged", "(III)I"⟩ ∈ x_W := x_inW (i := 686) (by decide +kernel) (by decide +kernel)
theorem k_687 : Cond.code ⟨"ReadSide", "logged", "(III)I"⟩ prog_1_method_35_code 5 (some .int) ∈ x_W := x_inW (i := 687) (by decide +kernel) (by decide +kernel)
theorem k_688 : Cond.methodLink "ReadSide" 296 ⟨"ReadSide$Command", "told", "(I)I"⟩ ∈ x_W := x_inW (i := 688) (by decide +kernel) (by decide +kernel)
theorem k_689 : Cond.instanceMethod ⟨"ReadSide$Command", "told", "(I)I"⟩ ∈ x_W := x_inW (i := 689) (by decide +kernel) (by decide +kernel)
theorem k_690 : Cond.selects "ReadSide$Command" ⟨"ReadSide$Command", "told", "(I)I"⟩ ⟨"ReadSide$Command", "told", "(I)I"⟩ ∈ x_W := x_inW (i := 690) (by decide +kernel) (by decide +kernel)
theorem k_691 : Cond.code ⟨"ReadSide$Command", "told", "(I)I"⟩ prog_2_method_2_code 2 (some .int) ∈ x_W := x_inW (i := 691) (by decide +kernel) (by decide +kernel)
theorem k_692 : Cond.methodLink "ReadSideLaw" 157 ⟨"ReadSideLaw", "session", "(LReadSide;III[J)I"⟩ ∈ x_W := x_inW (i := 692) (by decide +kernel) (by decide +kernel)
theorem k_693 : Cond.static ⟨"ReadSideLaw", "session", "(LReadSide;III[J)I"⟩ ∈ x_W := x_inW (i := 693) (by decide +kernel) (by decide +kernel)
theorem k_694 : Cond.codeWith ⟨"ReadSideLaw", "session", "(LReadSide;III[J)I"⟩ method_19_code 6 (some .int) [(0, 12, 15, 13)] ∈ x_W := x_inW (i := 694) (by decide +kernel) (by decide +kernel)
theorem k_695 : Cond.methodLink "ReadSideLaw" 71 ⟨"ReadSide", "session", "(III)I"⟩ ∈ x_W := x_inW (i := 695) (by decide +kernel) (by decide +kernel)
theorem k_696 : Cond.instanceMethod ⟨"ReadSide", "session", "(III)I"⟩ ∈ x_W := x_inW (i := 696) (by decide +kernel) (by decide +kernel)
theorem k_697 : Cond.selects "ReadSide" ⟨"ReadSide", "session", "(III)I"⟩ ⟨"ReadSide", "session", "(III)I"⟩ ∈ x_W := x_inW (i := 697) (by decide +kernel) (by decide +kernel)
theorem k_698 : Cond.code ⟨"ReadSide", "session", "(III)I"⟩ prog_1_method_36_code 6 (some .int) ∈ x_W := x_inW (i := 698) (by decide +kernel) (by decide +kernel)
theorem k_699 : Cond.methodLink "ReadSideLaw" 160 ⟨"ReadSideLaw", "told", "(LReadSide;JI[J)I"⟩ ∈ x_W := x_inW (i := 699) (by decide +kernel) (by decide +kernel)
theorem k_700 : Cond.static ⟨"ReadSideLaw", "told", "(LReadSide;JI[J)I"⟩ ∈ x_W := x_inW (i := 700) (by decide +kernel) (by decide +kernel)
theorem k_701 : Cond.codeWith ⟨"ReadSideLaw", "told", "(LReadSide;JI[J)I"⟩ method_20_code 6 (some .int) [(0, 11, 14, 13), (0, 11, 18, 15)] ∈ x_W := x_inW (i := 701) (by decide +kernel) (by decide +kernel)
theorem k_702 : Cond.methodLink "ReadSideLaw" 74 ⟨"ReadSide", "told", "(JI)I"⟩ ∈ x_W := x_inW (i := 702) (by decide +kernel) (by decide +kernel)
theorem k_703 : Cond.instanceMethod ⟨"ReadSide", "told", "(JI)I"⟩ ∈ x_W := x_inW (i := 703) (by decide +kernel) (by decide +kernel)
theorem k_704 : Cond.selects "ReadSide" ⟨"ReadSide", "told", "(JI)I"⟩ ⟨"ReadSide", "told", "(JI)I"⟩ ∈ x_W := x_inW (i := 704) (by decide +kernel) (by decide +kernel)
theorem k_705 : Cond.code ⟨"ReadSide", "told", "(JI)I"⟩ prog_1_method_12_code 5 (some .int) ∈ x_W := x_inW (i := 705) (by decide +kernel) (by decide +kernel)
theorem k_706 : Cond.methodLink "ReadSideLaw" 164 ⟨"ReadSideLaw", "count", "(LReadSide;I[J)I"⟩ ∈ x_W := x_inW (i := 706) (by decide +kernel) (by decide +kernel)
theorem k_707 : Cond.static ⟨"ReadSideLaw", "count", "(LReadSide;I[J)I"⟩ ∈ x_W := x_inW (i := 707) (by decide +kernel) (by decide +kernel)
theorem k_708 : Cond.codeWith ⟨"ReadSideLaw", "count", "(LReadSide;I[J)I"⟩ method_21_code 4 (some .int) [(0, 9, 12, 13)] ∈ x_W := x_inW (i := 708) (by decide +kernel) (by decide +kernel)
theorem k_709 : Cond.methodLink "ReadSideLaw" 78 ⟨"ReadSide", "count", "(I)I"⟩ ∈ x_W := x_inW (i := 709) (by decide +kernel) (by decide +kernel)
theorem k_710 : Cond.instanceMethod ⟨"ReadSide", "count", "(I)I"⟩ ∈ x_W := x_inW (i := 710) (by decide +kernel) (by decide +kernel)
theorem k_711 : Cond.selects "ReadSide" ⟨"ReadSide", "count", "(I)I"⟩ ⟨"ReadSide", "count", "(I)I"⟩ ∈ x_W := x_inW (i := 711) (by decide +kernel) (by decide +kernel)
theorem k_712 : Cond.code ⟨"ReadSide", "count", "(I)I"⟩ prog_1_method_37_code 2 (some .int) ∈ x_W := x_inW (i := 712) (by decide +kernel) (by decide +kernel)
theorem k_713 : Cond.classLink "ReadSideLaw" 90 "ReadSideModel" ∈ x_W := x_inW (i := 713) (by decide +kernel) (by decide +kernel)
theorem k_714 : Cond.instantiable "ReadSideModel" 39 ∈ x_W := x_inW (i := 714) (by decide +kernel) (by decide +kernel)
theorem k_715 : Cond.methodLink "ReadSideLaw" 92 ⟨"ReadSideModel", "<init>", "(II)V"⟩ ∈ x_W := x_inW (i := 715) (by decide +kernel) (by decide +kernel)
theorem k_716 : Cond.instanceMethod ⟨"ReadSideModel", "<init>", "(II)V"⟩ ∈ x_W := x_inW (i := 716) (by decide +kernel) (by decide +kernel)
theorem k_717 : Cond.code ⟨"ReadSideModel", "<init>", "(II)V"⟩ prog_11_method_1_code 4 none ∈ x_W := x_inW (i := 717) (by decide +kernel) (by decide +kernel)
theorem k_718 : Cond.methodLink "ReadSideModel" 1 ⟨"java/lang/Object", "<init>", "()V"⟩ ∈ x_W := x_inW (i := 718) (by decide +kernel) (by decide +kernel)
theorem k_719 : Cond.fieldLink "ReadSideModel" 114 "ReadSideModel" "parts" "I" ∈ x_W := x_inW (i := 719) (by decide +kernel) (by decide +kernel)
theorem k_720 : Cond.fieldLink "ReadSideModel" 118 "ReadSideModel" "replicas" "I" ∈ x_W := x_inW (i := 720) (by decide +kernel) (by decide +kernel)
theorem k_721 : Cond.fieldLink "ReadSideModel" 121 "ReadSideModel" "thrown" "I" ∈ x_W := x_inW (i := 721) (by decide +kernel) (by decide +kernel)
theorem k_722 : Cond.fieldLink "ReadSideModel" 201 "ReadSideModel" "time" "I" ∈ x_W := x_inW (i := 722) (by decide +kernel) (by decide +kernel)
theorem k_723 : Cond.fieldLink "ReadSideModel" 7 "ReadSideModel" "ends" "[I" ∈ x_W := x_inW (i := 723) (by decide +kernel) (by decide +kernel)
theorem k_724 : Cond.fieldLink "ReadSideModel" 13 "ReadSideModel" "trimmed" "[I" ∈ x_W := x_inW (i := 724) (by decide +kernel) (by decide +kernel)
theorem k_725 : Cond.fieldLink "ReadSideModel" 16 "ReadSideModel" "kinds" "[I" ∈ x_W := x_inW (i := 725) (by decide +kernel) (by decide +kernel)
theorem k_726 : Cond.fieldLink "ReadSideModel" 19 "ReadSideModel" "items" "[I" ∈ x_W := x_inW (i := 726) (by decide +kernel) (by decide +kernel)
theorem k_727 : Cond.fieldLink "ReadSideModel" 22 "ReadSideModel" "customers" "[I" ∈ x_W := x_inW (i := 727) (by decide +kernel) (by decide +kernel)
theorem k_728 : Cond.fieldLink "ReadSideModel" 25 "ReadSideModel" "amounts" "[I" ∈ x_W := x_inW (i := 728) (by decide +kernel) (by decide +kernel)
theorem k_729 : Cond.fieldLink "ReadSideModel" 28 "ReadSideModel" "needs" "[I" ∈ x_W := x_inW (i := 729) (by decide +kernel) (by decide +kernel)
theorem k_730 : Cond.fieldLink "ReadSideModel" 31 "ReadSideModel" "stock" "[I" ∈ x_W := x_inW (i := 730) (by decide +kernel) (by decide +kernel)
theorem k_731 : Cond.fieldLink "ReadSideModel" 34 "ReadSideModel" "reserved" "[I" ∈ x_W := x_inW (i := 731) (by decide +kernel) (by decide +kernel)
theorem k_732 : Cond.fieldLink "ReadSideModel" 37 "ReadSideModel" "sold" "[I" ∈ x_W := x_inW (i := 732) (by decide +kernel) (by decide +kernel)
theorem k_733 : Cond.fieldLink "ReadSideModel" 40 "ReadSideModel" "price" "[I" ∈ x_W := x_inW (i := 733) (by decide +kernel) (by decide +kernel)
theorem k_734 : Cond.fieldLink "ReadSideModel" 43 "ReadSideModel" "holds" "[I" ∈ x_W := x_inW (i := 734) (by decide +kernel) (by decide +kernel)
theorem k_735 : Cond.fieldLink "ReadSideModel" 46 "ReadSideModel" "paid" "[J" ∈ x_W := x_inW (i := 735) (by decide +kernel) (by decide +kernel)
theorem k_736 : Cond.fieldLink "ReadSideModel" 50 "ReadSideModel" "refusals" "[I" ∈ x_W := x_inW (i := 736) (by decide +kernel) (by decide +kernel)
theorem k_737 : Cond.fieldLink "ReadSideModel" 53 "ReadSideModel" "at" "[I" ∈ x_W := x_inW (i := 737) (by decide +kernel) (by decide +kernel)
theorem k_738 : Cond.fieldLink "ReadSideModel" 56 "ReadSideModel" "speeds" "[I" ∈ x_W := x_inW (i := 738) (by decide +kernel) (by decide +kernel)
theorem k_739 : Cond.fieldLink "ReadSideModel" 59 "ReadSideModel" "next" "[I" ∈ x_W := x_inW (i := 739) (by decide +kernel) (by decide +kernel)
theorem k_740 : Cond.fieldLink "ReadSideModel" 62 "ReadSideModel" "up" "[Z" ∈ x_W := x_inW (i := 740) (by decide +kernel) (by decide +kernel)
theorem k_741 : Cond.fieldLink "ReadSideModel" 66 "ReadSideModel" "modes" "[I" ∈ x_W := x_inW (i := 741) (by decide +kernel) (by decide +kernel)
theorem k_742 : Cond.fieldLink "ReadSideModel" 69 "ReadSideModel" "homes" "[I" ∈ x_W := x_inW (i := 742) (by decide +kernel) (by decide +kernel)
theorem k_743 : Cond.fieldLink "ReadSideModel" 72 "ReadSideModel" "wrote" "[I" ∈ x_W := x_inW (i := 743) (by decide +kernel) (by decide +kernel)
theorem k_744 : Cond.fieldLink "ReadSideModel" 75 "ReadSideModel" "saw" "[I" ∈ x_W := x_inW (i := 744) (by decide +kernel) (by decide +kernel)
theorem k_745 : Cond.fieldLink "ReadSideModel" 204 "ReadSideModel" "reads" "I" ∈ x_W := x_inW (i := 745) (by decide +kernel) (by decide +kernel)
theorem k_746 : Cond.fieldLink "ReadSideModel" 78 "ReadSideModel" "state" "[I" ∈ x_W := x_inW (i := 746) (by decide +kernel) (by decide +kernel)
theorem k_747 : Cond.fieldLink "ReadSideModel" 81 "ReadSideModel" "session" "[I" ∈ x_W := x_inW (i := 747) (by decide +kernel) (by decide +kernel)
theorem k_748 : Cond.fieldLink "ReadSideModel" 84 "ReadSideModel" "needed" "[I" ∈ x_W := x_inW (i := 748) (by decide +kernel) (by decide +kernel)
theorem k_749 : Cond.fieldLink "ReadSideModel" 87 "ReadSideModel" "stale" "[I" ∈ x_W := x_inW (i := 749) (by decide +kernel) (by decide +kernel)
theorem k_750 : Cond.fieldLink "ReadSideModel" 90 "ReadSideModel" "patience" "[I" ∈ x_W := x_inW (i := 750) (by decide +kernel) (by decide +kernel)
theorem k_751 : Cond.fieldLink "ReadSideModel" 93 "ReadSideModel" "asked" "[I" ∈ x_W := x_inW (i := 751) (by decide +kernel) (by decide +kernel)
theorem k_752 : Cond.fieldLink "ReadSideModel" 96 "ReadSideModel" "question" "[I" ∈ x_W := x_inW (i := 752) (by decide +kernel) (by decide +kernel)
theorem k_753 : Cond.fieldLink "ReadSideModel" 99 "ReadSideModel" "about" "[I" ∈ x_W := x_inW (i := 753) (by decide +kernel) (by decide +kernel)
theorem k_754 : Cond.fieldLink "ReadSideModel" 102 "ReadSideModel" "by" "[I" ∈ x_W := x_inW (i := 754) (by decide +kernel) (by decide +kernel)
theorem k_755 : Cond.fieldLink "ReadSideModel" 105 "ReadSideModel" "answer" "[J" ∈ x_W := x_inW (i := 755) (by decide +kernel) (by decide +kernel)
theorem k_756 : Cond.fieldLink "ReadSideModel" 108 "ReadSideModel" "vector" "[J" ∈ x_W := x_inW (i := 756) (by decide +kernel) (by decide +kernel)
theorem k_757 : Cond.fieldLink "ReadSideModel" 111 "ReadSideModel" "ended" "[I" ∈ x_W := x_inW (i := 757) (by decide +kernel) (by decide +kernel)
theorem k_837 : Cond.arrayClass .boolean ∈ x_W := x_inW (i := 837) (by decide +kernel) (by decide +kernel)
theorem k_838 : Cond.methodLink "ReadSideLaw" 97 ⟨"ReadSideModel", "thrown", "()I"⟩ ∈ x_W := x_inW (i := 838) (by decide +kernel) (by decide +kernel)
theorem k_839 : Cond.instanceMethod ⟨"ReadSideModel", "thrown", "()I"⟩ ∈ x_W := x_inW (i := 839) (by decide +kernel) (by decide +kernel)
theorem k_840 : Cond.selects "ReadSideModel" ⟨"ReadSideModel", "thrown", "()I"⟩ ⟨"ReadSideModel", "thrown", "()I"⟩ ∈ x_W := x_inW (i := 840) (by decide +kernel) (by decide +kernel)
theorem k_841 : Cond.code ⟨"ReadSideModel", "thrown", "()I"⟩ prog_11_method_4_code 1 (some .int) ∈ x_W := x_inW (i := 841) (by decide +kernel) (by decide +kernel)
theorem k_842 : Cond.methodLink "ReadSideLaw" 96 ⟨"ReadSideModel", "mode", "(II)I"⟩ ∈ x_W := x_inW (i := 842) (by decide +kernel) (by decide +kernel)
theorem k_843 : Cond.instanceMethod ⟨"ReadSideModel", "mode", "(II)I"⟩ ∈ x_W := x_inW (i := 843) (by decide +kernel) (by decide +kernel)
theorem k_844 : Cond.selects "ReadSideModel" ⟨"ReadSideModel", "mode", "(II)I"⟩ ⟨"ReadSideModel", "mode", "(II)I"⟩ ∈ x_W := x_inW (i := 844) (by decide +kernel) (by decide +kernel)
theorem k_845 : Cond.code ⟨"ReadSideModel", "mode", "(II)I"⟩ prog_11_method_13_code 5 (some .int) ∈ x_W := x_inW (i := 845) (by decide +kernel) (by decide +kernel)
theorem k_846 : Cond.methodLink "ReadSideModel" 152 ⟨"ReadSideModel", "isSession", "(I)Z"⟩ ∈ x_W := x_inW (i := 846) (by decide +kernel) (by decide +kernel)
theorem k_847 : Cond.static ⟨"ReadSideModel", "isSession", "(I)Z"⟩ ∈ x_W := x_inW (i := 847) (by decide +kernel) (by decide +kernel)
theorem k_848 : Cond.code ⟨"ReadSideModel", "isSession", "(I)Z"⟩ prog_11_method_10_code 1 (some .boolean) ∈ x_W := x_inW (i := 848) (by decide +kernel) (by decide +kernel)
theorem k_849 : Cond.constantLong "ReadSideModel" 146 7 ∈ x_W := x_inW (i := 849) (by decide +kernel) (by decide +kernel)
theorem k_850 : Cond.methodLink "ReadSideModel" 148 ⟨"ReadSideModel", "in", "(JJJ)Z"⟩ ∈ x_W := x_inW (i := 850) (by decide +kernel) (by decide +kernel)
theorem k_851 : Cond.static ⟨"ReadSideModel", "in", "(JJJ)Z"⟩ ∈ x_W := x_inW (i := 851) (by decide +kernel) (by decide +kernel)
theorem k_852 : Cond.code ⟨"ReadSideModel", "in", "(JJJ)Z"⟩ prog_11_method_5_code 6 (some .boolean) ∈ x_W := x_inW (i := 852) (by decide +kernel) (by decide +kernel)
theorem k_853 : Cond.constantLong "ReadSideModel" 156 15 ∈ x_W := x_inW (i := 853) (by decide +kernel) (by decide +kernel)
theorem k_854 : Cond.methodLink "ReadSideModel" 158 ⟨"ReadSideModel", "look", "(I)V"⟩ ∈ x_W := x_inW (i := 854) (by decide +kernel) (by decide +kernel)
theorem k_856 : Cond.instanceMethod ⟨"ReadSideModel", "look", "(I)V"⟩ ∈ x_W := x_inW (i := 856) (by decide +kernel) (by decide +kernel)
theorem k_857 : Cond.code ⟨"ReadSideModel", "look", "(I)V"⟩ prog_11_method_35_code 3 none ∈ x_W := x_inW (i := 857) (by decide +kernel) (by decide +kernel)
theorem k_858 : Cond.methodLink "ReadSideModel" 231 ⟨"ReadSideModel", "may", "(II)Z"⟩ ∈ x_W := x_inW (i := 858) (by decide +kernel) (by decide +kernel)
theorem k_860 : Cond.instanceMethod ⟨"ReadSideModel", "may", "(II)Z"⟩ ∈ x_W := x_inW (i := 860) (by decide +kernel) (by decide +kernel)
theorem k_861 : Cond.code ⟨"ReadSideModel", "may", "(II)Z"⟩ prog_11_method_33_code 6 (some .boolean) ∈ x_W := x_inW (i := 861) (by decide +kernel) (by decide +kernel)
theorem k_862 : Cond.methodLink "ReadSideModel" 185 ⟨"ReadSideModel", "covers", "([III)Z"⟩ ∈ x_W := x_inW (i := 862) (by decide +kernel) (by decide +kernel)
theorem k_864 : Cond.instanceMethod ⟨"ReadSideModel", "covers", "([III)Z"⟩ ∈ x_W := x_inW (i := 864) (by decide +kernel) (by decide +kernel)
theorem k_865 : Cond.code ⟨"ReadSideModel", "covers", "([III)Z"⟩ prog_11_method_17_code 6 (some .boolean) ∈ x_W := x_inW (i := 865) (by decide +kernel) (by decide +kernel)
theorem k_866 : Cond.methodLink "ReadSideModel" 235 ⟨"ReadSideModel", "answer", "(II)V"⟩ ∈ x_W := x_inW (i := 866) (by decide +kernel) (by decide +kernel)
theorem k_868 : Cond.instanceMethod ⟨"ReadSideModel", "answer", "(II)V"⟩ ∈ x_W := x_inW (i := 868) (by decide +kernel) (by decide +kernel)
theorem k_869 : Cond.code ⟨"ReadSideModel", "answer", "(II)V"⟩ prog_11_method_34_code 4 none ∈ x_W := x_inW (i := 869) (by decide +kernel) (by decide +kernel)
theorem k_870 : Cond.methodLink "ReadSideModel" 228 ⟨"ReadSideModel", "tell", "(III)J"⟩ ∈ x_W := x_inW (i := 870) (by decide +kernel) (by decide +kernel)
theorem k_872 : Cond.instanceMethod ⟨"ReadSideModel", "tell", "(III)J"⟩ ∈ x_W := x_inW (i := 872) (by decide +kernel) (by decide +kernel)
theorem k_873 : Cond.code ⟨"ReadSideModel", "tell", "(III)J"⟩ prog_11_method_31_code 9 (some .long) ∈ x_W := x_inW (i := 873) (by decide +kernel) (by decide +kernel)
theorem k_874 : Cond.methodLink "ReadSideModel" 225 ⟨"ReadSideModel", "ranked", "(II)I"⟩ ∈ x_W := x_inW (i := 874) (by decide +kernel) (by decide +kernel)
theorem k_876 : Cond.instanceMethod ⟨"ReadSideModel", "ranked", "(II)I"⟩ ∈ x_W := x_inW (i := 876) (by decide +kernel) (by decide +kernel)
theorem k_877 : Cond.code ⟨"ReadSideModel", "ranked", "(II)I"⟩ prog_11_method_32_code 8 (some .int) ∈ x_W := x_inW (i := 877) (by decide +kernel) (by decide +kernel)
theorem k_878 : Cond.methodLink "ReadSideModel" 177 ⟨"ReadSideModel", "tokenOf", "(III)J"⟩ ∈ x_W := x_inW (i := 878) (by decide +kernel) (by decide +kernel)
theorem k_879 : Cond.static ⟨"ReadSideModel", "tokenOf", "(III)J"⟩ ∈ x_W := x_inW (i := 879) (by decide +kernel) (by decide +kernel)
theorem k_880 : Cond.code ⟨"ReadSideModel", "tokenOf", "(III)J"⟩ prog_11_method_7_code 5 (some .long) ∈ x_W := x_inW (i := 880) (by decide +kernel) (by decide +kernel)
theorem k_881 : Cond.constantLong "ReadSideModel" 126 512 ∈ x_W := x_inW (i := 881) (by decide +kernel) (by decide +kernel)
theorem k_882 : Cond.constantLong "ReadSideModel" 128 262144 ∈ x_W := x_inW (i := 882) (by decide +kernel) (by decide +kernel)
theorem k_883 : Cond.constantLong "ReadSideModel" 130 1048576 ∈ x_W := x_inW (i := 883) (by decide +kernel) (by decide +kernel)
theorem k_884 : Cond.methodLink "ReadSideModel" 132 ⟨"ReadSideModel", "check", "(J)J"⟩ ∈ x_W := x_inW (i := 884) (by decide +kernel) (by decide +kernel)
theorem k_885 : Cond.static ⟨"ReadSideModel", "check", "(J)J"⟩ ∈ x_W := x_inW (i := 885) (by decide +kernel) (by decide +kernel)
theorem k_886 : Cond.code ⟨"ReadSideModel", "check", "(J)J"⟩ prog_11_method_6_code 2 (some .long) ∈ x_W := x_inW (i := 886) (by decide +kernel) (by decide +kernel)
theorem k_887 : Cond.constantLong "ReadSideModel" 124 (-7046029254386353131) ∈ x_W := x_inW (i := 887) (by decide +kernel) (by decide +kernel)
theorem k_888 : Cond.methodLink "ReadSideModel" 173 ⟨"ReadSideModel", "greater", "(II)I"⟩ ∈ x_W := x_inW (i := 888) (by decide +kernel) (by decide +kernel)
theorem k_889 : Cond.static ⟨"ReadSideModel", "greater", "(II)I"⟩ ∈ x_W := x_inW (i := 889) (by decide +kernel) (by decide +kernel)
theorem k_890 : Cond.code ⟨"ReadSideModel", "greater", "(II)I"⟩ prog_11_method_3_code 2 (some .int) ∈ x_W := x_inW (i := 890) (by decide +kernel) (by decide +kernel)
theorem k_891 : Cond.methodLink "ReadSideLaw" 103 ⟨"ReadSideModel", "home", "(II)I"⟩ ∈ x_W := x_inW (i := 891) (by decide +kernel) (by decide +kernel)
theorem k_892 : Cond.instanceMethod ⟨"ReadSideModel", "home", "(II)I"⟩ ∈ x_W := x_inW (i := 892) (by decide +kernel) (by decide +kernel)
theorem k_893 : Cond.selects "ReadSideModel" ⟨"ReadSideModel", "home", "(II)I"⟩ ⟨"ReadSideModel", "home", "(II)I"⟩ ∈ x_W := x_inW (i := 893) (by decide +kernel) (by decide +kernel)
theorem k_894 : Cond.code ⟨"ReadSideModel", "home", "(II)I"⟩ prog_11_method_14_code 4 (some .int) ∈ x_W := x_inW (i := 894) (by decide +kernel) (by decide +kernel)
theorem k_895 : Cond.methodLink "ReadSideModel" 162 ⟨"ReadSideModel", "isReplica", "(I)Z"⟩ ∈ x_W := x_inW (i := 895) (by decide +kernel) (by decide +kernel)
theorem k_897 : Cond.instanceMethod ⟨"ReadSideModel", "isReplica", "(I)Z"⟩ ∈ x_W := x_inW (i := 897) (by decide +kernel) (by decide +kernel)
theorem k_898 : Cond.code ⟨"ReadSideModel", "isReplica", "(I)Z"⟩ prog_11_method_11_code 2 (some .boolean) ∈ x_W := x_inW (i := 898) (by decide +kernel) (by decide +kernel)
theorem k_899 : Cond.methodLink "ReadSideLaw" 107 ⟨"ReadSideModel", "command", "(IIIII)J"⟩ ∈ x_W := x_inW (i := 899) (by decide +kernel) (by decide +kernel)
theorem k_900 : Cond.instanceMethod ⟨"ReadSideModel", "command", "(IIIII)J"⟩ ∈ x_W := x_inW (i := 900) (by decide +kernel) (by decide +kernel)
theorem k_901 : Cond.selects "ReadSideModel" ⟨"ReadSideModel", "command", "(IIIII)J"⟩ ⟨"ReadSideModel", "command", "(IIIII)J"⟩ ∈ x_W := x_inW (i := 901) (by decide +kernel) (by decide +kernel)
theorem k_902 : Cond.code ⟨"ReadSideModel", "command", "(IIIII)J"⟩ prog_11_method_15_code 11 (some .long) ∈ x_W := x_inW (i := 902) (by decide +kernel) (by decide +kernel)
theorem k_903 : Cond.constantLong "ReadSideModel" 165 29 ∈ x_W := x_inW (i := 903) (by decide +kernel) (by decide +kernel)
theorem k_904 : Cond.constantLong "ReadSideModel" 167 9 ∈ x_W := x_inW (i := 904) (by decide +kernel) (by decide +kernel)
theorem k_905 : Cond.constantLong "ReadSideModel" 169 4 ∈ x_W := x_inW (i := 905) (by decide +kernel) (by decide +kernel)
theorem k_906 : Cond.constantLong "ReadSideModel" 171 1000 ∈ x_W := x_inW (i := 906) (by decide +kernel) (by decide +kernel)
theorem k_907 : Cond.methodLink "ReadSideLaw" 110 ⟨"ReadSideModel", "step", "(II)I"⟩ ∈ x_W := x_inW (i := 907) (by decide +kernel) (by decide +kernel)
theorem k_908 : Cond.instanceMethod ⟨"ReadSideModel", "step", "(II)I"⟩ ∈ x_W := x_inW (i := 908) (by decide +kernel) (by decide +kernel)
theorem k_909 : Cond.selects "ReadSideModel" ⟨"ReadSideModel", "step", "(II)I"⟩ ⟨"ReadSideModel", "step", "(II)I"⟩ ∈ x_W := x_inW (i := 909) (by decide +kernel) (by decide +kernel)
theorem k_910 : Cond.code ⟨"ReadSideModel", "step", "(II)I"⟩ prog_11_method_19_code 3 (some .int) ∈ x_W := x_inW (i := 910) (by decide +kernel) (by decide +kernel)
theorem k_911 : Cond.methodLink "ReadSideModel" 193 ⟨"ReadSideModel", "isPart", "(I)Z"⟩ ∈ x_W := x_inW (i := 911) (by decide +kernel) (by decide +kernel)
theorem k_913 : Cond.instanceMethod ⟨"ReadSideModel", "isPart", "(I)Z"⟩ ∈ x_W := x_inW (i := 913) (by decide +kernel) (by decide +kernel)
theorem k_914 : Cond.code ⟨"ReadSideModel", "isPart", "(I)Z"⟩ prog_11_method_12_code 2 (some .boolean) ∈ x_W := x_inW (i := 914) (by decide +kernel) (by decide +kernel)
theorem k_915 : Cond.methodLink "ReadSideModel" 196 ⟨"ReadSideModel", "advance", "(II)I"⟩ ∈ x_W := x_inW (i := 915) (by decide +kernel) (by decide +kernel)
theorem k_917 : Cond.instanceMethod ⟨"ReadSideModel", "advance", "(II)I"⟩ ∈ x_W := x_inW (i := 917) (by decide +kernel) (by decide +kernel)
theorem k_918 : Cond.code ⟨"ReadSideModel", "advance", "(II)I"⟩ prog_11_method_18_code 4 (some .int) ∈ x_W := x_inW (i := 918) (by decide +kernel) (by decide +kernel)
theorem k_919 : Cond.methodLink "ReadSideModel" 189 ⟨"ReadSideModel", "take", "(II)V"⟩ ∈ x_W := x_inW (i := 919) (by decide +kernel) (by decide +kernel)
theorem k_921 : Cond.instanceMethod ⟨"ReadSideModel", "take", "(II)V"⟩ ∈ x_W := x_inW (i := 921) (by decide +kernel) (by decide +kernel)
theorem k_922 : Cond.code ⟨"ReadSideModel", "take", "(II)V"⟩ prog_11_method_16_code 8 none ∈ x_W := x_inW (i := 922) (by decide +kernel) (by decide +kernel)
theorem k_923 : Cond.constant "ReadSideModel" 181 100000 ∈ x_W := x_inW (i := 923) (by decide +kernel) (by decide +kernel)
theorem k_924 : Cond.methodLink "ReadSideModel" 182 ⟨"ReadSideModel", "lesser", "(II)I"⟩ ∈ x_W := x_inW (i := 924) (by decide +kernel) (by decide +kernel)
theorem k_925 : Cond.static ⟨"ReadSideModel", "lesser", "(II)I"⟩ ∈ x_W := x_inW (i := 925) (by decide +kernel) (by decide +kernel)
theorem k_926 : Cond.code ⟨"ReadSideModel", "lesser", "(II)I"⟩ prog_11_method_2_code 2 (some .int) ∈ x_W := x_inW (i := 926) (by decide +kernel) (by decide +kernel)
theorem k_927 : Cond.methodLink "ReadSideLaw" 113 ⟨"ReadSideModel", "speed", "(II)I"⟩ ∈ x_W := x_inW (i := 927) (by decide +kernel) (by decide +kernel)
theorem k_928 : Cond.instanceMethod ⟨"ReadSideModel", "speed", "(II)I"⟩ ∈ x_W := x_inW (i := 928) (by decide +kernel) (by decide +kernel)
theorem k_929 : Cond.selects "ReadSideModel" ⟨"ReadSideModel", "speed", "(II)I"⟩ ⟨"ReadSideModel", "speed", "(II)I"⟩ ∈ x_W := x_inW (i := 929) (by decide +kernel) (by decide +kernel)
theorem k_930 : Cond.code ⟨"ReadSideModel", "speed", "(II)I"⟩ prog_11_method_20_code 4 (some .int) ∈ x_W := x_inW (i := 930) (by decide +kernel) (by decide +kernel)
theorem k_931 : Cond.constantLong "ReadSideModel" 199 10 ∈ x_W := x_inW (i := 931) (by decide +kernel) (by decide +kernel)
theorem k_932 : Cond.methodLink "ReadSideLaw" 117 ⟨"ReadSideModel", "ticks", "(I)I"⟩ ∈ x_W := x_inW (i := 932) (by decide +kernel) (by decide +kernel)
theorem k_933 : Cond.instanceMethod ⟨"ReadSideModel", "ticks", "(I)I"⟩ ∈ x_W := x_inW (i := 933) (by decide +kernel) (by decide +kernel)
theorem k_934 : Cond.selects "ReadSideModel" ⟨"ReadSideModel", "ticks", "(I)I"⟩ ⟨"ReadSideModel", "ticks", "(I)I"⟩ ∈ x_W := x_inW (i := 934) (by decide +kernel) (by decide +kernel)
theorem k_935 : Cond.code ⟨"ReadSideModel", "ticks", "(I)I"⟩ prog_11_method_23_code 4 (some .int) ∈ x_W := x_inW (i := 935) (by decide +kernel) (by decide +kernel)
theorem k_936 : Cond.constantLong "ReadSideModel" 210 100 ∈ x_W := x_inW (i := 936) (by decide +kernel) (by decide +kernel)
theorem k_937 : Cond.methodLink "ReadSideModel" 212 ⟨"ReadSideModel", "tick", "()I"⟩ ∈ x_W := x_inW (i := 937) (by decide +kernel) (by decide +kernel)
theorem k_939 : Cond.instanceMethod ⟨"ReadSideModel", "tick", "()I"⟩ ∈ x_W := x_inW (i := 939) (by decide +kernel) (by decide +kernel)
theorem k_940 : Cond.code ⟨"ReadSideModel", "tick", "()I"⟩ prog_11_method_21_code 6 (some .int) ∈ x_W := x_inW (i := 940) (by decide +kernel) (by decide +kernel)
theorem k_941 : Cond.methodLink "ReadSideModel" 207 ⟨"ReadSideModel", "fail", "(I)V"⟩ ∈ x_W := x_inW (i := 941) (by decide +kernel) (by decide +kernel)
theorem k_943 : Cond.instanceMethod ⟨"ReadSideModel", "fail", "(I)V"⟩ ∈ x_W := x_inW (i := 943) (by decide +kernel) (by decide +kernel)
theorem k_944 : Cond.code ⟨"ReadSideModel", "fail", "(I)V"⟩ prog_11_method_22_code 2 none ∈ x_W := x_inW (i := 944) (by decide +kernel) (by decide +kernel)
theorem k_945 : Cond.methodLink "ReadSideLaw" 121 ⟨"ReadSideModel", "up", "(IZ)Z"⟩ ∈ x_W := x_inW (i := 945) (by decide +kernel) (by decide +kernel)
theorem k_946 : Cond.instanceMethod ⟨"ReadSideModel", "up", "(IZ)Z"⟩ ∈ x_W := x_inW (i := 946) (by decide +kernel) (by decide +kernel)
theorem k_947 : Cond.selects "ReadSideModel" ⟨"ReadSideModel", "up", "(IZ)Z"⟩ ⟨"ReadSideModel", "up", "(IZ)Z"⟩ ∈ x_W := x_inW (i := 947) (by decide +kernel) (by decide +kernel)
theorem k_948 : Cond.code ⟨"ReadSideModel", "up", "(IZ)Z"⟩ prog_11_method_24_code 4 (some .boolean) ∈ x_W := x_inW (i := 948) (by decide +kernel) (by decide +kernel)
theorem k_949 : Cond.methodLink "ReadSideLaw" 124 ⟨"ReadSideModel", "snapshot", "(I)I"⟩ ∈ x_W := x_inW (i := 949) (by decide +kernel) (by decide +kernel)
theorem k_950 : Cond.instanceMethod ⟨"ReadSideModel", "snapshot", "(I)I"⟩ ∈ x_W := x_inW (i := 950) (by decide +kernel) (by decide +kernel)
theorem k_951 : Cond.selects "ReadSideModel" ⟨"ReadSideModel", "snapshot", "(I)I"⟩ ⟨"ReadSideModel", "snapshot", "(I)I"⟩ ∈ x_W := x_inW (i := 951) (by decide +kernel) (by decide +kernel)
theorem k_952 : Cond.code ⟨"ReadSideModel", "snapshot", "(I)I"⟩ prog_11_method_27_code 2 (some .int) ∈ x_W := x_inW (i := 952) (by decide +kernel) (by decide +kernel)
theorem k_953 : Cond.methodLink "ReadSideModel" 216 ⟨"ReadSideModel", "copy", "(II)V"⟩ ∈ x_W := x_inW (i := 953) (by decide +kernel) (by decide +kernel)
theorem k_955 : Cond.instanceMethod ⟨"ReadSideModel", "copy", "(II)V"⟩ ∈ x_W := x_inW (i := 955) (by decide +kernel) (by decide +kernel)
theorem k_956 : Cond.code ⟨"ReadSideModel", "copy", "(II)V"⟩ prog_11_method_25_code 4 none ∈ x_W := x_inW (i := 956) (by decide +kernel) (by decide +kernel)
theorem k_957 : Cond.methodLink "ReadSideModel" 219 ⟨"ReadSideModel", "sum", "(I)I"⟩ ∈ x_W := x_inW (i := 957) (by decide +kernel) (by decide +kernel)
theorem k_959 : Cond.instanceMethod ⟨"ReadSideModel", "sum", "(I)I"⟩ ∈ x_W := x_inW (i := 959) (by decide +kernel) (by decide +kernel)
theorem k_960 : Cond.code ⟨"ReadSideModel", "sum", "(I)I"⟩ prog_11_method_26_code 2 (some .int) ∈ x_W := x_inW (i := 960) (by decide +kernel) (by decide +kernel)
theorem k_961 : Cond.methodLink "ReadSideLaw" 127 ⟨"ReadSideModel", "crash", "(I)I"⟩ ∈ x_W := x_inW (i := 961) (by decide +kernel) (by decide +kernel)
theorem k_962 : Cond.instanceMethod ⟨"ReadSideModel", "crash", "(I)I"⟩ ∈ x_W := x_inW (i := 962) (by decide +kernel) (by decide +kernel)
theorem k_963 : Cond.selects "ReadSideModel" ⟨"ReadSideModel", "crash", "(I)I"⟩ ⟨"ReadSideModel", "crash", "(I)I"⟩ ∈ x_W := x_inW (i := 963) (by decide +kernel) (by decide +kernel)
theorem k_964 : Cond.code ⟨"ReadSideModel", "crash", "(I)I"⟩ prog_11_method_28_code 3 (some .int) ∈ x_W := x_inW (i := 964) (by decide +kernel) (by decide +kernel)
theorem k_965 : Cond.methodLink "ReadSideLaw" 131 ⟨"ReadSideModel", "trim", "()I"⟩ ∈ x_W := x_inW (i := 965) (by decide +kernel) (by decide +kernel)
theorem k_966 : Cond.instanceMethod ⟨"ReadSideModel", "trim", "()I"⟩ ∈ x_W := x_inW (i := 966) (by decide +kernel) (by decide +kernel)
theorem k_967 : Cond.selects "ReadSideModel" ⟨"ReadSideModel", "trim", "()I"⟩ ⟨"ReadSideModel", "trim", "()I"⟩ ∈ x_W := x_inW (i := 967) (by decide +kernel) (by decide +kernel)
theorem k_968 : Cond.code ⟨"ReadSideModel", "trim", "()I"⟩ prog_11_method_29_code 5 (some .int) ∈ x_W := x_inW (i := 968) (by decide +kernel) (by decide +kernel)
theorem k_969 : Cond.methodLink "ReadSideLaw" 137 ⟨"ReadSideModel", "ask", "(IJIIII)I"⟩ ∈ x_W := x_inW (i := 969) (by decide +kernel) (by decide +kernel)
theorem k_970 : Cond.instanceMethod ⟨"ReadSideModel", "ask", "(IJIIII)I"⟩ ∈ x_W := x_inW (i := 970) (by decide +kernel) (by decide +kernel)
theorem k_971 : Cond.selects "ReadSideModel" ⟨"ReadSideModel", "ask", "(IJIIII)I"⟩ ⟨"ReadSideModel", "ask", "(IJIIII)I"⟩ ∈ x_W := x_inW (i := 971) (by decide +kernel) (by decide +kernel)
theorem k_972 : Cond.code ⟨"ReadSideModel", "ask", "(IJIIII)I"⟩ prog_11_method_37_code 11 (some .int) ∈ x_W := x_inW (i := 972) (by decide +kernel) (by decide +kernel)
theorem k_973 : Cond.methodLink "ReadSideModel" 237 ⟨"ReadSideModel", "isToken", "(J)Z"⟩ ∈ x_W := x_inW (i := 973) (by decide +kernel) (by decide +kernel)
theorem k_975 : Cond.instanceMethod ⟨"ReadSideModel", "isToken", "(J)Z"⟩ ∈ x_W := x_inW (i := 975) (by decide +kernel) (by decide +kernel)
theorem k_976 : Cond.code ⟨"ReadSideModel", "isToken", "(J)Z"⟩ prog_11_method_9_code 7 (some .boolean) ∈ x_W := x_inW (i := 976) (by decide +kernel) (by decide +kernel)
theorem k_977 : Cond.constantLong "ReadSideModel" 138 134217728 ∈ x_W := x_inW (i := 977) (by decide +kernel) (by decide +kernel)
theorem k_978 : Cond.constantLong "ReadSideModel" 140 1048575 ∈ x_W := x_inW (i := 978) (by decide +kernel) (by decide +kernel)
theorem k_979 : Cond.methodLink "ReadSideModel" 142 ⟨"ReadSideModel", "position", "(JI)I"⟩ ∈ x_W := x_inW (i := 979) (by decide +kernel) (by decide +kernel)
theorem k_980 : Cond.static ⟨"ReadSideModel", "position", "(JI)I"⟩ ∈ x_W := x_inW (i := 980) (by decide +kernel) (by decide +kernel)
theorem k_981 : Cond.code ⟨"ReadSideModel", "position", "(JI)I"⟩ prog_11_method_8_code 3 (some .int) ∈ x_W := x_inW (i := 981) (by decide +kernel) (by decide +kernel)
theorem k_982 : Cond.constantLong "ReadSideModel" 136 511 ∈ x_W := x_inW (i := 982) (by decide +kernel) (by decide +kernel)
theorem k_983 : Cond.constantLong "ReadSideModel" 223 (-1) ∈ x_W := x_inW (i := 983) (by decide +kernel) (by decide +kernel)
theorem k_984 : Cond.constantLong "ReadSideModel" 241 400 ∈ x_W := x_inW (i := 984) (by decide +kernel) (by decide +kernel)
theorem k_985 : Cond.methodLink "ReadSideModel" 243 ⟨"ReadSideModel", "isQuestion", "(II)Z"⟩ ∈ x_W := x_inW (i := 985) (by decide +kernel) (by decide +kernel)
theorem k_987 : Cond.instanceMethod ⟨"ReadSideModel", "isQuestion", "(II)Z"⟩ ∈ x_W := x_inW (i := 987) (by decide +kernel) (by decide +kernel)
theorem k_988 : Cond.code ⟨"ReadSideModel", "isQuestion", "(II)Z"⟩ prog_11_method_30_code 3 (some .boolean) ∈ x_W := x_inW (i := 988) (by decide +kernel) (by decide +kernel)
theorem k_989 : Cond.methodLink "ReadSideModel" 246 ⟨"ReadSideModel", "waiting", "()I"⟩ ∈ x_W := x_inW (i := 989) (by decide +kernel) (by decide +kernel)
theorem k_991 : Cond.instanceMethod ⟨"ReadSideModel", "waiting", "()I"⟩ ∈ x_W := x_inW (i := 991) (by decide +kernel) (by decide +kernel)
theorem k_992 : Cond.code ⟨"ReadSideModel", "waiting", "()I"⟩ prog_11_method_36_code 3 (some .int) ∈ x_W := x_inW (i := 992) (by decide +kernel) (by decide +kernel)
theorem k_993 : Cond.methodLink "ReadSideLaw" 140 ⟨"ReadSideModel", "read", "(II)J"⟩ ∈ x_W := x_inW (i := 993) (by decide +kernel) (by decide +kernel)
theorem k_994 : Cond.instanceMethod ⟨"ReadSideModel", "read", "(II)J"⟩ ∈ x_W := x_inW (i := 994) (by decide +kernel) (by decide +kernel)
theorem k_995 : Cond.selects "ReadSideModel" ⟨"ReadSideModel", "read", "(II)J"⟩ ⟨"ReadSideModel", "read", "(II)J"⟩ ∈ x_W := x_inW (i := 995) (by decide +kernel) (by decide +kernel)
theorem k_996 : Cond.code ⟨"ReadSideModel", "read", "(II)J"⟩ prog_11_method_38_code 3 (some .long) ∈ x_W := x_inW (i := 996) (by decide +kernel) (by decide +kernel)
theorem k_997 : Cond.constantLong "ReadSideModel" 249 5 ∈ x_W := x_inW (i := 997) (by decide +kernel) (by decide +kernel)
theorem k_998 : Cond.methodLink "ReadSideLaw" 144 ⟨"ReadSideModel", "value", "(III)J"⟩ ∈ x_W := x_inW (i := 998) (by decide +kernel) (by decide +kernel)
theorem k_999 : Cond.instanceMethod ⟨"ReadSideModel", "value", "(III)J"⟩ ∈ x_W := x_inW (i := 999) (by decide +kernel) (by decide +kernel)
theorem k_1000 : Cond.selects "ReadSideModel" ⟨"ReadSideModel", "value", "(III)J"⟩ ⟨"ReadSideModel", "value", "(III)J"⟩ ∈ x_W := x_inW (i := 1000) (by decide +kernel) (by decide +kernel)
theorem k_1001 : Cond.code ⟨"ReadSideModel", "value", "(III)J"⟩ prog_11_method_39_code 4 (some .long) ∈ x_W := x_inW (i := 1001) (by decide +kernel) (by decide +kernel)
theorem k_1002 : Cond.methodLink "ReadSideLaw" 147 ⟨"ReadSideModel", "at", "(II)I"⟩ ∈ x_W := x_inW (i := 1002) (by decide +kernel) (by decide +kernel)
theorem k_1003 : Cond.instanceMethod ⟨"ReadSideModel", "at", "(II)I"⟩ ∈ x_W := x_inW (i := 1003) (by decide +kernel) (by decide +kernel)
theorem k_1004 : Cond.selects "ReadSideModel" ⟨"ReadSideModel", "at", "(II)I"⟩ ⟨"ReadSideModel", "at", "(II)I"⟩ ∈ x_W := x_inW (i := 1004) (by decide +kernel) (by decide +kernel)
theorem k_1005 : Cond.code ⟨"ReadSideModel", "at", "(II)I"⟩ prog_11_method_40_code 3 (some .int) ∈ x_W := x_inW (i := 1005) (by decide +kernel) (by decide +kernel)
theorem k_1006 : Cond.methodLink "ReadSideLaw" 150 ⟨"ReadSideModel", "kept", "(II)I"⟩ ∈ x_W := x_inW (i := 1006) (by decide +kernel) (by decide +kernel)
theorem k_1007 : Cond.instanceMethod ⟨"ReadSideModel", "kept", "(II)I"⟩ ∈ x_W := x_inW (i := 1007) (by decide +kernel) (by decide +kernel)
theorem k_1008 : Cond.selects "ReadSideModel" ⟨"ReadSideModel", "kept", "(II)I"⟩ ⟨"ReadSideModel", "kept", "(II)I"⟩ ∈ x_W := x_inW (i := 1008) (by decide +kernel) (by decide +kernel)
theorem k_1009 : Cond.code ⟨"ReadSideModel", "kept", "(II)I"⟩ prog_11_method_41_code 3 (some .int) ∈ x_W := x_inW (i := 1009) (by decide +kernel) (by decide +kernel)
theorem k_1010 : Cond.methodLink "ReadSideLaw" 153 ⟨"ReadSideModel", "log", "(II)I"⟩ ∈ x_W := x_inW (i := 1010) (by decide +kernel) (by decide +kernel)
theorem k_1011 : Cond.instanceMethod ⟨"ReadSideModel", "log", "(II)I"⟩ ∈ x_W := x_inW (i := 1011) (by decide +kernel) (by decide +kernel)
theorem k_1012 : Cond.selects "ReadSideModel" ⟨"ReadSideModel", "log", "(II)I"⟩ ⟨"ReadSideModel", "log", "(II)I"⟩ ∈ x_W := x_inW (i := 1012) (by decide +kernel) (by decide +kernel)
theorem k_1013 : Cond.code ⟨"ReadSideModel", "log", "(II)I"⟩ prog_11_method_42_code 3 (some .int) ∈ x_W := x_inW (i := 1013) (by decide +kernel) (by decide +kernel)
theorem k_1014 : Cond.methodLink "ReadSideLaw" 156 ⟨"ReadSideModel", "logged", "(III)I"⟩ ∈ x_W := x_inW (i := 1014) (by decide +kernel) (by decide +kernel)
theorem k_1015 : Cond.instanceMethod ⟨"ReadSideModel", "logged", "(III)I"⟩ ∈ x_W := x_inW (i := 1015) (by decide +kernel) (by decide +kernel)
theorem k_1016 : Cond.selects "ReadSideModel" ⟨"ReadSideModel", "logged", "(III)I"⟩ ⟨"ReadSideModel", "logged", "(III)I"⟩ ∈ x_W := x_inW (i := 1016) (by decide +kernel) (by decide +kernel)
theorem k_1017 : Cond.code ⟨"ReadSideModel", "logged", "(III)I"⟩ prog_11_method_43_code 5 (some .int) ∈ x_W := x_inW (i := 1017) (by decide +kernel) (by decide +kernel)
theorem k_1018 : Cond.constantLong "ReadSideModel" 251 6 ∈ x_W := x_inW (i := 1018) (by decide +kernel) (by decide +kernel)
theorem k_1019 : Cond.methodLink "ReadSideLaw" 159 ⟨"ReadSideModel", "session", "(III)I"⟩ ∈ x_W := x_inW (i := 1019) (by decide +kernel) (by decide +kernel)
theorem k_1020 : Cond.instanceMethod ⟨"ReadSideModel", "session", "(III)I"⟩ ∈ x_W := x_inW (i := 1020) (by decide +kernel) (by decide +kernel)
theorem k_1021 : Cond.selects "ReadSideModel" ⟨"ReadSideModel", "session", "(III)I"⟩ ⟨"ReadSideModel", "session", "(III)I"⟩ ∈ x_W := x_inW (i := 1021) (by decide +kernel) (by decide +kernel)
theorem k_1022 : Cond.code ⟨"ReadSideModel", "session", "(III)I"⟩ prog_11_method_44_code 4 (some .int) ∈ x_W := x_inW (i := 1022) (by decide +kernel) (by decide +kernel)
theorem k_1023 : Cond.methodLink "ReadSideLaw" 163 ⟨"ReadSideModel", "told", "(JI)I"⟩ ∈ x_W := x_inW (i := 1023) (by decide +kernel) (by decide +kernel)
theorem k_1024 : Cond.instanceMethod ⟨"ReadSideModel", "told", "(JI)I"⟩ ∈ x_W := x_inW (i := 1024) (by decide +kernel) (by decide +kernel)
theorem k_1025 : Cond.selects "ReadSideModel" ⟨"ReadSideModel", "told", "(JI)I"⟩ ⟨"ReadSideModel", "told", "(JI)I"⟩ ∈ x_W := x_inW (i := 1025) (by decide +kernel) (by decide +kernel)
theorem k_1026 : Cond.code ⟨"ReadSideModel", "told", "(JI)I"⟩ prog_11_method_45_code 4 (some .int) ∈ x_W := x_inW (i := 1026) (by decide +kernel) (by decide +kernel)
theorem k_1027 : Cond.methodLink "ReadSideLaw" 166 ⟨"ReadSideModel", "count", "(I)I"⟩ ∈ x_W := x_inW (i := 1027) (by decide +kernel) (by decide +kernel)
theorem k_1028 : Cond.instanceMethod ⟨"ReadSideModel", "count", "(I)I"⟩ ∈ x_W := x_inW (i := 1028) (by decide +kernel) (by decide +kernel)
theorem k_1029 : Cond.selects "ReadSideModel" ⟨"ReadSideModel", "count", "(I)I"⟩ ⟨"ReadSideModel", "count", "(I)I"⟩ ∈ x_W := x_inW (i := 1029) (by decide +kernel) (by decide +kernel)
theorem k_1030 : Cond.code ⟨"ReadSideModel", "count", "(I)I"⟩ prog_11_method_46_code 4 (some .int) ∈ x_W := x_inW (i := 1030) (by decide +kernel) (by decide +kernel)
theorem k_1031 : Cond.constantLong "ReadSideLaw" 132 4294967295 ∈ x_W := x_inW (i := 1031) (by decide +kernel) (by decide +kernel)
theorem ks_1 : Cond.selects "ReadSide" ⟨"ReadSide", "sessionAt", "(I)LReadSide$Session;"⟩ ⟨"ReadSide", "sessionAt", "(I)LReadSide$Session;"⟩ ∈ x_W := x_inS (i := 1) (by decide +kernel) (by decide +kernel)
theorem ks_2 : Cond.selects "ReadSide" ⟨"ReadSide", "look", "(LReadSide$Replica;)V"⟩ ⟨"ReadSide", "look", "(LReadSide$Replica;)V"⟩ ∈ x_W := x_inS (i := 2) (by decide +kernel) (by decide +kernel)
theorem ks_3 : Cond.selects "ReadSide" ⟨"ReadSide", "may", "(LReadSide$Replica;LReadSide$Read;)Z"⟩ ⟨"ReadSide", "may", "(LReadSide$Replica;LReadSide$Read;)Z"⟩ ∈ x_W := x_inS (i := 3) (by decide +kernel) (by decide +kernel)
theorem ks_4 : Cond.selects "ReadSide" ⟨"ReadSide", "numberOf", "(LReadSide$Replica;)I"⟩ ⟨"ReadSide", "numberOf", "(LReadSide$Replica;)I"⟩ ∈ x_W := x_inS (i := 4) (by decide +kernel) (by decide +kernel)
theorem ks_5 : Cond.selects "ReadSide" ⟨"ReadSide", "answer", "(LReadSide$Read;I)V"⟩ ⟨"ReadSide", "answer", "(LReadSide$Read;I)V"⟩ ∈ x_W := x_inS (i := 5) (by decide +kernel) (by decide +kernel)
theorem ks_6 : Cond.selects "ReadSide$State" ⟨"ReadSide$State", "held", "(I)J"⟩ ⟨"ReadSide$State", "held", "(I)J"⟩ ∈ x_W := x_inS (i := 6) (by decide +kernel) (by decide +kernel)
theorem ks_7 : Cond.selects "ReadSide$State" ⟨"ReadSide$State", "ranked", "(I)I"⟩ ⟨"ReadSide$State", "ranked", "(I)I"⟩ ∈ x_W := x_inS (i := 7) (by decide +kernel) (by decide +kernel)
theorem ks_8 : Cond.selects "ReadSide$State" ⟨"ReadSide$State", "worth", "(II)J"⟩ ⟨"ReadSide$State", "worth", "(II)J"⟩ ∈ x_W := x_inS (i := 8) (by decide +kernel) (by decide +kernel)
theorem ks_9 : Cond.selects "ReadSide" ⟨"ReadSide", "leave", "(I)V"⟩ ⟨"ReadSide", "leave", "(I)V"⟩ ∈ x_W := x_inS (i := 9) (by decide +kernel) (by decide +kernel)
theorem ks_10 : Cond.selects "ReadSide" ⟨"ReadSide", "replicaAt", "(I)LReadSide$Replica;"⟩ ⟨"ReadSide", "replicaAt", "(I)LReadSide$Replica;"⟩ ∈ x_W := x_inS (i := 10) (by decide +kernel) (by decide +kernel)
theorem ks_11 : Cond.selects "ReadSide" ⟨"ReadSide", "advance", "(LReadSide$Replica;I)I"⟩ ⟨"ReadSide", "advance", "(LReadSide$Replica;I)I"⟩ ∈ x_W := x_inS (i := 11) (by decide +kernel) (by decide +kernel)
theorem ks_12 : Cond.selects "ReadSide" ⟨"ReadSide", "hurry", "(LReadSide$Replica;)I"⟩ ⟨"ReadSide", "hurry", "(LReadSide$Replica;)I"⟩ ∈ x_W := x_inS (i := 12) (by decide +kernel) (by decide +kernel)
theorem ks_13 : Cond.selects "ReadSide" ⟨"ReadSide", "fail", "(LReadSide$Read;)V"⟩ ⟨"ReadSide", "fail", "(LReadSide$Read;)V"⟩ ∈ x_W := x_inS (i := 13) (by decide +kernel) (by decide +kernel)
theorem ks_14 : Cond.selects "ReadSide" ⟨"ReadSide", "question", "(II)V"⟩ ⟨"ReadSide", "question", "(II)V"⟩ ∈ x_W := x_inS (i := 14) (by decide +kernel) (by decide +kernel)
theorem ks_15 : Cond.selects "ReadSide" ⟨"ReadSide", "vectorOf", "(J)LReadSide$Vector;"⟩ ⟨"ReadSide", "vectorOf", "(J)LReadSide$Vector;"⟩ ∈ x_W := x_inS (i := 15) (by decide +kernel) (by decide +kernel)
theorem ks_16 : Cond.selects "ReadSideModel" ⟨"ReadSideModel", "look", "(I)V"⟩ ⟨"ReadSideModel", "look", "(I)V"⟩ ∈ x_W := x_inS (i := 16) (by decide +kernel) (by decide +kernel)
theorem ks_17 : Cond.selects "ReadSideModel" ⟨"ReadSideModel", "may", "(II)Z"⟩ ⟨"ReadSideModel", "may", "(II)Z"⟩ ∈ x_W := x_inS (i := 17) (by decide +kernel) (by decide +kernel)
theorem ks_18 : Cond.selects "ReadSideModel" ⟨"ReadSideModel", "covers", "([III)Z"⟩ ⟨"ReadSideModel", "covers", "([III)Z"⟩ ∈ x_W := x_inS (i := 18) (by decide +kernel) (by decide +kernel)
theorem ks_19 : Cond.selects "ReadSideModel" ⟨"ReadSideModel", "answer", "(II)V"⟩ ⟨"ReadSideModel", "answer", "(II)V"⟩ ∈ x_W := x_inS (i := 19) (by decide +kernel) (by decide +kernel)
theorem ks_20 : Cond.selects "ReadSideModel" ⟨"ReadSideModel", "tell", "(III)J"⟩ ⟨"ReadSideModel", "tell", "(III)J"⟩ ∈ x_W := x_inS (i := 20) (by decide +kernel) (by decide +kernel)
theorem ks_21 : Cond.selects "ReadSideModel" ⟨"ReadSideModel", "ranked", "(II)I"⟩ ⟨"ReadSideModel", "ranked", "(II)I"⟩ ∈ x_W := x_inS (i := 21) (by decide +kernel) (by decide +kernel)
theorem ks_22 : Cond.selects "ReadSideModel" ⟨"ReadSideModel", "isReplica", "(I)Z"⟩ ⟨"ReadSideModel", "isReplica", "(I)Z"⟩ ∈ x_W := x_inS (i := 22) (by decide +kernel) (by decide +kernel)
theorem ks_23 : Cond.selects "ReadSideModel" ⟨"ReadSideModel", "isPart", "(I)Z"⟩ ⟨"ReadSideModel", "isPart", "(I)Z"⟩ ∈ x_W := x_inS (i := 23) (by decide +kernel) (by decide +kernel)
theorem ks_24 : Cond.selects "ReadSideModel" ⟨"ReadSideModel", "advance", "(II)I"⟩ ⟨"ReadSideModel", "advance", "(II)I"⟩ ∈ x_W := x_inS (i := 24) (by decide +kernel) (by decide +kernel)
theorem ks_25 : Cond.selects "ReadSideModel" ⟨"ReadSideModel", "take", "(II)V"⟩ ⟨"ReadSideModel", "take", "(II)V"⟩ ∈ x_W := x_inS (i := 25) (by decide +kernel) (by decide +kernel)
theorem ks_26 : Cond.selects "ReadSideModel" ⟨"ReadSideModel", "tick", "()I"⟩ ⟨"ReadSideModel", "tick", "()I"⟩ ∈ x_W := x_inS (i := 26) (by decide +kernel) (by decide +kernel)
theorem ks_27 : Cond.selects "ReadSideModel" ⟨"ReadSideModel", "fail", "(I)V"⟩ ⟨"ReadSideModel", "fail", "(I)V"⟩ ∈ x_W := x_inS (i := 27) (by decide +kernel) (by decide +kernel)
theorem ks_28 : Cond.selects "ReadSideModel" ⟨"ReadSideModel", "copy", "(II)V"⟩ ⟨"ReadSideModel", "copy", "(II)V"⟩ ∈ x_W := x_inS (i := 28) (by decide +kernel) (by decide +kernel)
theorem ks_29 : Cond.selects "ReadSideModel" ⟨"ReadSideModel", "sum", "(I)I"⟩ ⟨"ReadSideModel", "sum", "(I)I"⟩ ∈ x_W := x_inS (i := 29) (by decide +kernel) (by decide +kernel)
theorem ks_30 : Cond.selects "ReadSideModel" ⟨"ReadSideModel", "isToken", "(J)Z"⟩ ⟨"ReadSideModel", "isToken", "(J)Z"⟩ ∈ x_W := x_inS (i := 30) (by decide +kernel) (by decide +kernel)
theorem ks_31 : Cond.selects "ReadSideModel" ⟨"ReadSideModel", "isQuestion", "(II)Z"⟩ ⟨"ReadSideModel", "isQuestion", "(II)Z"⟩ ∈ x_W := x_inS (i := 31) (by decide +kernel) (by decide +kernel)
theorem ks_32 : Cond.selects "ReadSideModel" ⟨"ReadSideModel", "waiting", "()I"⟩ ⟨"ReadSideModel", "waiting", "()I"⟩ ∈ x_W := x_inS (i := 32) (by decide +kernel) (by decide +kernel)
theorem fl_RS_11 : x_fl R_RS 11 0 3 := ⟨_, _, _, rfl, by decide, i_RS, rfl, Or.inl k_172⟩
theorem nw_RS_9 : x_nw R_RS 9 6 4 z_Sess := ⟨_, _, _, t_Sess, rfl, i_Sess, t_Sess_ok, z_Sess_ok, k_29, k_146, k_7⟩
theorem kc_RS_51 : x_kI R_RS 51 y_Sess_init prog_7_method_1_code 1 0 := ⟨Or.inr ⟨_, k_147⟩, rfl, k_148, k_149, k_7, ⟨by decide +kernel, by decide +kernel, by decide +kernel⟩⟩
theorem oi_Sess_1 : Cond.methodLink R_Sess 1 objectInit ∈ x_W := k_150
theorem nw_Sess_7 : x_nw R_Sess 7 8 1 z_Vec := ⟨_, _, _, t_Vec, rfl, i_Vec, t_Vec_ok, z_Vec_ok, k_151, k_75, k_5⟩
theorem kc_Sess_9 : x_kI R_Sess 9 y_Vec_init prog_9_method_1_code 1 0 := ⟨Or.inr ⟨_, k_152⟩, rfl, k_77, k_78, k_5, ⟨by decide +kernel, by decide +kernel, by decide +kernel⟩⟩
theorem oi_Vec_1 : Cond.methodLink R_Vec 1 objectInit ∈ x_W := k_79
theorem fp_Vec_7 : x_fp R_Vec 7 8 0 (.array .int) true := ⟨_, _, _, t_Vec, rfl, by decide, i_Vec, rfl, t_Vec_ok, n_Vec, rfl, rfl, Or.inr ⟨rfl, rfl, k_80⟩⟩
theorem fp_Sess_10 : x_fp R_Sess 10 6 2 (.object "ReadSide$Vector") true := ⟨_, _, _, t_Sess, rfl, by decide, i_Sess, rfl, t_Sess_ok, n_Sess, rfl, rfl, Or.inr ⟨rfl, rfl, k_156⟩⟩
theorem fp_Sess_16 : x_fp R_Sess 16 6 3 (.object "ReadSide$Vector") true := ⟨_, _, _, t_Sess, rfl, by decide, i_Sess, rfl, t_Sess_ok, n_Sess, rfl, rfl, Or.inr ⟨rfl, rfl, k_158⟩⟩
theorem fl_RS_46 : x_fl R_RS 46 0 2 := ⟨_, _, _, rfl, by decide, i_RS, rfl, Or.inl k_171⟩
theorem nw_RS_44 : x_nw R_RS 44 5 5 z_Repl := ⟨_, _, _, t_Repl, rfl, i_Repl, t_Repl_ok, z_Repl_ok, k_59, k_61, k_3⟩
theorem kc_RS_50 : x_kI R_RS 50 y_Repl_init prog_6_method_1_code 1 0 := ⟨Or.inr ⟨_, k_62⟩, rfl, k_63, k_64, k_3, ⟨by decide +kernel, by decide +kernel, by decide +kernel⟩⟩
theorem oi_Repl_1 : Cond.methodLink R_Repl 1 objectInit ∈ x_W := k_65
theorem nw_Repl_7 : x_nw R_Repl 7 7 4 z_St := ⟨_, _, _, t_St, rfl, i_St, t_St_ok, z_St_ok, k_66, k_67, k_4⟩
theorem kc_Repl_9 : x_kI R_Repl 9 y_St_init prog_8_method_1_code 2 0 := ⟨Or.inl k_68, rfl, k_69, k_70, k_4, ⟨by decide +kernel, by decide +kernel, by decide +kernel⟩⟩
theorem fl_St_11 : x_fl R_St 11 7 0 := ⟨_, _, _, rfl, by decide, i_St, rfl, Or.inl k_113⟩
theorem nw_St_9 : x_nw R_St 9 2 5 z_Item := ⟨_, _, _, t_Item, rfl, i_Item, t_Item_ok, z_Item_ok, k_72, k_87, k_6⟩
theorem kc_St_32 : x_kI R_St 32 y_Item_init prog_3_method_1_code 1 0 := ⟨Or.inr ⟨_, k_88⟩, rfl, k_89, k_90, k_6, ⟨by decide +kernel, by decide +kernel, by decide +kernel⟩⟩
theorem oi_Item_3 : Cond.methodLink R_Item 3 objectInit ∈ x_W := k_91
theorem fp_Item_9 : x_fp R_Item 9 2 3 .int false := ⟨_, _, _, t_Item, rfl, by decide, i_Item, rfl, t_Item_ok, n_Item, rfl, rfl, Or.inl ⟨rfl, Or.inl k_98⟩⟩
theorem fp_Item_15 : x_fp R_Item 15 2 4 (.array .int) true := ⟨_, _, _, t_Item, rfl, by decide, i_Item, rfl, t_Item_ok, n_Item, rfl, rfl, Or.inr ⟨rfl, rfl, k_100⟩⟩
theorem oi_St_3 : Cond.methodLink R_St 3 objectInit ∈ x_W := k_71
theorem na_St_9 : x_na R_St 9 3 := ⟨_, rfl, by decide, by decide, k_72, k_73⟩
theorem fp_St_11 : x_fp R_St 11 7 0 (.array (.object "ReadSide$Item")) true := ⟨_, _, _, t_St, rfl, by decide, i_St, rfl, t_St_ok, n_St, rfl, rfl, Or.inr ⟨rfl, rfl, k_113⟩⟩
theorem fp_St_17 : x_fp R_St 17 7 1 (.array .long) true := ⟨_, _, _, t_St, rfl, by decide, i_St, rfl, t_St_ok, n_St, rfl, rfl, Or.inr ⟨rfl, rfl, k_114⟩⟩
theorem fp_St_21 : x_fp R_St 21 7 2 (.array .int) true := ⟨_, _, _, t_St, rfl, by decide, i_St, rfl, t_St_ok, n_St, rfl, rfl, Or.inr ⟨rfl, rfl, k_115⟩⟩
theorem nw_St_25 : x_nw R_St 25 8 1 z_Vec := ⟨_, _, _, t_Vec, rfl, i_Vec, t_Vec_ok, z_Vec_ok, k_74, k_75, k_5⟩
theorem kc_St_27 : x_kI R_St 27 y_Vec_init prog_9_method_1_code 1 0 := ⟨Or.inr ⟨_, k_76⟩, rfl, k_77, k_78, k_5, ⟨by decide +kernel, by decide +kernel, by decide +kernel⟩⟩
theorem fp_St_28 : x_fp R_St 28 7 3 (.object "ReadSide$Vector") true := ⟨_, _, _, t_St, rfl, by decide, i_St, rfl, t_St_ok, n_St, rfl, rfl, Or.inr ⟨rfl, rfl, k_116⟩⟩
theorem fp_Repl_10 : x_fp R_Repl 10 5 0 (.object "ReadSide$State") true := ⟨_, _, _, t_Repl, rfl, by decide, i_Repl, rfl, t_Repl_ok, n_Repl, rfl, rfl, Or.inr ⟨rfl, rfl, k_127⟩⟩
theorem fp_Repl_16 : x_fp R_Repl 16 5 1 (.object "ReadSide$State") true := ⟨_, _, _, t_Repl, rfl, by decide, i_Repl, rfl, t_Repl_ok, n_Repl, rfl, rfl, Or.inr ⟨rfl, rfl, k_129⟩⟩
theorem fp_Repl_19 : x_fp R_Repl 19 5 2 .boolean false := ⟨_, _, _, t_Repl, rfl, by decide, i_Repl, rfl, t_Repl_ok, n_Repl, rfl, rfl, Or.inl ⟨rfl, Or.inl k_131⟩⟩
theorem na_RS_44 : x_na R_RS 44 6 := ⟨_, rfl, by decide, by decide, k_59, k_60⟩
theorem fp_RS_46 : x_fp R_RS 46 0 2 (.array (.object "ReadSide$Replica")) true := ⟨_, _, _, t_RS, rfl, by decide, i_RS, rfl, t_RS_ok, n_RS, rfl, rfl, Or.inr ⟨rfl, rfl, k_171⟩⟩
theorem fl_RS_37 : x_fl R_RS 37 0 1 := ⟨_, _, _, rfl, by decide, i_RS, rfl, Or.inl k_170⟩
theorem kc_RS_27 : x_kS R_RS 27 y_RS_isIn prog_1_method_1_code 6 (some .boolean) [] 3 := ⟨k_34, k_35, k_36, k_1, ⟨by decide +kernel, by decide +kernel, by decide +kernel⟩⟩
theorem nw_RS_35 : x_nw R_RS 35 3 3 z_Log := ⟨_, _, _, t_Log, rfl, i_Log, t_Log_ok, z_Log_ok, k_37, k_39, k_2⟩
theorem kc_RS_41 : x_kI R_RS 41 y_Log_init prog_4_method_1_code 1 0 := ⟨Or.inr ⟨_, k_40⟩, rfl, k_41, k_42, k_2, ⟨by decide +kernel, by decide +kernel, by decide +kernel⟩⟩
theorem oi_Log_3 : Cond.methodLink R_Log 3 objectInit ∈ x_W := k_43
theorem na_Log_9 : x_na R_Log 9 4 := ⟨_, rfl, by decide, by decide, k_44, k_45⟩
theorem fp_Log_11 : x_fp R_Log 11 3 0 (.array (.object "ReadSide$Command")) true := ⟨_, _, _, t_Log, rfl, by decide, i_Log, rfl, t_Log_ok, n_Log, rfl, rfl, Or.inr ⟨rfl, rfl, k_46⟩⟩
theorem fp_RS_31 : x_fp R_RS 31 0 0 .int true := ⟨_, _, _, t_RS, rfl, by decide, i_RS, rfl, t_RS_ok, n_RS, rfl, rfl, Or.inr ⟨rfl, rfl, k_169⟩⟩
theorem fl_RS_31 : x_fl R_RS 31 0 0 := ⟨_, _, _, rfl, by decide, i_RS, rfl, Or.inl k_169⟩
theorem na_RS_35 : x_na R_RS 35 5 := ⟨_, rfl, by decide, by decide, k_37, k_38⟩
theorem fp_RS_37 : x_fp R_RS 37 0 1 (.array (.object "ReadSide$Log")) true := ⟨_, _, _, t_RS, rfl, by decide, i_RS, rfl, t_RS_ok, n_RS, rfl, rfl, Or.inr ⟨rfl, rfl, k_170⟩⟩
theorem oi_RS_1 : Cond.methodLink R_RS 1 objectInit ∈ x_W := k_26
theorem na_RS_9 : x_na R_RS 9 7 := ⟨_, rfl, by decide, by decide, k_29, k_30⟩
theorem fp_RS_11 : x_fp R_RS 11 0 3 (.array (.object "ReadSide$Session")) true := ⟨_, _, _, t_RS, rfl, by decide, i_RS, rfl, t_RS_ok, n_RS, rfl, rfl, Or.inr ⟨rfl, rfl, k_172⟩⟩
theorem na_RS_15 : x_na R_RS 15 8 := ⟨_, rfl, by decide, by decide, k_31, k_32⟩
theorem fp_RS_17 : x_fp R_RS 17 0 4 (.array (.object "ReadSide$Read")) true := ⟨_, _, _, t_RS, rfl, by decide, i_RS, rfl, t_RS_ok, n_RS, rfl, rfl, Or.inr ⟨rfl, rfl, k_173⟩⟩
theorem fp_RS_21 : x_fp R_RS 21 0 6 (.array .int) true := ⟨_, _, _, t_RS, rfl, by decide, i_RS, rfl, t_RS_ok, n_RS, rfl, rfl, Or.inr ⟨rfl, rfl, k_175⟩⟩
theorem fl_RS_225 : x_fl R_RS 225 3 2 := ⟨_, _, _, rfl, by decide, i_Log, rfl, Or.inr ⟨_, k_49⟩⟩
theorem fl_RS_122 : x_fl R_RS 122 3 0 := ⟨_, _, _, rfl, by decide, i_Log, rfl, Or.inr ⟨_, k_47⟩⟩
theorem fp_RS_225 : x_fp R_RS 225 3 2 .int false := ⟨_, _, _, t_Log, rfl, by decide, i_Log, rfl, t_Log_ok, n_Log, rfl, rfl, Or.inl ⟨rfl, Or.inr ⟨_, k_49⟩⟩⟩
theorem fl_RS_210 : x_fl R_RS 210 5 1 := ⟨_, _, _, rfl, by decide, i_Repl, rfl, Or.inr ⟨_, k_130⟩⟩
theorem fl_RS_154 : x_fl R_RS 154 7 3 := ⟨_, _, _, rfl, by decide, i_St, rfl, Or.inr ⟨_, k_117⟩⟩
theorem fl_RS_126 : x_fl R_RS 126 8 0 := ⟨_, _, _, rfl, by decide, i_Vec, rfl, Or.inr ⟨_, k_82⟩⟩
theorem kc_RS_220 : x_kS R_RS 220 y_Math_min prog_17_method_69_code 2 (some .int) [] 2 := ⟨k_207, k_208, k_209, k_16, ⟨by decide +kernel, by decide +kernel, by decide +kernel⟩⟩
theorem kc_law_7 : x_kV R_law 7 0 y_RS_mode prog_1_method_8_code 9 (some .int) 2 := ⟨_, rfl, k_294, k_295, k_296, k_297, k_1, ⟨by decide +kernel, by decide +kernel, by decide +kernel⟩⟩
theorem kc_RS_78 : x_kV R_RS 78 0 y_RS_look prog_1_method_27_code 4 none 1 := ⟨_, rfl, k_345, k_347, ks_2, k_348, k_1, ⟨by decide +kernel, by decide +kernel, by decide +kernel⟩⟩
theorem fl_RS_196 : x_fl R_RS 196 0 7 := ⟨_, _, _, rfl, by decide, i_RS, rfl, Or.inl k_176⟩
theorem fl_RS_17 : x_fl R_RS 17 0 4 := ⟨_, _, _, rfl, by decide, i_RS, rfl, Or.inl k_173⟩
theorem fl_RS_21 : x_fl R_RS 21 0 6 := ⟨_, _, _, rfl, by decide, i_RS, rfl, Or.inl k_175⟩
theorem kc_RS_263 : x_kV R_RS 263 0 y_RS_may prog_1_method_22_code 7 (some .boolean) 2 := ⟨_, rfl, k_349, k_351, ks_3, k_352, k_1, ⟨by decide +kernel, by decide +kernel, by decide +kernel⟩⟩
theorem fl_RS_233 : x_fl R_RS 233 4 3 := ⟨_, _, _, rfl, by decide, i_Read, rfl, Or.inr ⟨_, k_600⟩⟩
theorem fl_RS_91 : x_fl R_RS 91 3 1 := ⟨_, _, _, rfl, by decide, i_Log, rfl, Or.inr ⟨_, k_48⟩⟩
theorem kc_RS_102 : x_kV R_RS 102 6 y_Sess_has prog_7_method_2_code 2 (some .boolean) 1 := ⟨_, rfl, k_357, k_358, k_359, k_360, k_7, ⟨by decide +kernel, by decide +kernel, by decide +kernel⟩⟩
theorem fl_Sess_19 : x_fl R_Sess 19 6 0 := ⟨_, _, _, rfl, by decide, i_Sess, rfl, Or.inl k_153⟩
theorem fl_RS_110 : x_fl R_RS 110 6 3 := ⟨_, _, _, rfl, by decide, i_Sess, rfl, Or.inr ⟨_, k_159⟩⟩
theorem kc_RS_162 : x_kV R_RS 162 8 y_Vec_covers prog_9_method_2_code 2 (some .boolean) 1 := ⟨_, rfl, k_353, k_354, k_355, k_356, k_5, ⟨by decide +kernel, by decide +kernel, by decide +kernel⟩⟩
theorem fl_Vec_7 : x_fl R_Vec 7 8 0 := ⟨_, _, _, rfl, by decide, i_Vec, rfl, Or.inl k_80⟩
theorem fl_RS_228 : x_fl R_RS 228 4 1 := ⟨_, _, _, rfl, by decide, i_Read, rfl, Or.inr ⟨_, k_596⟩⟩
theorem fl_RS_150 : x_fl R_RS 150 5 0 := ⟨_, _, _, rfl, by decide, i_Repl, rfl, Or.inr ⟨_, k_128⟩⟩
theorem fl_RS_173 : x_fl R_RS 173 5 2 := ⟨_, _, _, rfl, by decide, i_Repl, rfl, Or.inr ⟨_, k_132⟩⟩
theorem fl_RS_231 : x_fl R_RS 231 4 2 := ⟨_, _, _, rfl, by decide, i_Read, rfl, Or.inr ⟨_, k_598⟩⟩
theorem fl_RS_119 : x_fl R_RS 119 6 2 := ⟨_, _, _, rfl, by decide, i_Sess, rfl, Or.inr ⟨_, k_157⟩⟩
theorem kc_RS_267 : x_kV R_RS 267 0 y_RS_numberOf prog_1_method_26_code 3 (some .int) 1 := ⟨_, rfl, k_361, k_363, ks_4, k_364, k_1, ⟨by decide +kernel, by decide +kernel, by decide +kernel⟩⟩
theorem kc_RS_270 : x_kV R_RS 270 0 y_RS_answer prog_1_method_23_code 4 none 2 := ⟨_, rfl, k_365, k_367, ks_5, k_368, k_1, ⟨by decide +kernel, by decide +kernel, by decide +kernel⟩⟩
theorem fp_RS_236 : x_fp R_RS 236 4 7 .int false := ⟨_, _, _, t_Read, rfl, by decide, i_Read, rfl, t_Read_ok, n_Read, rfl, rfl, Or.inl ⟨rfl, Or.inr ⟨_, k_608⟩⟩⟩
theorem fp_RS_238 : x_fp R_RS 238 4 8 .int false := ⟨_, _, _, t_Read, rfl, by decide, i_Read, rfl, t_Read_ok, n_Read, rfl, rfl, Or.inl ⟨rfl, Or.inr ⟨_, k_610⟩⟩⟩
theorem fl_RS_241 : x_fl R_RS 241 4 5 := ⟨_, _, _, rfl, by decide, i_Read, rfl, Or.inr ⟨_, k_604⟩⟩
theorem fl_RS_244 : x_fl R_RS 244 4 6 := ⟨_, _, _, rfl, by decide, i_Read, rfl, Or.inr ⟨_, k_606⟩⟩
theorem kc_RS_247 : x_kV R_RS 247 7 y_St_answer prog_8_method_5_code 4 (some .long) 3 := ⟨_, rfl, k_369, k_370, k_371, k_372, k_4, ⟨by decide +kernel, by decide +kernel, by decide +kernel⟩⟩
theorem fl_St_58 : x_fl R_St 58 2 0 := ⟨_, _, _, rfl, by decide, i_Item, rfl, Or.inr ⟨_, k_93⟩⟩
theorem fl_St_62 : x_fl R_St 62 2 1 := ⟨_, _, _, rfl, by decide, i_Item, rfl, Or.inr ⟨_, k_95⟩⟩
theorem fl_St_75 : x_fl R_St 75 2 2 := ⟨_, _, _, rfl, by decide, i_Item, rfl, Or.inr ⟨_, k_97⟩⟩
theorem fl_St_78 : x_fl R_St 78 2 3 := ⟨_, _, _, rfl, by decide, i_Item, rfl, Or.inr ⟨_, k_99⟩⟩
theorem fl_St_17 : x_fl R_St 17 7 1 := ⟨_, _, _, rfl, by decide, i_St, rfl, Or.inl k_114⟩
theorem kc_St_87 : x_kV R_St 87 7 y_St_held prog_8_method_6_code 8 (some .long) 1 := ⟨_, rfl, k_373, k_375, ks_6, k_376, k_4, ⟨by decide +kernel, by decide +kernel, by decide +kernel⟩⟩
theorem fl_St_72 : x_fl R_St 72 2 4 := ⟨_, _, _, rfl, by decide, i_Item, rfl, Or.inr ⟨_, k_101⟩⟩
theorem fl_St_21 : x_fl R_St 21 7 2 := ⟨_, _, _, rfl, by decide, i_St, rfl, Or.inl k_115⟩
theorem kc_St_90 : x_kV R_St 90 7 y_St_ranked prog_8_method_7_code 6 (some .int) 1 := ⟨_, rfl, k_377, k_379, ks_7, k_380, k_4, ⟨by decide +kernel, by decide +kernel, by decide +kernel⟩⟩
theorem kc_St_94 : x_kV R_St 94 7 y_St_worth prog_8_method_8_code 6 (some .long) 2 := ⟨_, rfl, k_381, k_383, ks_8, k_384, k_4, ⟨by decide +kernel, by decide +kernel, by decide +kernel⟩⟩
theorem fp_RS_251 : x_fp R_RS 251 4 9 .long false := ⟨_, _, _, t_Read, rfl, by decide, i_Read, rfl, t_Read_ok, n_Read, rfl, rfl, Or.inl ⟨rfl, Or.inr ⟨_, k_612⟩⟩⟩
theorem kc_RS_132 : x_kV R_RS 132 8 y_Vec_token prog_9_method_6_code 3 (some .long) 0 := ⟨_, rfl, k_385, k_386, k_387, k_388, k_5, ⟨by decide +kernel, by decide +kernel, by decide +kernel⟩⟩
theorem kc_Vec_23 : x_kS R_Vec 23 y_Vec_check prog_9_method_7_code 2 (some .long) [] 1 := ⟨k_391, k_392, k_393, k_5, ⟨by decide +kernel, by decide +kernel, by decide +kernel⟩⟩
theorem fp_RS_253 : x_fp R_RS 253 4 10 .long false := ⟨_, _, _, t_Read, rfl, by decide, i_Read, rfl, t_Read_ok, n_Read, rfl, rfl, Or.inl ⟨rfl, Or.inr ⟨_, k_614⟩⟩⟩
theorem fl_RS_188 : x_fl R_RS 188 0 10 := ⟨_, _, _, rfl, by decide, i_RS, rfl, Or.inl k_179⟩
theorem fp_RS_256 : x_fp R_RS 256 4 11 .long false := ⟨_, _, _, t_Read, rfl, by decide, i_Read, rfl, t_Read_ok, n_Read, rfl, rfl, Or.inl ⟨rfl, Or.inr ⟨_, k_616⟩⟩⟩
theorem kc_RS_113 : x_kV R_RS 113 8 y_Vec_rise prog_9_method_4_code 3 none 1 := ⟨_, rfl, k_395, k_396, k_397, k_398, k_5, ⟨by decide +kernel, by decide +kernel, by decide +kernel⟩⟩
theorem kc_Vec_13 : x_kS R_Vec 13 y_Math_max prog_17_method_65_code 2 (some .int) [] 2 := ⟨k_399, k_400, k_401, k_16, ⟨by decide +kernel, by decide +kernel, by decide +kernel⟩⟩
theorem fl_RS_257 : x_fl R_RS 257 0 8 := ⟨_, _, _, rfl, by decide, i_RS, rfl, Or.inl k_177⟩
theorem fp_RS_257 : x_fp R_RS 257 0 8 .int false := ⟨_, _, _, t_RS, rfl, by decide, i_RS, rfl, t_RS_ok, n_RS, rfl, rfl, Or.inl ⟨rfl, Or.inl k_177⟩⟩
theorem kc_RS_206 : x_kV R_RS 206 0 y_RS_leave prog_1_method_25_code 3 none 1 := ⟨_, rfl, k_402, k_404, ks_9, k_405, k_1, ⟨by decide +kernel, by decide +kernel, by decide +kernel⟩⟩
theorem fp_RS_196 : x_fp R_RS 196 0 7 .int false := ⟨_, _, _, t_RS, rfl, by decide, i_RS, rfl, t_RS_ok, n_RS, rfl, rfl, Or.inl ⟨rfl, Or.inl k_176⟩⟩
theorem kc_RS_65 : x_kV R_RS 65 0 y_RS_sessionAt prog_1_method_7_code 2 (some (.object "ReadSide$Session")) 1 := ⟨_, rfl, k_298, k_300, ks_1, k_301, k_1, ⟨by decide +kernel, by decide +kernel, by decide +kernel⟩⟩
theorem kc_RS_61 : x_kS R_RS 61 y_RS_index prog_1_method_3_code 2 (some .int) [] 2 := ⟨k_302, k_303, k_304, k_1, ⟨by decide +kernel, by decide +kernel, by decide +kernel⟩⟩
theorem tw_RS_52 : x_tw R_RS 52 54 10 := ⟨R_EI, rfl, by decide +kernel, k_305, k_306, k_12, by decide +kernel⟩
theorem kc_RS_71 : x_kS R_RS 71 y_RS_want prog_1_method_4_code 1 none [] 1 := ⟨k_327, k_328, k_329, k_1, ⟨by decide +kernel, by decide +kernel, by decide +kernel⟩⟩
theorem tw_RS_55 : x_tw R_RS 55 57 11 := ⟨R_EA, rfl, by decide +kernel, k_330, k_331, k_15, by decide +kernel⟩
theorem fl_RS_75 : x_fl R_RS 75 6 0 := ⟨_, _, _, rfl, by decide, i_Sess, rfl, Or.inr ⟨_, k_154⟩⟩
theorem fp_RS_75 : x_fp R_RS 75 6 0 .int false := ⟨_, _, _, t_Sess, rfl, by decide, i_Sess, rfl, t_Sess_ok, n_Sess, rfl, rfl, Or.inl ⟨rfl, Or.inr ⟨_, k_154⟩⟩⟩
theorem kc_law_17 : x_kV R_law 17 0 y_RS_home prog_1_method_9_code 5 (some .int) 2 := ⟨_, rfl, k_409, k_410, k_411, k_412, k_1, ⟨by decide +kernel, by decide +kernel, by decide +kernel⟩⟩
theorem kc_RS_82 : x_kV R_RS 82 0 y_RS_replicaAt prog_1_method_6_code 2 (some (.object "ReadSide$Replica")) 1 := ⟨_, rfl, k_413, k_415, ks_10, k_416, k_1, ⟨by decide +kernel, by decide +kernel, by decide +kernel⟩⟩
theorem fl_RS_86 : x_fl R_RS 86 6 1 := ⟨_, _, _, rfl, by decide, i_Sess, rfl, Or.inr ⟨_, k_155⟩⟩
theorem fp_RS_86 : x_fp R_RS 86 6 1 .int false := ⟨_, _, _, t_Sess, rfl, by decide, i_Sess, rfl, t_Sess_ok, n_Sess, rfl, rfl, Or.inl ⟨rfl, Or.inr ⟨_, k_155⟩⟩⟩
theorem kc_law_20 : x_kV R_law 20 0 y_RS_command prog_1_method_10_code 11 (some .long) 5 := ⟨_, rfl, k_421, k_422, k_423, k_424, k_1, ⟨by decide +kernel, by decide +kernel, by decide +kernel⟩⟩
theorem fp_RS_91 : x_fp R_RS 91 3 1 .int false := ⟨_, _, _, t_Log, rfl, by decide, i_Log, rfl, t_Log_ok, n_Log, rfl, rfl, Or.inl ⟨rfl, Or.inr ⟨_, k_48⟩⟩⟩
theorem nw_RS_114 : x_nw R_RS 114 8 1 z_Vec := ⟨_, _, _, t_Vec, rfl, i_Vec, t_Vec_ok, z_Vec_ok, k_473, k_75, k_5⟩
theorem kc_RS_128 : x_kI R_RS 128 y_Vec_init prog_9_method_1_code 1 0 := ⟨Or.inr ⟨_, k_474⟩, rfl, k_77, k_78, k_5, ⟨by decide +kernel, by decide +kernel, by decide +kernel⟩⟩
theorem fl_RS_106 : x_fl R_RS 106 1 4 := ⟨_, _, _, rfl, by decide, i_Cmd, rfl, Or.inl k_461⟩
theorem kc_RS_129 : x_kV R_RS 129 8 y_Vec_copy prog_9_method_3_code 3 none 1 := ⟨_, rfl, k_475, k_476, k_477, k_478, k_5, ⟨by decide +kernel, by decide +kernel, by decide +kernel⟩⟩
theorem kc_RS_94 : x_kS R_RS 94 y_RS_need prog_1_method_5_code 1 none [] 1 := ⟨k_426, k_427, k_428, k_1, ⟨by decide +kernel, by decide +kernel, by decide +kernel⟩⟩
theorem tw_RS_58 : x_tw R_RS 58 60 12 := ⟨R_ES, rfl, by decide +kernel, k_429, k_430, k_17, by decide +kernel⟩
theorem nw_RS_97 : x_nw R_RS 97 1 5 z_Cmd := ⟨_, _, _, t_Cmd, rfl, i_Cmd, t_Cmd_ok, z_Cmd_ok, k_444, k_445, k_18⟩
theorem kc_RS_99 : x_kI R_RS 99 y_Cmd_init prog_2_method_1_code 5 4 := ⟨Or.inl k_446, rfl, k_447, k_448, k_18, ⟨by decide +kernel, by decide +kernel, by decide +kernel⟩⟩
theorem oi_Cmd_1 : Cond.methodLink R_Cmd 1 objectInit ∈ x_W := k_449
theorem nw_Cmd_7 : x_nw R_Cmd 7 8 1 z_Vec := ⟨_, _, _, t_Vec, rfl, i_Vec, t_Vec_ok, z_Vec_ok, k_450, k_75, k_5⟩
theorem kc_Cmd_9 : x_kI R_Cmd 9 y_Vec_init prog_9_method_1_code 1 0 := ⟨Or.inr ⟨_, k_451⟩, rfl, k_77, k_78, k_5, ⟨by decide +kernel, by decide +kernel, by decide +kernel⟩⟩
theorem fp_Cmd_10 : x_fp R_Cmd 10 1 4 (.object "ReadSide$Vector") true := ⟨_, _, _, t_Cmd, rfl, by decide, i_Cmd, rfl, t_Cmd_ok, n_Cmd, rfl, rfl, Or.inr ⟨rfl, rfl, k_460⟩⟩
theorem fp_Cmd_16 : x_fp R_Cmd 16 1 0 .int true := ⟨_, _, _, t_Cmd, rfl, by decide, i_Cmd, rfl, t_Cmd_ok, n_Cmd, rfl, rfl, Or.inr ⟨rfl, rfl, k_452⟩⟩
theorem fp_Cmd_20 : x_fp R_Cmd 20 1 1 .int true := ⟨_, _, _, t_Cmd, rfl, by decide, i_Cmd, rfl, t_Cmd_ok, n_Cmd, rfl, rfl, Or.inr ⟨rfl, rfl, k_454⟩⟩
theorem fp_Cmd_23 : x_fp R_Cmd 23 1 2 .int true := ⟨_, _, _, t_Cmd, rfl, by decide, i_Cmd, rfl, t_Cmd_ok, n_Cmd, rfl, rfl, Or.inr ⟨rfl, rfl, k_456⟩⟩
theorem fp_Cmd_26 : x_fp R_Cmd 26 1 3 .int true := ⟨_, _, _, t_Cmd, rfl, by decide, i_Cmd, rfl, t_Cmd_ok, n_Cmd, rfl, rfl, Or.inr ⟨rfl, rfl, k_458⟩⟩
theorem kc_law_26 : x_kV R_law 26 0 y_RS_step prog_1_method_14_code 4 (some .int) 2 := ⟨_, rfl, k_482, k_483, k_484, k_485, k_1, ⟨by decide +kernel, by decide +kernel, by decide +kernel⟩⟩
theorem kc_RS_177 : x_kV R_RS 177 0 y_RS_advance prog_1_method_13_code 5 (some .int) 2 := ⟨_, rfl, k_486, k_488, ks_11, k_489, k_1, ⟨by decide +kernel, by decide +kernel, by decide +kernel⟩⟩
theorem kc_RS_159 : x_kV R_RS 159 3 y_Log_at prog_4_method_2_code 2 (some (.object "ReadSide$Command")) 1 := ⟨_, rfl, k_490, k_491, k_492, k_493, k_2, ⟨by decide +kernel, by decide +kernel, by decide +kernel⟩⟩
theorem fl_Log_11 : x_fl R_Log 11 3 0 := ⟨_, _, _, rfl, by decide, i_Log, rfl, Or.inl k_46⟩
theorem kc_RS_166 : x_kV R_RS 166 7 y_St_take prog_8_method_3_code 4 none 1 := ⟨_, rfl, k_494, k_495, k_496, k_497, k_4, ⟨by decide +kernel, by decide +kernel, by decide +kernel⟩⟩
theorem fl_St_46 : x_fl R_St 46 1 1 := ⟨_, _, _, rfl, by decide, i_Cmd, rfl, Or.inl k_455⟩
theorem fl_St_52 : x_fl R_St 52 1 3 := ⟨_, _, _, rfl, by decide, i_Cmd, rfl, Or.inl k_459⟩
theorem fl_St_55 : x_fl R_St 55 1 0 := ⟨_, _, _, rfl, by decide, i_Cmd, rfl, Or.inl k_453⟩
theorem fp_St_58 : x_fp R_St 58 2 0 .int false := ⟨_, _, _, t_Item, rfl, by decide, i_Item, rfl, t_Item_ok, n_Item, rfl, rfl, Or.inl ⟨rfl, Or.inr ⟨_, k_93⟩⟩⟩
theorem fl_St_65 : x_fl R_St 65 1 2 := ⟨_, _, _, rfl, by decide, i_Cmd, rfl, Or.inl k_457⟩
theorem kc_St_68 : x_kS R_St 68 y_St_hold prog_8_method_4_code 3 none [] 3 := ⟨k_499, k_500, k_501, k_4, ⟨by decide +kernel, by decide +kernel, by decide +kernel⟩⟩
theorem fp_St_62 : x_fp R_St 62 2 1 .int false := ⟨_, _, _, t_Item, rfl, by decide, i_Item, rfl, t_Item_ok, n_Item, rfl, rfl, Or.inl ⟨rfl, Or.inr ⟨_, k_95⟩⟩⟩
theorem fp_St_75 : x_fp R_St 75 2 2 .int false := ⟨_, _, _, t_Item, rfl, by decide, i_Item, rfl, t_Item_ok, n_Item, rfl, rfl, Or.inl ⟨rfl, Or.inr ⟨_, k_97⟩⟩⟩
theorem kc_St_81 : x_kS R_St 81 y_Math_min prog_17_method_69_code 2 (some .int) [] 2 := ⟨k_502, k_208, k_209, k_16, ⟨by decide +kernel, by decide +kernel, by decide +kernel⟩⟩
theorem fp_St_78 : x_fp R_St 78 2 3 .int false := ⟨_, _, _, t_Item, rfl, by decide, i_Item, rfl, t_Item_ok, n_Item, rfl, rfl, Or.inl ⟨rfl, Or.inr ⟨_, k_99⟩⟩⟩
theorem fp_RS_170 : x_fp R_RS 170 5 4 .int false := ⟨_, _, _, t_Repl, rfl, by decide, i_Repl, rfl, t_Repl_ok, n_Repl, rfl, rfl, Or.inl ⟨rfl, Or.inr ⟨_, k_134⟩⟩⟩
theorem kc_law_29 : x_kV R_law 29 0 y_RS_speed prog_1_method_15_code 5 (some .int) 2 := ⟨_, rfl, k_506, k_507, k_508, k_509, k_1, ⟨by decide +kernel, by decide +kernel, by decide +kernel⟩⟩
theorem fl_RS_183 : x_fl R_RS 183 5 3 := ⟨_, _, _, rfl, by decide, i_Repl, rfl, Or.inr ⟨_, k_133⟩⟩
theorem fp_RS_183 : x_fp R_RS 183 5 3 .int false := ⟨_, _, _, t_Repl, rfl, by decide, i_Repl, rfl, t_Repl_ok, n_Repl, rfl, rfl, Or.inl ⟨rfl, Or.inr ⟨_, k_133⟩⟩⟩
theorem kc_law_32 : x_kV R_law 32 0 y_RS_ticks prog_1_method_17_code 8 (some .int) 1 := ⟨_, rfl, k_514, k_515, k_516, k_517, k_1, ⟨by decide +kernel, by decide +kernel, by decide +kernel⟩⟩
theorem fl_RS_199 : x_fl R_RS 199 4 4 := ⟨_, _, _, rfl, by decide, i_Read, rfl, Or.inr ⟨_, k_602⟩⟩
theorem kc_RS_202 : x_kV R_RS 202 0 y_RS_fail prog_1_method_24_code 2 none 1 := ⟨_, rfl, k_523, k_525, ks_13, k_526, k_1, ⟨by decide +kernel, by decide +kernel, by decide +kernel⟩⟩
theorem fl_RS_260 : x_fl R_RS 260 0 9 := ⟨_, _, _, rfl, by decide, i_RS, rfl, Or.inl k_178⟩
theorem fp_RS_260 : x_fp R_RS 260 0 9 .int false := ⟨_, _, _, t_RS, rfl, by decide, i_RS, rfl, t_RS_ok, n_RS, rfl, rfl, Or.inl ⟨rfl, Or.inl k_178⟩⟩
theorem kc_RS_192 : x_kV R_RS 192 0 y_RS_hurry prog_1_method_16_code 6 (some .int) 1 := ⟨_, rfl, k_519, k_521, ks_12, k_522, k_1, ⟨by decide +kernel, by decide +kernel, by decide +kernel⟩⟩
theorem fl_RS_170 : x_fl R_RS 170 5 4 := ⟨_, _, _, rfl, by decide, i_Repl, rfl, Or.inr ⟨_, k_134⟩⟩
theorem fp_RS_188 : x_fp R_RS 188 0 10 .long false := ⟨_, _, _, t_RS, rfl, by decide, i_RS, rfl, t_RS_ok, n_RS, rfl, rfl, Or.inl ⟨rfl, Or.inl k_179⟩⟩
theorem kc_law_36 : x_kV R_law 36 0 y_RS_up prog_1_method_18_code 5 (some .boolean) 2 := ⟨_, rfl, k_530, k_531, k_532, k_533, k_1, ⟨by decide +kernel, by decide +kernel, by decide +kernel⟩⟩
theorem fp_RS_173 : x_fp R_RS 173 5 2 .boolean false := ⟨_, _, _, t_Repl, rfl, by decide, i_Repl, rfl, t_Repl_ok, n_Repl, rfl, rfl, Or.inl ⟨rfl, Or.inr ⟨_, k_132⟩⟩⟩
theorem kc_law_40 : x_kV R_law 40 0 y_RS_snapshot prog_1_method_19_code 3 (some .int) 1 := ⟨_, rfl, k_537, k_538, k_539, k_540, k_1, ⟨by decide +kernel, by decide +kernel, by decide +kernel⟩⟩
theorem kc_RS_213 : x_kV R_RS 213 7 y_St_copy prog_8_method_2_code 3 none 1 := ⟨_, rfl, k_541, k_542, k_543, k_544, k_4, ⟨by decide +kernel, by decide +kernel, by decide +kernel⟩⟩
theorem ac_St_37 : x_ac R_St 37 := ⟨k_552, k_551, k_550, k_19⟩
theorem fl_St_28 : x_fl R_St 28 7 3 := ⟨_, _, _, rfl, by decide, i_St, rfl, Or.inl k_116⟩
theorem kc_St_43 : x_kV R_St 43 8 y_Vec_copy prog_9_method_3_code 3 none 1 := ⟨_, rfl, k_553, k_476, k_477, k_478, k_5, ⟨by decide +kernel, by decide +kernel, by decide +kernel⟩⟩
theorem kc_St_33 : x_kV R_St 33 2 y_Item_copy prog_3_method_2_code 2 none 1 := ⟨_, rfl, k_545, k_546, k_547, k_548, k_6, ⟨by decide +kernel, by decide +kernel, by decide +kernel⟩⟩
theorem fl_Item_19 : x_fl R_Item 19 2 0 := ⟨_, _, _, rfl, by decide, i_Item, rfl, Or.inl k_92⟩
theorem fp_Item_19 : x_fp R_Item 19 2 0 .int false := ⟨_, _, _, t_Item, rfl, by decide, i_Item, rfl, t_Item_ok, n_Item, rfl, rfl, Or.inl ⟨rfl, Or.inl k_92⟩⟩
theorem fl_Item_22 : x_fl R_Item 22 2 1 := ⟨_, _, _, rfl, by decide, i_Item, rfl, Or.inl k_94⟩
theorem fp_Item_22 : x_fp R_Item 22 2 1 .int false := ⟨_, _, _, t_Item, rfl, by decide, i_Item, rfl, t_Item_ok, n_Item, rfl, rfl, Or.inl ⟨rfl, Or.inl k_94⟩⟩
theorem fl_Item_25 : x_fl R_Item 25 2 2 := ⟨_, _, _, rfl, by decide, i_Item, rfl, Or.inl k_96⟩
theorem fp_Item_25 : x_fp R_Item 25 2 2 .int false := ⟨_, _, _, t_Item, rfl, by decide, i_Item, rfl, t_Item_ok, n_Item, rfl, rfl, Or.inl ⟨rfl, Or.inl k_96⟩⟩
theorem fl_Item_9 : x_fl R_Item 9 2 3 := ⟨_, _, _, rfl, by decide, i_Item, rfl, Or.inl k_98⟩
theorem fl_Item_15 : x_fl R_Item 15 2 4 := ⟨_, _, _, rfl, by decide, i_Item, rfl, Or.inl k_100⟩
theorem ac_Item_28 : x_ac R_Item 28 := ⟨k_549, k_551, k_550, k_19⟩
theorem kc_RS_216 : x_kV R_RS 216 8 y_Vec_sum prog_9_method_5_code 1 (some .int) 0 := ⟨_, rfl, k_554, k_555, k_556, k_557, k_5, ⟨by decide +kernel, by decide +kernel, by decide +kernel⟩⟩
theorem kc_law_43 : x_kV R_law 43 0 y_RS_crash prog_1_method_20_code 4 (some .int) 1 := ⟨_, rfl, k_561, k_562, k_563, k_564, k_1, ⟨by decide +kernel, by decide +kernel, by decide +kernel⟩⟩
theorem kc_law_46 : x_kV R_law 46 0 y_RS_ask prog_1_method_29_code 14 (some .int) 6 := ⟨_, rfl, k_568, k_569, k_570, k_571, k_1, ⟨by decide +kernel, by decide +kernel, by decide +kernel⟩⟩
theorem fl_RS_289 : x_fl R_RS 289 4 0 := ⟨_, _, _, rfl, by decide, i_Read, rfl, Or.inr ⟨_, k_594⟩⟩
theorem fl_RS_283 : x_fl R_RS 283 0 5 := ⟨_, _, _, rfl, by decide, i_RS, rfl, Or.inl k_174⟩
theorem fp_RS_283 : x_fp R_RS 283 0 5 .int false := ⟨_, _, _, t_RS, rfl, by decide, i_RS, rfl, t_RS_ok, n_RS, rfl, rfl, Or.inl ⟨rfl, Or.inl k_174⟩⟩
theorem nw_RS_15 : x_nw R_RS 15 4 12 z_Read := ⟨_, _, _, t_Read, rfl, i_Read, t_Read_ok, z_Read_ok, k_31, k_587, k_20⟩
theorem kc_RS_286 : x_kI R_RS 286 y_Read_init prog_5_method_1_code 9 7 := ⟨Or.inl k_588, rfl, k_589, k_590, k_20, ⟨by decide +kernel, by decide +kernel, by decide +kernel⟩⟩
theorem oi_Read_3 : Cond.methodLink R_Read 3 objectInit ∈ x_W := k_591
theorem fp_Read_9 : x_fp R_Read 9 4 7 .int false := ⟨_, _, _, t_Read, rfl, by decide, i_Read, rfl, t_Read_ok, n_Read, rfl, rfl, Or.inl ⟨rfl, Or.inl k_607⟩⟩
theorem fp_Read_15 : x_fp R_Read 15 4 8 .int false := ⟨_, _, _, t_Read, rfl, by decide, i_Read, rfl, t_Read_ok, n_Read, rfl, rfl, Or.inl ⟨rfl, Or.inl k_609⟩⟩
theorem fp_Read_20 : x_fp R_Read 20 4 11 .long false := ⟨_, _, _, t_Read, rfl, by decide, i_Read, rfl, t_Read_ok, n_Read, rfl, rfl, Or.inl ⟨rfl, Or.inl k_615⟩⟩
theorem fp_Read_24 : x_fp R_Read 24 4 0 .int true := ⟨_, _, _, t_Read, rfl, by decide, i_Read, rfl, t_Read_ok, n_Read, rfl, rfl, Or.inr ⟨rfl, rfl, k_593⟩⟩
theorem fp_Read_27 : x_fp R_Read 27 4 1 .int true := ⟨_, _, _, t_Read, rfl, by decide, i_Read, rfl, t_Read_ok, n_Read, rfl, rfl, Or.inr ⟨rfl, rfl, k_595⟩⟩
theorem fp_Read_30 : x_fp R_Read 30 4 2 (.object "ReadSide$Vector") true := ⟨_, _, _, t_Read, rfl, by decide, i_Read, rfl, t_Read_ok, n_Read, rfl, rfl, Or.inr ⟨rfl, rfl, k_597⟩⟩
theorem fp_Read_34 : x_fp R_Read 34 4 3 .int true := ⟨_, _, _, t_Read, rfl, by decide, i_Read, rfl, t_Read_ok, n_Read, rfl, rfl, Or.inr ⟨rfl, rfl, k_599⟩⟩
theorem fp_Read_37 : x_fp R_Read 37 4 4 .long true := ⟨_, _, _, t_Read, rfl, by decide, i_Read, rfl, t_Read_ok, n_Read, rfl, rfl, Or.inr ⟨rfl, rfl, k_601⟩⟩
theorem fp_Read_40 : x_fp R_Read 40 4 5 .int true := ⟨_, _, _, t_Read, rfl, by decide, i_Read, rfl, t_Read_ok, n_Read, rfl, rfl, Or.inr ⟨rfl, rfl, k_603⟩⟩
theorem fp_Read_43 : x_fp R_Read 43 4 6 .int true := ⟨_, _, _, t_Read, rfl, by decide, i_Read, rfl, t_Read_ok, n_Read, rfl, rfl, Or.inr ⟨rfl, rfl, k_605⟩⟩
theorem kc_RS_275 : x_kV R_RS 275 0 y_RS_question prog_1_method_28_code 3 none 2 := ⟨_, rfl, k_572, k_574, ks_14, k_575, k_1, ⟨by decide +kernel, by decide +kernel, by decide +kernel⟩⟩
theorem kc_RS_146 : x_kV R_RS 146 0 y_RS_vectorOf prog_1_method_11_code 7 (some (.object "ReadSide$Vector")) 1 := ⟨_, rfl, k_577, k_579, ks_15, k_580, k_1, ⟨by decide +kernel, by decide +kernel, by decide +kernel⟩⟩
theorem kc_RS_140 : x_kS R_RS 140 y_Vec_check prog_9_method_7_code 2 (some .long) [] 1 := ⟨k_583, k_392, k_393, k_5, ⟨by decide +kernel, by decide +kernel, by decide +kernel⟩⟩
theorem kc_law_50 : x_kV R_law 50 0 y_RS_read prog_1_method_30_code 4 (some .long) 2 := ⟨_, rfl, k_645, k_646, k_647, k_648, k_1, ⟨by decide +kernel, by decide +kernel, by decide +kernel⟩⟩
theorem kc_RS_292 : x_kV R_RS 292 4 y_Read_told prog_5_method_2_code 2 (some .long) 1 := ⟨_, rfl, k_649, k_650, k_651, k_652, k_20, ⟨by decide +kernel, by decide +kernel, by decide +kernel⟩⟩
theorem fl_Read_9 : x_fl R_Read 9 4 7 := ⟨_, _, _, rfl, by decide, i_Read, rfl, Or.inl k_607⟩
theorem fl_Read_15 : x_fl R_Read 15 4 8 := ⟨_, _, _, rfl, by decide, i_Read, rfl, Or.inl k_609⟩
theorem fl_Read_46 : x_fl R_Read 46 4 9 := ⟨_, _, _, rfl, by decide, i_Read, rfl, Or.inl k_611⟩
theorem fl_Read_49 : x_fl R_Read 49 4 10 := ⟨_, _, _, rfl, by decide, i_Read, rfl, Or.inl k_613⟩
theorem fl_Read_20 : x_fl R_Read 20 4 11 := ⟨_, _, _, rfl, by decide, i_Read, rfl, Or.inl k_615⟩
theorem fl_Read_27 : x_fl R_Read 27 4 1 := ⟨_, _, _, rfl, by decide, i_Read, rfl, Or.inl k_595⟩
theorem kc_law_54 : x_kV R_law 54 0 y_RS_value prog_1_method_31_code 5 (some .long) 3 := ⟨_, rfl, k_656, k_657, k_658, k_659, k_1, ⟨by decide +kernel, by decide +kernel, by decide +kernel⟩⟩
theorem kc_law_58 : x_kV R_law 58 0 y_RS_at prog_1_method_32_code 3 (some .int) 2 := ⟨_, rfl, k_663, k_664, k_665, k_666, k_1, ⟨by decide +kernel, by decide +kernel, by decide +kernel⟩⟩
theorem kc_law_61 : x_kV R_law 61 0 y_RS_kept prog_1_method_33_code 3 (some .int) 2 := ⟨_, rfl, k_670, k_671, k_672, k_673, k_1, ⟨by decide +kernel, by decide +kernel, by decide +kernel⟩⟩
theorem kc_law_64 : x_kV R_law 64 0 y_RS_log prog_1_method_34_code 4 (some .int) 2 := ⟨_, rfl, k_677, k_678, k_679, k_680, k_1, ⟨by decide +kernel, by decide +kernel, by decide +kernel⟩⟩
theorem kc_law_67 : x_kV R_law 67 0 y_RS_logged prog_1_method_35_code 5 (some .int) 3 := ⟨_, rfl, k_684, k_685, k_686, k_687, k_1, ⟨by decide +kernel, by decide +kernel, by decide +kernel⟩⟩
theorem kc_RS_296 : x_kV R_RS 296 1 y_Cmd_told prog_2_method_2_code 2 (some .int) 1 := ⟨_, rfl, k_688, k_689, k_690, k_691, k_18, ⟨by decide +kernel, by decide +kernel, by decide +kernel⟩⟩
theorem fl_Cmd_16 : x_fl R_Cmd 16 1 0 := ⟨_, _, _, rfl, by decide, i_Cmd, rfl, Or.inl k_452⟩
theorem fl_Cmd_20 : x_fl R_Cmd 20 1 1 := ⟨_, _, _, rfl, by decide, i_Cmd, rfl, Or.inl k_454⟩
theorem fl_Cmd_23 : x_fl R_Cmd 23 1 2 := ⟨_, _, _, rfl, by decide, i_Cmd, rfl, Or.inl k_456⟩
theorem fl_Cmd_26 : x_fl R_Cmd 26 1 3 := ⟨_, _, _, rfl, by decide, i_Cmd, rfl, Or.inl k_458⟩
theorem fl_Cmd_10 : x_fl R_Cmd 10 1 4 := ⟨_, _, _, rfl, by decide, i_Cmd, rfl, Or.inl k_460⟩
theorem fl_Cmd_29 : x_fl R_Cmd 29 8 0 := ⟨_, _, _, rfl, by decide, i_Vec, rfl, Or.inr ⟨_, k_81⟩⟩
theorem kc_law_71 : x_kV R_law 71 0 y_RS_session prog_1_method_36_code 6 (some .int) 3 := ⟨_, rfl, k_695, k_696, k_697, k_698, k_1, ⟨by decide +kernel, by decide +kernel, by decide +kernel⟩⟩
theorem kc_law_74 : x_kV R_law 74 0 y_RS_told prog_1_method_12_code 5 (some .int) 2 := ⟨_, rfl, k_702, k_703, k_704, k_705, k_1, ⟨by decide +kernel, by decide +kernel, by decide +kernel⟩⟩
theorem kc_law_78 : x_kV R_law 78 0 y_RS_count prog_1_method_37_code 2 (some .int) 1 := ⟨_, rfl, k_709, k_710, k_711, k_712, k_1, ⟨by decide +kernel, by decide +kernel, by decide +kernel⟩⟩
theorem fl_Mdl_40 : x_fl R_Mdl 40 9 14 := ⟨_, _, _, rfl, by decide, i_Mdl, rfl, Or.inl k_733⟩
theorem fl_Mdl_118 : x_fl R_Mdl 118 9 1 := ⟨_, _, _, rfl, by decide, i_Mdl, rfl, Or.inl k_720⟩
theorem fl_Mdl_62 : x_fl R_Mdl 62 9 21 := ⟨_, _, _, rfl, by decide, i_Mdl, rfl, Or.inl k_740⟩
theorem fp_Mdl_118 : x_fp R_Mdl 118 9 1 .int true := ⟨_, _, _, t_Mdl, rfl, by decide, i_Mdl, rfl, t_Mdl_ok, n_Mdl, rfl, rfl, Or.inr ⟨rfl, rfl, k_720⟩⟩
theorem fp_Mdl_114 : x_fp R_Mdl 114 9 0 .int true := ⟨_, _, _, t_Mdl, rfl, by decide, i_Mdl, rfl, t_Mdl_ok, n_Mdl, rfl, rfl, Or.inr ⟨rfl, rfl, k_719⟩⟩
theorem oi_Mdl_1 : Cond.methodLink R_Mdl 1 objectInit ∈ x_W := k_718
theorem fp_Mdl_7 : x_fp R_Mdl 7 9 4 (.array .int) true := ⟨_, _, _, t_Mdl, rfl, by decide, i_Mdl, rfl, t_Mdl_ok, n_Mdl, rfl, rfl, Or.inr ⟨rfl, rfl, k_723⟩⟩
theorem fp_Mdl_13 : x_fp R_Mdl 13 9 5 (.array .int) true := ⟨_, _, _, t_Mdl, rfl, by decide, i_Mdl, rfl, t_Mdl_ok, n_Mdl, rfl, rfl, Or.inr ⟨rfl, rfl, k_724⟩⟩
theorem fp_Mdl_16 : x_fp R_Mdl 16 9 6 (.array .int) true := ⟨_, _, _, t_Mdl, rfl, by decide, i_Mdl, rfl, t_Mdl_ok, n_Mdl, rfl, rfl, Or.inr ⟨rfl, rfl, k_725⟩⟩
theorem fp_Mdl_19 : x_fp R_Mdl 19 9 7 (.array .int) true := ⟨_, _, _, t_Mdl, rfl, by decide, i_Mdl, rfl, t_Mdl_ok, n_Mdl, rfl, rfl, Or.inr ⟨rfl, rfl, k_726⟩⟩
theorem fp_Mdl_22 : x_fp R_Mdl 22 9 8 (.array .int) true := ⟨_, _, _, t_Mdl, rfl, by decide, i_Mdl, rfl, t_Mdl_ok, n_Mdl, rfl, rfl, Or.inr ⟨rfl, rfl, k_727⟩⟩
theorem fp_Mdl_25 : x_fp R_Mdl 25 9 9 (.array .int) true := ⟨_, _, _, t_Mdl, rfl, by decide, i_Mdl, rfl, t_Mdl_ok, n_Mdl, rfl, rfl, Or.inr ⟨rfl, rfl, k_728⟩⟩
theorem fp_Mdl_28 : x_fp R_Mdl 28 9 10 (.array .int) true := ⟨_, _, _, t_Mdl, rfl, by decide, i_Mdl, rfl, t_Mdl_ok, n_Mdl, rfl, rfl, Or.inr ⟨rfl, rfl, k_729⟩⟩
theorem fp_Mdl_31 : x_fp R_Mdl 31 9 11 (.array .int) true := ⟨_, _, _, t_Mdl, rfl, by decide, i_Mdl, rfl, t_Mdl_ok, n_Mdl, rfl, rfl, Or.inr ⟨rfl, rfl, k_730⟩⟩
theorem fp_Mdl_34 : x_fp R_Mdl 34 9 12 (.array .int) true := ⟨_, _, _, t_Mdl, rfl, by decide, i_Mdl, rfl, t_Mdl_ok, n_Mdl, rfl, rfl, Or.inr ⟨rfl, rfl, k_731⟩⟩
theorem fp_Mdl_37 : x_fp R_Mdl 37 9 13 (.array .int) true := ⟨_, _, _, t_Mdl, rfl, by decide, i_Mdl, rfl, t_Mdl_ok, n_Mdl, rfl, rfl, Or.inr ⟨rfl, rfl, k_732⟩⟩
theorem fp_Mdl_40 : x_fp R_Mdl 40 9 14 (.array .int) true := ⟨_, _, _, t_Mdl, rfl, by decide, i_Mdl, rfl, t_Mdl_ok, n_Mdl, rfl, rfl, Or.inr ⟨rfl, rfl, k_733⟩⟩
theorem fp_Mdl_43 : x_fp R_Mdl 43 9 15 (.array .int) true := ⟨_, _, _, t_Mdl, rfl, by decide, i_Mdl, rfl, t_Mdl_ok, n_Mdl, rfl, rfl, Or.inr ⟨rfl, rfl, k_734⟩⟩
theorem fp_Mdl_46 : x_fp R_Mdl 46 9 16 (.array .long) true := ⟨_, _, _, t_Mdl, rfl, by decide, i_Mdl, rfl, t_Mdl_ok, n_Mdl, rfl, rfl, Or.inr ⟨rfl, rfl, k_735⟩⟩
theorem fp_Mdl_50 : x_fp R_Mdl 50 9 17 (.array .int) true := ⟨_, _, _, t_Mdl, rfl, by decide, i_Mdl, rfl, t_Mdl_ok, n_Mdl, rfl, rfl, Or.inr ⟨rfl, rfl, k_736⟩⟩
theorem fp_Mdl_53 : x_fp R_Mdl 53 9 18 (.array .int) true := ⟨_, _, _, t_Mdl, rfl, by decide, i_Mdl, rfl, t_Mdl_ok, n_Mdl, rfl, rfl, Or.inr ⟨rfl, rfl, k_737⟩⟩
theorem fp_Mdl_56 : x_fp R_Mdl 56 9 19 (.array .int) true := ⟨_, _, _, t_Mdl, rfl, by decide, i_Mdl, rfl, t_Mdl_ok, n_Mdl, rfl, rfl, Or.inr ⟨rfl, rfl, k_738⟩⟩
theorem fp_Mdl_59 : x_fp R_Mdl 59 9 20 (.array .int) true := ⟨_, _, _, t_Mdl, rfl, by decide, i_Mdl, rfl, t_Mdl_ok, n_Mdl, rfl, rfl, Or.inr ⟨rfl, rfl, k_739⟩⟩
theorem fp_Mdl_62 : x_fp R_Mdl 62 9 21 (.array .boolean) true := ⟨_, _, _, t_Mdl, rfl, by decide, i_Mdl, rfl, t_Mdl_ok, n_Mdl, rfl, rfl, Or.inr ⟨rfl, rfl, k_740⟩⟩
theorem fp_Mdl_66 : x_fp R_Mdl 66 9 22 (.array .int) true := ⟨_, _, _, t_Mdl, rfl, by decide, i_Mdl, rfl, t_Mdl_ok, n_Mdl, rfl, rfl, Or.inr ⟨rfl, rfl, k_741⟩⟩
theorem fp_Mdl_69 : x_fp R_Mdl 69 9 23 (.array .int) true := ⟨_, _, _, t_Mdl, rfl, by decide, i_Mdl, rfl, t_Mdl_ok, n_Mdl, rfl, rfl, Or.inr ⟨rfl, rfl, k_742⟩⟩
theorem fp_Mdl_72 : x_fp R_Mdl 72 9 24 (.array .int) true := ⟨_, _, _, t_Mdl, rfl, by decide, i_Mdl, rfl, t_Mdl_ok, n_Mdl, rfl, rfl, Or.inr ⟨rfl, rfl, k_743⟩⟩
theorem fp_Mdl_75 : x_fp R_Mdl 75 9 25 (.array .int) true := ⟨_, _, _, t_Mdl, rfl, by decide, i_Mdl, rfl, t_Mdl_ok, n_Mdl, rfl, rfl, Or.inr ⟨rfl, rfl, k_744⟩⟩
theorem fp_Mdl_78 : x_fp R_Mdl 78 9 27 (.array .int) true := ⟨_, _, _, t_Mdl, rfl, by decide, i_Mdl, rfl, t_Mdl_ok, n_Mdl, rfl, rfl, Or.inr ⟨rfl, rfl, k_746⟩⟩
theorem fp_Mdl_81 : x_fp R_Mdl 81 9 28 (.array .int) true := ⟨_, _, _, t_Mdl, rfl, by decide, i_Mdl, rfl, t_Mdl_ok, n_Mdl, rfl, rfl, Or.inr ⟨rfl, rfl, k_747⟩⟩
theorem fp_Mdl_84 : x_fp R_Mdl 84 9 29 (.array .int) true := ⟨_, _, _, t_Mdl, rfl, by decide, i_Mdl, rfl, t_Mdl_ok, n_Mdl, rfl, rfl, Or.inr ⟨rfl, rfl, k_748⟩⟩
theorem fp_Mdl_87 : x_fp R_Mdl 87 9 30 (.array .int) true := ⟨_, _, _, t_Mdl, rfl, by decide, i_Mdl, rfl, t_Mdl_ok, n_Mdl, rfl, rfl, Or.inr ⟨rfl, rfl, k_749⟩⟩
theorem fp_Mdl_90 : x_fp R_Mdl 90 9 31 (.array .int) true := ⟨_, _, _, t_Mdl, rfl, by decide, i_Mdl, rfl, t_Mdl_ok, n_Mdl, rfl, rfl, Or.inr ⟨rfl, rfl, k_750⟩⟩
theorem fp_Mdl_93 : x_fp R_Mdl 93 9 32 (.array .int) true := ⟨_, _, _, t_Mdl, rfl, by decide, i_Mdl, rfl, t_Mdl_ok, n_Mdl, rfl, rfl, Or.inr ⟨rfl, rfl, k_751⟩⟩
theorem fp_Mdl_96 : x_fp R_Mdl 96 9 33 (.array .int) true := ⟨_, _, _, t_Mdl, rfl, by decide, i_Mdl, rfl, t_Mdl_ok, n_Mdl, rfl, rfl, Or.inr ⟨rfl, rfl, k_752⟩⟩
theorem fp_Mdl_99 : x_fp R_Mdl 99 9 34 (.array .int) true := ⟨_, _, _, t_Mdl, rfl, by decide, i_Mdl, rfl, t_Mdl_ok, n_Mdl, rfl, rfl, Or.inr ⟨rfl, rfl, k_753⟩⟩
theorem fp_Mdl_102 : x_fp R_Mdl 102 9 35 (.array .int) true := ⟨_, _, _, t_Mdl, rfl, by decide, i_Mdl, rfl, t_Mdl_ok, n_Mdl, rfl, rfl, Or.inr ⟨rfl, rfl, k_754⟩⟩
theorem fp_Mdl_105 : x_fp R_Mdl 105 9 36 (.array .long) true := ⟨_, _, _, t_Mdl, rfl, by decide, i_Mdl, rfl, t_Mdl_ok, n_Mdl, rfl, rfl, Or.inr ⟨rfl, rfl, k_755⟩⟩
theorem fp_Mdl_108 : x_fp R_Mdl 108 9 37 (.array .long) true := ⟨_, _, _, t_Mdl, rfl, by decide, i_Mdl, rfl, t_Mdl_ok, n_Mdl, rfl, rfl, Or.inr ⟨rfl, rfl, k_756⟩⟩
theorem fp_Mdl_111 : x_fp R_Mdl 111 9 38 (.array .int) true := ⟨_, _, _, t_Mdl, rfl, by decide, i_Mdl, rfl, t_Mdl_ok, n_Mdl, rfl, rfl, Or.inr ⟨rfl, rfl, k_757⟩⟩
theorem fl_Mdl_121 : x_fl R_Mdl 121 9 2 := ⟨_, _, _, rfl, by decide, i_Mdl, rfl, Or.inl k_721⟩
theorem kc_Mdl_158 : x_kV R_Mdl 158 9 y_Mdl_look prog_11_method_35_code 3 none 1 := ⟨_, rfl, k_854, k_856, ks_16, k_857, k_8, ⟨by decide +kernel, by decide +kernel, by decide +kernel⟩⟩
theorem fl_Mdl_204 : x_fl R_Mdl 204 9 26 := ⟨_, _, _, rfl, by decide, i_Mdl, rfl, Or.inl k_745⟩
theorem fl_Mdl_78 : x_fl R_Mdl 78 9 27 := ⟨_, _, _, rfl, by decide, i_Mdl, rfl, Or.inl k_746⟩
theorem kc_Mdl_231 : x_kV R_Mdl 231 9 y_Mdl_may prog_11_method_33_code 6 (some .boolean) 2 := ⟨_, rfl, k_858, k_860, ks_17, k_861, k_8, ⟨by decide +kernel, by decide +kernel, by decide +kernel⟩⟩
theorem fl_Mdl_114 : x_fl R_Mdl 114 9 0 := ⟨_, _, _, rfl, by decide, i_Mdl, rfl, Or.inl k_719⟩
theorem fl_Mdl_87 : x_fl R_Mdl 87 9 30 := ⟨_, _, _, rfl, by decide, i_Mdl, rfl, Or.inl k_749⟩
theorem fl_Mdl_7 : x_fl R_Mdl 7 9 4 := ⟨_, _, _, rfl, by decide, i_Mdl, rfl, Or.inl k_723⟩
theorem fl_Mdl_53 : x_fl R_Mdl 53 9 18 := ⟨_, _, _, rfl, by decide, i_Mdl, rfl, Or.inl k_737⟩
theorem fl_Mdl_66 : x_fl R_Mdl 66 9 22 := ⟨_, _, _, rfl, by decide, i_Mdl, rfl, Or.inl k_741⟩
theorem fl_Mdl_75 : x_fl R_Mdl 75 9 25 := ⟨_, _, _, rfl, by decide, i_Mdl, rfl, Or.inl k_744⟩
theorem kc_Mdl_185 : x_kV R_Mdl 185 9 y_Mdl_covers prog_11_method_17_code 6 (some .boolean) 3 := ⟨_, rfl, k_862, k_864, ks_18, k_865, k_8, ⟨by decide +kernel, by decide +kernel, by decide +kernel⟩⟩
theorem fl_Mdl_81 : x_fl R_Mdl 81 9 28 := ⟨_, _, _, rfl, by decide, i_Mdl, rfl, Or.inl k_747⟩
theorem fl_Mdl_84 : x_fl R_Mdl 84 9 29 := ⟨_, _, _, rfl, by decide, i_Mdl, rfl, Or.inl k_748⟩
theorem fl_Mdl_72 : x_fl R_Mdl 72 9 24 := ⟨_, _, _, rfl, by decide, i_Mdl, rfl, Or.inl k_743⟩
theorem kc_Mdl_235 : x_kV R_Mdl 235 9 y_Mdl_answer prog_11_method_34_code 4 none 2 := ⟨_, rfl, k_866, k_868, ks_19, k_869, k_8, ⟨by decide +kernel, by decide +kernel, by decide +kernel⟩⟩
theorem kc_Mdl_173 : x_kS R_Mdl 173 y_Mdl_greater prog_11_method_3_code 2 (some .int) [] 2 := ⟨k_888, k_889, k_890, k_8, ⟨by decide +kernel, by decide +kernel, by decide +kernel⟩⟩
theorem fl_Mdl_102 : x_fl R_Mdl 102 9 35 := ⟨_, _, _, rfl, by decide, i_Mdl, rfl, Or.inl k_754⟩
theorem fl_Mdl_105 : x_fl R_Mdl 105 9 36 := ⟨_, _, _, rfl, by decide, i_Mdl, rfl, Or.inl k_755⟩
theorem fl_Mdl_96 : x_fl R_Mdl 96 9 33 := ⟨_, _, _, rfl, by decide, i_Mdl, rfl, Or.inl k_752⟩
theorem fl_Mdl_99 : x_fl R_Mdl 99 9 34 := ⟨_, _, _, rfl, by decide, i_Mdl, rfl, Or.inl k_753⟩
theorem kc_Mdl_228 : x_kV R_Mdl 228 9 y_Mdl_tell prog_11_method_31_code 9 (some .long) 3 := ⟨_, rfl, k_870, k_872, ks_20, k_873, k_8, ⟨by decide +kernel, by decide +kernel, by decide +kernel⟩⟩
theorem fl_Mdl_31 : x_fl R_Mdl 31 9 11 := ⟨_, _, _, rfl, by decide, i_Mdl, rfl, Or.inl k_730⟩
theorem fl_Mdl_43 : x_fl R_Mdl 43 9 15 := ⟨_, _, _, rfl, by decide, i_Mdl, rfl, Or.inl k_734⟩
theorem fl_Mdl_34 : x_fl R_Mdl 34 9 12 := ⟨_, _, _, rfl, by decide, i_Mdl, rfl, Or.inl k_731⟩
theorem fl_Mdl_37 : x_fl R_Mdl 37 9 13 := ⟨_, _, _, rfl, by decide, i_Mdl, rfl, Or.inl k_732⟩
theorem fl_Mdl_46 : x_fl R_Mdl 46 9 16 := ⟨_, _, _, rfl, by decide, i_Mdl, rfl, Or.inl k_735⟩
theorem fl_Mdl_50 : x_fl R_Mdl 50 9 17 := ⟨_, _, _, rfl, by decide, i_Mdl, rfl, Or.inl k_736⟩
theorem kc_Mdl_225 : x_kV R_Mdl 225 9 y_Mdl_ranked prog_11_method_32_code 8 (some .int) 2 := ⟨_, rfl, k_874, k_876, ks_21, k_877, k_8, ⟨by decide +kernel, by decide +kernel, by decide +kernel⟩⟩
theorem fl_Mdl_108 : x_fl R_Mdl 108 9 37 := ⟨_, _, _, rfl, by decide, i_Mdl, rfl, Or.inl k_756⟩
theorem kc_Mdl_177 : x_kS R_Mdl 177 y_Mdl_tokenOf prog_11_method_7_code 5 (some .long) [] 3 := ⟨k_878, k_879, k_880, k_8, ⟨by decide +kernel, by decide +kernel, by decide +kernel⟩⟩
theorem kc_Mdl_132 : x_kS R_Mdl 132 y_Mdl_check prog_11_method_6_code 2 (some .long) [] 1 := ⟨k_884, k_885, k_886, k_8, ⟨by decide +kernel, by decide +kernel, by decide +kernel⟩⟩
theorem fl_Mdl_111 : x_fl R_Mdl 111 9 38 := ⟨_, _, _, rfl, by decide, i_Mdl, rfl, Or.inl k_757⟩
theorem fl_Mdl_201 : x_fl R_Mdl 201 9 3 := ⟨_, _, _, rfl, by decide, i_Mdl, rfl, Or.inl k_722⟩
theorem fp_Mdl_121 : x_fp R_Mdl 121 9 2 .int false := ⟨_, _, _, t_Mdl, rfl, by decide, i_Mdl, rfl, t_Mdl_ok, n_Mdl, rfl, rfl, Or.inl ⟨rfl, Or.inl k_721⟩⟩
theorem kc_Mdl_152 : x_kS R_Mdl 152 y_Mdl_isSession prog_11_method_10_code 1 (some .boolean) [] 1 := ⟨k_846, k_847, k_848, k_8, ⟨by decide +kernel, by decide +kernel, by decide +kernel⟩⟩
theorem kc_Mdl_148 : x_kS R_Mdl 148 y_Mdl_in prog_11_method_5_code 6 (some .boolean) [] 3 := ⟨k_850, k_851, k_852, k_8, ⟨by decide +kernel, by decide +kernel, by decide +kernel⟩⟩
theorem fl_Mdl_69 : x_fl R_Mdl 69 9 23 := ⟨_, _, _, rfl, by decide, i_Mdl, rfl, Or.inl k_742⟩
theorem kc_Mdl_162 : x_kV R_Mdl 162 9 y_Mdl_isReplica prog_11_method_11_code 2 (some .boolean) 1 := ⟨_, rfl, k_895, k_897, ks_22, k_898, k_8, ⟨by decide +kernel, by decide +kernel, by decide +kernel⟩⟩
theorem fl_Mdl_28 : x_fl R_Mdl 28 9 10 := ⟨_, _, _, rfl, by decide, i_Mdl, rfl, Or.inl k_729⟩
theorem fl_Mdl_16 : x_fl R_Mdl 16 9 6 := ⟨_, _, _, rfl, by decide, i_Mdl, rfl, Or.inl k_725⟩
theorem fl_Mdl_19 : x_fl R_Mdl 19 9 7 := ⟨_, _, _, rfl, by decide, i_Mdl, rfl, Or.inl k_726⟩
theorem fl_Mdl_22 : x_fl R_Mdl 22 9 8 := ⟨_, _, _, rfl, by decide, i_Mdl, rfl, Or.inl k_727⟩
theorem fl_Mdl_25 : x_fl R_Mdl 25 9 9 := ⟨_, _, _, rfl, by decide, i_Mdl, rfl, Or.inl k_728⟩
theorem kc_Mdl_196 : x_kV R_Mdl 196 9 y_Mdl_advance prog_11_method_18_code 4 (some .int) 2 := ⟨_, rfl, k_915, k_917, ks_24, k_918, k_8, ⟨by decide +kernel, by decide +kernel, by decide +kernel⟩⟩
theorem kc_Mdl_189 : x_kV R_Mdl 189 9 y_Mdl_take prog_11_method_16_code 8 none 2 := ⟨_, rfl, k_919, k_921, ks_25, k_922, k_8, ⟨by decide +kernel, by decide +kernel, by decide +kernel⟩⟩
theorem kc_Mdl_182 : x_kS R_Mdl 182 y_Mdl_lesser prog_11_method_2_code 2 (some .int) [] 2 := ⟨k_924, k_925, k_926, k_8, ⟨by decide +kernel, by decide +kernel, by decide +kernel⟩⟩
theorem fl_Mdl_59 : x_fl R_Mdl 59 9 20 := ⟨_, _, _, rfl, by decide, i_Mdl, rfl, Or.inl k_739⟩
theorem kc_Mdl_193 : x_kV R_Mdl 193 9 y_Mdl_isPart prog_11_method_12_code 2 (some .boolean) 1 := ⟨_, rfl, k_911, k_913, ks_23, k_914, k_8, ⟨by decide +kernel, by decide +kernel, by decide +kernel⟩⟩
theorem fl_Mdl_56 : x_fl R_Mdl 56 9 19 := ⟨_, _, _, rfl, by decide, i_Mdl, rfl, Or.inl k_738⟩
theorem kc_Mdl_212 : x_kV R_Mdl 212 9 y_Mdl_tick prog_11_method_21_code 6 (some .int) 0 := ⟨_, rfl, k_937, k_939, ks_26, k_940, k_8, ⟨by decide +kernel, by decide +kernel, by decide +kernel⟩⟩
theorem fl_Mdl_93 : x_fl R_Mdl 93 9 32 := ⟨_, _, _, rfl, by decide, i_Mdl, rfl, Or.inl k_751⟩
theorem fl_Mdl_90 : x_fl R_Mdl 90 9 31 := ⟨_, _, _, rfl, by decide, i_Mdl, rfl, Or.inl k_750⟩
theorem kc_Mdl_207 : x_kV R_Mdl 207 9 y_Mdl_fail prog_11_method_22_code 2 none 1 := ⟨_, rfl, k_941, k_943, ks_27, k_944, k_8, ⟨by decide +kernel, by decide +kernel, by decide +kernel⟩⟩
theorem fp_Mdl_201 : x_fp R_Mdl 201 9 3 .int false := ⟨_, _, _, t_Mdl, rfl, by decide, i_Mdl, rfl, t_Mdl_ok, n_Mdl, rfl, rfl, Or.inl ⟨rfl, Or.inl k_722⟩⟩
theorem kc_Mdl_216 : x_kV R_Mdl 216 9 y_Mdl_copy prog_11_method_25_code 4 none 2 := ⟨_, rfl, k_953, k_955, ks_28, k_956, k_8, ⟨by decide +kernel, by decide +kernel, by decide +kernel⟩⟩
theorem kc_Mdl_219 : x_kV R_Mdl 219 9 y_Mdl_sum prog_11_method_26_code 2 (some .int) 1 := ⟨_, rfl, k_957, k_959, ks_29, k_960, k_8, ⟨by decide +kernel, by decide +kernel, by decide +kernel⟩⟩
theorem fl_Mdl_13 : x_fl R_Mdl 13 9 5 := ⟨_, _, _, rfl, by decide, i_Mdl, rfl, Or.inl k_724⟩
theorem fp_Mdl_204 : x_fp R_Mdl 204 9 26 .int false := ⟨_, _, _, t_Mdl, rfl, by decide, i_Mdl, rfl, t_Mdl_ok, n_Mdl, rfl, rfl, Or.inl ⟨rfl, Or.inl k_745⟩⟩
theorem kc_Mdl_246 : x_kV R_Mdl 246 9 y_Mdl_waiting prog_11_method_36_code 3 (some .int) 0 := ⟨_, rfl, k_989, k_991, ks_32, k_992, k_8, ⟨by decide +kernel, by decide +kernel, by decide +kernel⟩⟩
theorem kc_Mdl_142 : x_kS R_Mdl 142 y_Mdl_position prog_11_method_8_code 3 (some .int) [] 2 := ⟨k_979, k_980, k_981, k_8, ⟨by decide +kernel, by decide +kernel, by decide +kernel⟩⟩
theorem kc_Mdl_243 : x_kV R_Mdl 243 9 y_Mdl_isQuestion prog_11_method_30_code 3 (some .boolean) 2 := ⟨_, rfl, k_985, k_987, ks_31, k_988, k_8, ⟨by decide +kernel, by decide +kernel, by decide +kernel⟩⟩
theorem kc_Mdl_237 : x_kV R_Mdl 237 9 y_Mdl_isToken prog_11_method_9_code 7 (some .boolean) 1 := ⟨_, rfl, k_973, k_975, ks_30, k_976, k_8, ⟨by decide +kernel, by decide +kernel, by decide +kernel⟩⟩
theorem kc_law_164 : x_kS R_law 164 y_law_count method_21_code 4 (some .int) [(0, 9, 12, 13)] 3 := ⟨k_706, k_707, k_708, k_0, ⟨by decide +kernel, by decide +kernel, by decide +kernel⟩⟩
theorem kc_law_166 : x_kV R_law 166 9 y_Mdl_count prog_11_method_46_code 4 (some .int) 1 := ⟨_, rfl, k_1027, k_1028, k_1029, k_1030, k_8, ⟨by decide +kernel, by decide +kernel, by decide +kernel⟩⟩
theorem kc_law_97 : x_kV R_law 97 9 y_Mdl_thrown prog_11_method_4_code 1 (some .int) 0 := ⟨_, rfl, k_838, k_839, k_840, k_841, k_8, ⟨by decide +kernel, by decide +kernel, by decide +kernel⟩⟩
theorem kc_law_160 : x_kS R_law 160 y_law_told method_20_code 6 (some .int) [(0, 11, 14, 13), (0, 11, 18, 15)] 4 := ⟨k_699, k_700, k_701, k_0, ⟨by decide +kernel, by decide +kernel, by decide +kernel⟩⟩
theorem kc_law_163 : x_kV R_law 163 9 y_Mdl_told prog_11_method_45_code 4 (some .int) 2 := ⟨_, rfl, k_1023, k_1024, k_1025, k_1026, k_8, ⟨by decide +kernel, by decide +kernel, by decide +kernel⟩⟩
theorem kc_law_157 : x_kS R_law 157 y_law_session method_19_code 6 (some .int) [(0, 12, 15, 13)] 5 := ⟨k_692, k_693, k_694, k_0, ⟨by decide +kernel, by decide +kernel, by decide +kernel⟩⟩
theorem kc_law_159 : x_kV R_law 159 9 y_Mdl_session prog_11_method_44_code 4 (some .int) 3 := ⟨_, rfl, k_1019, k_1020, k_1021, k_1022, k_8, ⟨by decide +kernel, by decide +kernel, by decide +kernel⟩⟩
theorem kc_law_154 : x_kS R_law 154 y_law_logged method_18_code 6 (some .int) [(0, 12, 15, 13)] 5 := ⟨k_681, k_682, k_683, k_0, ⟨by decide +kernel, by decide +kernel, by decide +kernel⟩⟩
theorem kc_law_156 : x_kV R_law 156 9 y_Mdl_logged prog_11_method_43_code 5 (some .int) 3 := ⟨_, rfl, k_1014, k_1015, k_1016, k_1017, k_8, ⟨by decide +kernel, by decide +kernel, by decide +kernel⟩⟩
theorem kc_law_151 : x_kS R_law 151 y_law_log method_17_code 5 (some .int) [(0, 10, 13, 13)] 4 := ⟨k_674, k_675, k_676, k_0, ⟨by decide +kernel, by decide +kernel, by decide +kernel⟩⟩
theorem kc_law_153 : x_kV R_law 153 9 y_Mdl_log prog_11_method_42_code 3 (some .int) 2 := ⟨_, rfl, k_1010, k_1011, k_1012, k_1013, k_8, ⟨by decide +kernel, by decide +kernel, by decide +kernel⟩⟩
theorem kc_law_148 : x_kS R_law 148 y_law_kept method_16_code 5 (some .int) [(0, 10, 13, 13)] 4 := ⟨k_667, k_668, k_669, k_0, ⟨by decide +kernel, by decide +kernel, by decide +kernel⟩⟩
theorem kc_law_150 : x_kV R_law 150 9 y_Mdl_kept prog_11_method_41_code 3 (some .int) 2 := ⟨_, rfl, k_1006, k_1007, k_1008, k_1009, k_8, ⟨by decide +kernel, by decide +kernel, by decide +kernel⟩⟩
theorem kc_law_145 : x_kS R_law 145 y_law_at method_15_code 5 (some .int) [(0, 10, 13, 13)] 4 := ⟨k_660, k_661, k_662, k_0, ⟨by decide +kernel, by decide +kernel, by decide +kernel⟩⟩
theorem kc_law_147 : x_kV R_law 147 9 y_Mdl_at prog_11_method_40_code 3 (some .int) 2 := ⟨_, rfl, k_1002, k_1003, k_1004, k_1005, k_8, ⟨by decide +kernel, by decide +kernel, by decide +kernel⟩⟩
theorem kc_law_141 : x_kS R_law 141 y_law_value method_14_code 6 (some .int) [(0, 11, 14, 13)] 5 := ⟨k_653, k_654, k_655, k_0, ⟨by decide +kernel, by decide +kernel, by decide +kernel⟩⟩
theorem kc_law_144 : x_kV R_law 144 9 y_Mdl_value prog_11_method_39_code 4 (some .long) 3 := ⟨_, rfl, k_998, k_999, k_1000, k_1001, k_8, ⟨by decide +kernel, by decide +kernel, by decide +kernel⟩⟩
theorem kc_law_138 : x_kS R_law 138 y_law_read method_13_code 5 (some .int) [(0, 9, 12, 13)] 4 := ⟨k_642, k_643, k_644, k_0, ⟨by decide +kernel, by decide +kernel, by decide +kernel⟩⟩
theorem kc_law_140 : x_kV R_law 140 9 y_Mdl_read prog_11_method_38_code 3 (some .long) 2 := ⟨_, rfl, k_993, k_994, k_995, k_996, k_8, ⟨by decide +kernel, by decide +kernel, by decide +kernel⟩⟩
theorem kc_law_134 : x_kS R_law 134 y_law_ask method_12_code 10 (some .int) [(0, 19, 22, 13), (0, 19, 26, 15), (0, 19, 30, 24)] 8 := ⟨k_565, k_566, k_567, k_0, ⟨by decide +kernel, by decide +kernel, by decide +kernel⟩⟩
theorem kc_law_137 : x_kV R_law 137 9 y_Mdl_ask prog_11_method_37_code 11 (some .int) 6 := ⟨_, rfl, k_969, k_970, k_971, k_972, k_8, ⟨by decide +kernel, by decide +kernel, by decide +kernel⟩⟩
theorem kc_law_128 : x_kV R_law 128 0 y_RS_trim prog_1_method_21_code 8 (some .int) 0 := ⟨_, rfl, k_203, k_204, k_205, k_206, k_1, ⟨by decide +kernel, by decide +kernel, by decide +kernel⟩⟩
theorem kc_law_131 : x_kV R_law 131 9 y_Mdl_trim prog_11_method_29_code 5 (some .int) 0 := ⟨_, rfl, k_965, k_966, k_967, k_968, k_8, ⟨by decide +kernel, by decide +kernel, by decide +kernel⟩⟩
theorem kc_law_125 : x_kS R_law 125 y_law_crash method_11_code 4 (some .int) [(0, 9, 12, 13)] 3 := ⟨k_558, k_559, k_560, k_0, ⟨by decide +kernel, by decide +kernel, by decide +kernel⟩⟩
theorem kc_law_127 : x_kV R_law 127 9 y_Mdl_crash prog_11_method_28_code 3 (some .int) 1 := ⟨_, rfl, k_961, k_962, k_963, k_964, k_8, ⟨by decide +kernel, by decide +kernel, by decide +kernel⟩⟩
theorem kc_law_122 : x_kS R_law 122 y_law_snapshot method_10_code 4 (some .int) [(0, 9, 12, 13)] 3 := ⟨k_534, k_535, k_536, k_0, ⟨by decide +kernel, by decide +kernel, by decide +kernel⟩⟩
theorem kc_law_124 : x_kV R_law 124 9 y_Mdl_snapshot prog_11_method_27_code 2 (some .int) 1 := ⟨_, rfl, k_949, k_950, k_951, k_952, k_8, ⟨by decide +kernel, by decide +kernel, by decide +kernel⟩⟩
theorem kc_law_121 : x_kV R_law 121 9 y_Mdl_up prog_11_method_24_code 4 (some .boolean) 2 := ⟨_, rfl, k_945, k_946, k_947, k_948, k_8, ⟨by decide +kernel, by decide +kernel, by decide +kernel⟩⟩
theorem kc_law_118 : x_kS R_law 118 y_law_up method_9_code 5 (some .int) [(0, 17, 20, 13)] 4 := ⟨k_527, k_528, k_529, k_0, ⟨by decide +kernel, by decide +kernel, by decide +kernel⟩⟩
theorem kc_law_114 : x_kS R_law 114 y_law_ticks method_8_code 4 (some .int) [(0, 9, 12, 15)] 3 := ⟨k_511, k_512, k_513, k_0, ⟨by decide +kernel, by decide +kernel, by decide +kernel⟩⟩
theorem kc_law_117 : x_kV R_law 117 9 y_Mdl_ticks prog_11_method_23_code 4 (some .int) 1 := ⟨_, rfl, k_932, k_933, k_934, k_935, k_8, ⟨by decide +kernel, by decide +kernel, by decide +kernel⟩⟩
theorem kc_law_111 : x_kS R_law 111 y_law_speed method_7_code 5 (some .int) [(0, 10, 13, 13), (0, 10, 17, 15)] 4 := ⟨k_503, k_504, k_505, k_0, ⟨by decide +kernel, by decide +kernel, by decide +kernel⟩⟩
theorem kc_law_113 : x_kV R_law 113 9 y_Mdl_speed prog_11_method_20_code 4 (some .int) 2 := ⟨_, rfl, k_927, k_928, k_929, k_930, k_8, ⟨by decide +kernel, by decide +kernel, by decide +kernel⟩⟩
theorem kc_law_108 : x_kS R_law 108 y_law_step method_6_code 5 (some .int) [(0, 10, 13, 13)] 4 := ⟨k_479, k_480, k_481, k_0, ⟨by decide +kernel, by decide +kernel, by decide +kernel⟩⟩
theorem kc_law_110 : x_kV R_law 110 9 y_Mdl_step prog_11_method_19_code 3 (some .int) 2 := ⟨_, rfl, k_907, k_908, k_909, k_910, k_8, ⟨by decide +kernel, by decide +kernel, by decide +kernel⟩⟩
theorem kc_law_104 : x_kS R_law 104 y_law_command method_5_code 8 (some .int) [(0, 15, 18, 13), (0, 15, 22, 15), (0, 15, 26, 24)] 7 := ⟨k_417, k_418, k_419, k_0, ⟨by decide +kernel, by decide +kernel, by decide +kernel⟩⟩
theorem kc_law_107 : x_kV R_law 107 9 y_Mdl_command prog_11_method_15_code 11 (some .long) 5 := ⟨_, rfl, k_899, k_900, k_901, k_902, k_8, ⟨by decide +kernel, by decide +kernel, by decide +kernel⟩⟩
theorem kc_law_101 : x_kS R_law 101 y_law_home method_4_code 5 (some .int) [(0, 10, 13, 13)] 4 := ⟨k_406, k_407, k_408, k_0, ⟨by decide +kernel, by decide +kernel, by decide +kernel⟩⟩
theorem kc_law_103 : x_kV R_law 103 9 y_Mdl_home prog_11_method_14_code 4 (some .int) 2 := ⟨_, rfl, k_891, k_892, k_893, k_894, k_8, ⟨by decide +kernel, by decide +kernel, by decide +kernel⟩⟩
theorem kc_law_93 : x_kS R_law 93 y_law_mode method_3_code 5 (some .int) [(0, 10, 13, 13), (0, 10, 17, 15)] 4 := ⟨k_213, k_214, k_215, k_0, ⟨by decide +kernel, by decide +kernel, by decide +kernel⟩⟩
theorem kc_law_96 : x_kV R_law 96 9 y_Mdl_mode prog_11_method_13_code 5 (some .int) 2 := ⟨_, rfl, k_842, k_843, k_844, k_845, k_8, ⟨by decide +kernel, by decide +kernel, by decide +kernel⟩⟩
theorem nw_law_8 : x_nw R_law 8 0 11 z_RS := ⟨_, _, _, t_RS, rfl, i_RS, t_RS_ok, z_RS_ok, k_21, k_22, k_1⟩
theorem kc_law_81 : x_kS R_law 81 y_law_cell method_2_code 2 (some .int) [] 2 := ⟨k_210, k_211, k_212, k_0, ⟨by decide +kernel, by decide +kernel, by decide +kernel⟩⟩
theorem kc_law_87 : x_kI R_law 87 y_RS_init prog_1_method_2_code 4 2 := ⟨Or.inl k_23, rfl, k_24, k_25, k_1, ⟨by decide +kernel, by decide +kernel, by decide +kernel⟩⟩
theorem nw_law_90 : x_nw R_law 90 9 39 z_Mdl := ⟨_, _, _, t_Mdl, rfl, i_Mdl, t_Mdl_ok, z_Mdl_ok, k_713, k_714, k_8⟩
theorem kc_law_92 : x_kI R_law 92 y_Mdl_init prog_11_method_1_code 4 2 := ⟨Or.inl k_715, rfl, k_716, k_717, k_8, ⟨by decide +kernel, by decide +kernel, by decide +kernel⟩⟩
theorem ct_law : x_ct R_law [(13, 10), (15, 11), (24, 12)] := by
  intro q hq
  simp only [List.mem_cons, List.not_mem_nil, or_false] at hq
  rcases hq with rfl | rfl | rfl
  · exact ⟨R_EI, rfl, k_216, k_307⟩
  · exact ⟨R_EA, rfl, k_293, k_332⟩
  · exact ⟨R_ES, rfl, k_420, k_431⟩
