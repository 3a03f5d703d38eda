def R_RS : String := "ReadSide"
def F_RS : u_T := fun k => match k with
  | 0 => ("ReadSide", "partitions", "I", true)
  | 1 => ("ReadSide", "logs", "[LReadSide$Log;", true)
  | 2 => ("ReadSide", "replicas", "[LReadSide$Replica;", true)
  | 3 => ("ReadSide", "sessions", "[LReadSide$Session;", true)
  | 4 => ("ReadSide", "reads", "[LReadSide$Read;", true)
  | 5 => ("ReadSide", "asked", "I", false)
  | 6 => ("ReadSide", "waits", "[I", true)
  | 7 => ("ReadSide", "waiting", "I", false)
  | 8 => ("ReadSide", "answered", "I", false)
  | 9 => ("ReadSide", "failed", "I", false)
  | _ => ("ReadSide", "time", "J", false)
def t_RS : Nat → FieldType := fun k => match k with
  | 0 => .int
  | 1 => (.array (.object "ReadSide$Log"))
  | 2 => (.array (.object "ReadSide$Replica"))
  | 3 => (.array (.object "ReadSide$Session"))
  | 4 => (.array (.object "ReadSide$Read"))
  | 5 => .int
  | 6 => (.array .int)
  | 7 => .int
  | 8 => .int
  | 9 => .int
  | _ => .long
abbrev w_RS : List Cond := u_ws R_RS F_RS 11
theorem n_RS : ∀ a, a < 11 → ∀ b, b < 11 → a ≠ b → (F_RS a).2.1 ≠ (F_RS b).2.1 := by decide +kernel
theorem t_RS_ok : ∀ k, k < 11 → parseFieldDescriptor (F_RS k).2.2.1 = some (t_RS k) := by decide +kernel
abbrev z_RS : List Value := [.int 0, .null, .null, .null, .null, .int 0, .null, .int 0, .int 0, .int 0, .long 0]
theorem z_RS_ok : ∀ j, j < 11 → defaultValue (t_RS j) = vp_V z_RS j := by decide +kernel
def R_Cmd : String := "ReadSide$Command"
def F_Cmd : u_T := fun k => match k with
  | 0 => ("ReadSide$Command", "kind", "I", true)
  | 1 => ("ReadSide$Command", "item", "I", true)
  | 2 => ("ReadSide$Command", "customer", "I", true)
  | 3 => ("ReadSide$Command", "amount", "I", true)
  | _ => ("ReadSide$Command", "needs", "LReadSide$Vector;", true)
def t_Cmd : Nat → FieldType := fun k => match k with
  | 0 => .int
  | 1 => .int
  | 2 => .int
  | 3 => .int
  | _ => .object "ReadSide$Vector"
abbrev w_Cmd : List Cond := u_ws R_Cmd F_Cmd 5
theorem n_Cmd : ∀ a, a < 5 → ∀ b, b < 5 → a ≠ b → (F_Cmd a).2.1 ≠ (F_Cmd b).2.1 := by decide +kernel
theorem t_Cmd_ok : ∀ k, k < 5 → parseFieldDescriptor (F_Cmd k).2.2.1 = some (t_Cmd k) := by decide +kernel
abbrev z_Cmd : List Value := [.int 0, .int 0, .int 0, .int 0, .null]
theorem z_Cmd_ok : ∀ j, j < 5 → defaultValue (t_Cmd j) = vp_V z_Cmd j := by decide +kernel
def R_Item : String := "ReadSide$Item"
def F_Item : u_T := fun k => match k with
  | 0 => ("ReadSide$Item", "stock", "I", false)
  | 1 => ("ReadSide$Item", "reserved", "I", false)
  | 2 => ("ReadSide$Item", "sold", "I", false)
  | 3 => ("ReadSide$Item", "price", "I", false)
  | _ => ("ReadSide$Item", "held", "[I", true)
def t_Item : Nat → FieldType := fun k => match k with
  | 0 => .int
  | 1 => .int
  | 2 => .int
  | 3 => .int
  | _ => (.array .int)
abbrev w_Item : List Cond := u_ws R_Item F_Item 5
theorem n_Item : ∀ a, a < 5 → ∀ b, b < 5 → a ≠ b → (F_Item a).2.1 ≠ (F_Item b).2.1 := by decide +kernel
theorem t_Item_ok : ∀ k, k < 5 → parseFieldDescriptor (F_Item k).2.2.1 = some (t_Item k) := by decide +kernel
abbrev z_Item : List Value := [.int 0, .int 0, .int 0, .int 0, .null]
theorem z_Item_ok : ∀ j, j < 5 → defaultValue (t_Item j) = vp_V z_Item j := by decide +kernel
def R_Log : String := "ReadSide$Log"
def F_Log : u_T := fun k => match k with
  | 0 => ("ReadSide$Log", "row", "[LReadSide$Command;", true)
  | 1 => ("ReadSide$Log", "end", "I", false)
  | _ => ("ReadSide$Log", "trimmed", "I", false)
def t_Log : Nat → FieldType := fun k => match k with
  | 0 => (.array (.object "ReadSide$Command"))
  | 1 => .int
  | _ => .int
abbrev w_Log : List Cond := u_ws R_Log F_Log 3
theorem n_Log : ∀ a, a < 3 → ∀ b, b < 3 → a ≠ b → (F_Log a).2.1 ≠ (F_Log b).2.1 := by decide +kernel
theorem t_Log_ok : ∀ k, k < 3 → parseFieldDescriptor (F_Log k).2.2.1 = some (t_Log k) := by decide +kernel
abbrev z_Log : List Value := [.null, .int 0, .int 0]
theorem z_Log_ok : ∀ j, j < 3 → defaultValue (t_Log j) = vp_V z_Log j := by decide +kernel
def R_Read : String := "ReadSide$Read"
def F_Read : u_T := fun k => match k with
  | 0 => ("ReadSide$Read", "number", "I", true)
  | 1 => ("ReadSide$Read", "session", "I", true)
  | 2 => ("ReadSide$Read", "token", "LReadSide$Vector;", true)
  | 3 => ("ReadSide$Read", "stale", "I", true)
  | 4 => ("ReadSide$Read", "over", "J", true)
  | 5 => ("ReadSide$Read", "kind", "I", true)
  | 6 => ("ReadSide$Read", "a", "I", true)
  | 7 => ("ReadSide$Read", "state", "I", false)
  | 8 => ("ReadSide$Read", "replica", "I", false)
  | 9 => ("ReadSide$Read", "answer", "J", false)
  | 10 => ("ReadSide$Read", "vector", "J", false)
  | _ => ("ReadSide$Read", "time", "J", false)
def t_Read : Nat → FieldType := fun k => match k with
  | 0 => .int
  | 1 => .int
  | 2 => .object "ReadSide$Vector"
  | 3 => .int
  | 4 => .long
  | 5 => .int
  | 6 => .int
  | 7 => .int
  | 8 => .int
  | 9 => .long
  | 10 => .long
  | _ => .long
abbrev w_Read : List Cond := u_ws R_Read F_Read 12
theorem n_Read : ∀ a, a < 12 → ∀ b, b < 12 → a ≠ b → (F_Read a).2.1 ≠ (F_Read b).2.1 := by decide +kernel
theorem t_Read_ok : ∀ k, k < 12 → parseFieldDescriptor (F_Read k).2.2.1 = some (t_Read k) := by decide +kernel
abbrev z_Read : List Value := [.int 0, .int 0, .null, .int 0, .long 0, .int 0, .int 0, .int 0, .int 0, .long 0, .long 0, .long 0]
theorem z_Read_ok : ∀ j, j < 12 → defaultValue (t_Read j) = vp_V z_Read j := by decide +kernel
def R_Repl : String := "ReadSide$Replica"
def F_Repl : u_T := fun k => match k with
  | 0 => ("ReadSide$Replica", "state", "LReadSide$State;", true)
  | 1 => ("ReadSide$Replica", "kept", "LReadSide$State;", true)
  | 2 => ("ReadSide$Replica", "up", "Z", false)
  | 3 => ("ReadSide$Replica", "speed", "I", false)
  | _ => ("ReadSide$Replica", "next", "I", false)
def t_Repl : Nat → FieldType := fun k => match k with
  | 0 => .object "ReadSide$State"
  | 1 => .object "ReadSide$State"
  | 2 => .boolean
  | 3 => .int
  | _ => .int
abbrev w_Repl : List Cond := u_ws R_Repl F_Repl 5
theorem n_Repl : ∀ a, a < 5 → ∀ b, b < 5 → a ≠ b → (F_Repl a).2.1 ≠ (F_Repl b).2.1 := by decide +kernel
theorem t_Repl_ok : ∀ k, k < 5 → parseFieldDescriptor (F_Repl k).2.2.1 = some (t_Repl k) := by decide +kernel
abbrev z_Repl : List Value := [.null, .null, .int 0, .int 0, .int 0]
theorem z_Repl_ok : ∀ j, j < 5 → defaultValue (t_Repl j) = vp_V z_Repl j := by decide +kernel
def R_Sess : String := "ReadSide$Session"
def F_Sess : u_T := fun k => match k with
  | 0 => ("ReadSide$Session", "mode", "I", false)
  | 1 => ("ReadSide$Session", "home", "I", false)
  | 2 => ("ReadSide$Session", "wrote", "LReadSide$Vector;", true)
  | _ => ("ReadSide$Session", "saw", "LReadSide$Vector;", true)
def t_Sess : Nat → FieldType := fun k => match k with
  | 0 => .int
  | 1 => .int
  | 2 => .object "ReadSide$Vector"
  | _ => .object "ReadSide$Vector"
abbrev w_Sess : List Cond := u_ws R_Sess F_Sess 4
theorem n_Sess : ∀ a, a < 4 → ∀ b, b < 4 → a ≠ b → (F_Sess a).2.1 ≠ (F_Sess b).2.1 := by decide +kernel
theorem t_Sess_ok : ∀ k, k < 4 → parseFieldDescriptor (F_Sess k).2.2.1 = some (t_Sess k) := by decide +kernel
abbrev z_Sess : List Value := [.int 0, .int 0, .null, .null]
theorem z_Sess_ok : ∀ j, j < 4 → defaultValue (t_Sess j) = vp_V z_Sess j := by decide +kernel
def R_St : String := "ReadSide$State"
def F_St : u_T := fun k => match k with
  | 0 => ("ReadSide$State", "items", "[LReadSide$Item;", true)
  | 1 => ("ReadSide$State", "paid", "[J", true)
  | 2 => ("ReadSide$State", "refusals", "[I", true)
  | _ => ("ReadSide$State", "at", "LReadSide$Vector;", true)
def t_St : Nat → FieldType := fun k => match k with
  | 0 => (.array (.object "ReadSide$Item"))
  | 1 => (.array .long)
  | 2 => (.array .int)
  | _ => .object "ReadSide$Vector"
abbrev w_St : List Cond := u_ws R_St F_St 4
theorem n_St : ∀ a, a < 4 → ∀ b, b < 4 → a ≠ b → (F_St a).2.1 ≠ (F_St b).2.1 := by decide +kernel
theorem t_St_ok : ∀ k, k < 4 → parseFieldDescriptor (F_St k).2.2.1 = some (t_St k) := by decide +kernel
abbrev z_St : List Value := [.null, .null, .null, .null]
theorem z_St_ok : ∀ j, j < 4 → defaultValue (t_St j) = vp_V z_St j := by decide +kernel
def R_Vec : String := "ReadSide$Vector"
def F_Vec : u_T := fun k => match k with
  | _ => ("ReadSide$Vector", "row", "[I", true)
def t_Vec : Nat → FieldType := fun k => match k with
  | _ => (.array .int)
abbrev w_Vec : List Cond := u_ws R_Vec F_Vec 1
theorem n_Vec : ∀ a, a < 1 → ∀ b, b < 1 → a ≠ b → (F_Vec a).2.1 ≠ (F_Vec b).2.1 := by decide +kernel
theorem t_Vec_ok : ∀ k, k < 1 → parseFieldDescriptor (F_Vec k).2.2.1 = some (t_Vec k) := by decide +kernel
abbrev z_Vec : List Value := [.null]
theorem z_Vec_ok : ∀ j, j < 1 → defaultValue (t_Vec j) = vp_V z_Vec j := by decide +kernel
def R_Mdl : String := "ReadSideModel"
def F_Mdl : u_T := fun k => match k with
  | 0 => ("ReadSideModel", "parts", "I", true)
  | 1 => ("ReadSideModel", "replicas", "I", true)
  | 2 => ("ReadSideModel", "thrown", "I", false)
  | 3 => ("ReadSideModel", "time", "I", false)
  | 4 => ("ReadSideModel", "ends", "[I", true)
  | 5 => ("ReadSideModel", "trimmed", "[I", true)
  | 6 => ("ReadSideModel", "kinds", "[I", true)
  | 7 => ("ReadSideModel", "items", "[I", true)
  | 8 => ("ReadSideModel", "customers", "[I", true)
  | 9 => ("ReadSideModel", "amounts", "[I", true)
  | 10 => ("ReadSideModel", "needs", "[I", true)
  | 11 => ("ReadSideModel", "stock", "[I", true)
  | 12 => ("ReadSideModel", "reserved", "[I", true)
  | 13 => ("ReadSideModel", "sold", "[I", true)
  | 14 => ("ReadSideModel", "price", "[I", true)
  | 15 => ("ReadSideModel", "holds", "[I", true)
  | 16 => ("ReadSideModel", "paid", "[J", true)
  | 17 => ("ReadSideModel", "refusals", "[I", true)
  | 18 => ("ReadSideModel", "at", "[I", true)
  | 19 => ("ReadSideModel", "speeds", "[I", true)
  | 20 => ("ReadSideModel", "next", "[I", true)
  | 21 => ("ReadSideModel", "up", "[Z", true)
  | 22 => ("ReadSideModel", "modes", "[I", true)
  | 23 => ("ReadSideModel", "homes", "[I", true)
  | 24 => ("ReadSideModel", "wrote", "[I", true)
  | 25 => ("ReadSideModel", "saw", "[I", true)
  | 26 => ("ReadSideModel", "reads", "I", false)
  | 27 => ("ReadSideModel", "state", "[I", true)
  | 28 => ("ReadSideModel", "session", "[I", true)
  | 29 => ("ReadSideModel", "needed", "[I", true)
  | 30 => ("ReadSideModel", "stale", "[I", true)
  | 31 => ("ReadSideModel", "patience", "[I", true)
  | 32 => ("ReadSideModel", "asked", "[I", true)
  | 33 => ("ReadSideModel", "question", "[I", true)
  | 34 => ("ReadSideModel", "about", "[I", true)
  | 35 => ("ReadSideModel", "by", "[I", true)
  | 36 => ("ReadSideModel", "answer", "[J", true)
  | 37 => ("ReadSideModel", "vector", "[J", true)
  | _ => ("ReadSideModel", "ended", "[I", true)
def t_Mdl : Nat → FieldType := fun k => match k with
  | 0 => .int
  | 1 => .int
  | 2 => .int
  | 3 => .int
  | 4 => (.array .int)
  | 5 => (.array .int)
  | 6 => (.array .int)
  | 7 => (.array .int)
  | 8 => (.array .int)
  | 9 => (.array .int)
  | 10 => (.array .int)
  | 11 => (.array .int)
  | 12 => (.array .int)
  | 13 => (.array .int)
  | 14 => (.array .int)
  | 15 => (.array .int)
  | 16 => (.array .long)
  | 17 => (.array .int)
  | 18 => (.array .int)
  | 19 => (.array .int)
  | 20 => (.array .int)
  | 21 => (.array .boolean)
  | 22 => (.array .int)
  | 23 => (.array .int)
  | 24 => (.array .int)
  | 25 => (.array .int)
  | 26 => .int
  | 27 => (.array .int)
  | 28 => (.array .int)
  | 29 => (.array .int)
  | 30 => (.array .int)
  | 31 => (.array .int)
  | 32 => (.array .int)
  | 33 => (.array .int)
  | 34 => (.array .int)
  | 35 => (.array .int)
  | 36 => (.array .long)
  | 37 => (.array .long)
  | _ => (.array .int)
abbrev w_Mdl : List Cond := u_ws R_Mdl F_Mdl 39
theorem n_Mdl : ∀ a, a < 39 → ∀ b, b < 39 → a ≠ b → (F_Mdl a).2.1 ≠ (F_Mdl b).2.1 := by decide +kernel
theorem t_Mdl_ok : ∀ k, k < 39 → parseFieldDescriptor (F_Mdl k).2.2.1 = some (t_Mdl k) := by decide +kernel
abbrev z_Mdl : List Value := [.int 0, .int 0, .int 0, .int 0, .null, .null, .null, .null, .null, .null, .null, .null, .null, .null, .null, .null, .null, .null, .null, .null, .null, .null, .null, .null, .null, .null, .int 0, .null, .null, .null, .null, .null, .null, .null, .null, .null, .null, .null, .null]
theorem z_Mdl_ok : ∀ j, j < 39 → defaultValue (t_Mdl j) = vp_V z_Mdl j := by decide +kernel
def R_EI : String := "java/lang/IndexOutOfBoundsException"
def R_EA : String := "java/lang/IllegalArgumentException"
def R_ES : String := "java/lang/IllegalStateException"
def F_E : u_T := fun _ => ("", "", "", false)
/-- the classes whose objects are told of; an object names its class by its place here -/
def classes : List vw_C := [(R_RS, F_RS, 11), (R_Cmd, F_Cmd, 5), (R_Item, F_Item, 5), (R_Log, F_Log, 3), (R_Read, F_Read, 12), (R_Repl, F_Repl, 5), (R_Sess, F_Sess, 4), (R_St, F_St, 4), (R_Vec, F_Vec, 1), (R_Mdl, F_Mdl, 39), (R_EI, F_E, 0), (R_EA, F_E, 0), (R_ES, F_E, 0)]
def R_law : String := "ReadSideLaw"
