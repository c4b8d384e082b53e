section
-- ===== PART A: goes FIRST, ahead of the names: the tables' words, and 'selects' of the private methods out of them =====
/-- a private method of a class that the tables say can be made, by its rows of tables_1 -/
def lw_okq (q : MethodName × Nat) : Prop := (q.1.cls ≠ "java/lang/invoke/MethodHandle" ∧ q.1.cls ≠ "java/lang/invoke/VarHandle") ∧ Cond.instantiable q.1.cls q.2 ∈ tables_1 ∧ Cond.privateMethod q.1 ∈ tables_1 ∧ Cond.instanceMethod q.1 ∈ tables_1
theorem lw_p0 : lw_okq (⟨"WatchListModel", "limits", "()I"⟩, 24) := ⟨⟨by decide +kernel, by decide +kernel⟩, List.mem_of_getElem? (i := 289) (by decide +kernel), List.mem_of_getElem? (i := 379) (by decide +kernel), List.mem_of_getElem? (i := 380) (by decide +kernel)⟩
theorem lw_p1 : lw_okq (⟨"WatchListModel", "isThere", "(I)Z"⟩, 24) := ⟨⟨by decide +kernel, by decide +kernel⟩, List.mem_of_getElem? (i := 289) (by decide +kernel), List.mem_of_getElem? (i := 387) (by decide +kernel), List.mem_of_getElem? (i := 388) (by decide +kernel)⟩
theorem lw_p2 : lw_okq (⟨"WatchListModel", "waits", "(II)Z"⟩, 24) := ⟨⟨by decide +kernel, by decide +kernel⟩, List.mem_of_getElem? (i := 289) (by decide +kernel), List.mem_of_getElem? (i := 399) (by decide +kernel), List.mem_of_getElem? (i := 400) (by decide +kernel)⟩
def lw_privs_1 : List (MethodName × Nat) := [(⟨"WatchListModel", "limits", "()I"⟩, 24), (⟨"WatchListModel", "isThere", "(I)Z"⟩, 24), (⟨"WatchListModel", "waits", "(II)Z"⟩, 24)]
theorem lw_r1 : ∀ q ∈ lw_privs_1, lw_okq q := List.forall_mem_cons.mpr ⟨lw_p0, List.forall_mem_cons.mpr ⟨lw_p1, List.forall_mem_cons.mpr ⟨lw_p2, fun _ h => absurd h List.not_mem_nil⟩⟩⟩
def lw_privs : List (MethodName × Nat) := lw_privs_1
def lw_tbl : List Cond := k2_sels lw_privs ++ tables_1
theorem lw_privs_ok : ∀ q ∈ lw_privs, lw_okq q := lw_r1
/-- the words that go with every call -/
def lw_good : List Cond := lw_tbl.filter goodWord
def R_C : String := "WatchList"
def R_N : String := "WatchList$Numbers"
def R_E : String := "WatchList$Events"
def R_L : String := "WatchList$Limits"
def R_A : String := "WatchList$Actions"
def R_M : String := "WatchListModel"
def R_law : String := "WatchListLaw"
def R_V : String := "WatchList$Values"
def R_S : String := "java/lang/System"
def R_O : String := "java/lang/Object"
def y_C_init : MethodName := ⟨R_C, "<init>", "()V"⟩
def y_O_init : MethodName := ⟨R_O, "<init>", "()V"⟩
def y_N_init : MethodName := ⟨R_N, "<init>", "()V"⟩
def y_E_init : MethodName := ⟨R_E, "<init>", "()V"⟩
def y_L_init : MethodName := ⟨R_L, "<init>", "()V"⟩
def y_A_init : MethodName := ⟨R_A, "<init>", "()V"⟩
def y_C_set : MethodName := ⟨R_C, "set", "(II)Z"⟩
def y_C_add : MethodName := ⟨R_C, "add", "(IIIIIIZ)I"⟩
def y_L_add : MethodName := ⟨R_L, "add", "(IIIIIIZ)I"⟩
def y_E_is : MethodName := ⟨R_E, "is", "(I)Z"⟩
def y_C_remove : MethodName := ⟨R_C, "remove", "(I)I"⟩
def y_L_remove : MethodName := ⟨R_L, "remove", "(I)I"⟩
def y_L_is : MethodName := ⟨R_L, "is", "(I)Z"⟩
def y_C_enable : MethodName := ⟨R_C, "enable", "(IZ)I"⟩
def y_L_enable : MethodName := ⟨R_L, "enable", "(IZ)I"⟩
def y_C_watch : MethodName := ⟨R_C, "watch", "()I"⟩
def y_L_watch : MethodName := ⟨R_L, "watch", "(LWatchList$Values;LWatchList$Events;)Z"⟩
def y_V_value : MethodName := ⟨R_V, "value", "(I)I"⟩
def y_N_value : MethodName := ⟨R_N, "value", "(I)I"⟩
def y_E_raise : MethodName := ⟨R_E, "raise", "(II)Z"⟩
def y_C_linked : MethodName := ⟨R_C, "linked", "()Z"⟩
def y_C_raise : MethodName := ⟨R_C, "raise", "(II)Z"⟩
def y_C_work : MethodName := ⟨R_C, "work", "()I"⟩
def y_E_work : MethodName := ⟨R_E, "work", "()I"⟩
def y_C_lose : MethodName := ⟨R_C, "lose", "()I"⟩
def y_E_lose : MethodName := ⟨R_E, "lose", "()I"⟩
def y_C_tell : MethodName := ⟨R_C, "tell", "(IZ)I"⟩
def y_C_put : MethodName := ⟨R_C, "put", "(I)I"⟩
def y_C_act : MethodName := ⟨R_C, "act", "(I)I"⟩
def y_A_add : MethodName := ⟨R_A, "add", "(I[BII)I"⟩
def y_S_arraycopy : MethodName := ⟨R_S, "arraycopy", "(Ljava/lang/Object;ILjava/lang/Object;II)V"⟩
def y_C_drop : MethodName := ⟨R_C, "drop", "(I)I"⟩
def y_A_drop : MethodName := ⟨R_A, "drop", "(I)I"⟩
def y_C_arm : MethodName := ⟨R_C, "arm", "(IZ)I"⟩
def y_A_arm : MethodName := ⟨R_A, "arm", "(IZ)I"⟩
def y_C_limit : MethodName := ⟨R_C, "limit", "(II)I"⟩
def y_C_event : MethodName := ⟨R_C, "event", "(II)I"⟩
def y_C_actionAt : MethodName := ⟨R_C, "actionAt", "(II)I"⟩
def y_C_count : MethodName := ⟨R_C, "count", "(I)I"⟩
def y_M_init : MethodName := ⟨R_M, "<init>", "()V"⟩
def y_M_set : MethodName := ⟨R_M, "set", "(II)Z"⟩
def y_M_add : MethodName := ⟨R_M, "add", "(IIIIIIZ)I"⟩
def y_M_isIn : MethodName := ⟨R_M, "isIn", "(III)Z"⟩
def y_M_limits : MethodName := ⟨R_M, "limits", "()I"⟩
def y_M_remove : MethodName := ⟨R_M, "remove", "(I)I"⟩
def y_M_isThere : MethodName := ⟨R_M, "isThere", "(I)Z"⟩
def y_M_enable : MethodName := ⟨R_M, "enable", "(IZ)I"⟩
def y_M_watch : MethodName := ⟨R_M, "watch", "()I"⟩
def y_M_waits : MethodName := ⟨R_M, "waits", "(II)Z"⟩
def y_M_linked : MethodName := ⟨R_M, "linked", "()Z"⟩
def y_M_raise : MethodName := ⟨R_M, "raise", "(II)Z"⟩
def y_M_isEvent : MethodName := ⟨R_M, "isEvent", "(I)Z"⟩
def y_M_work : MethodName := ⟨R_M, "work", "()I"⟩
def y_M_lose : MethodName := ⟨R_M, "lose", "()I"⟩
def y_M_tell : MethodName := ⟨R_M, "tell", "(IZ)I"⟩
def y_M_put : MethodName := ⟨R_M, "put", "(I)I"⟩
def y_M_act : MethodName := ⟨R_M, "act", "(I)I"⟩
def y_M_drop : MethodName := ⟨R_M, "drop", "(I)I"⟩
def y_M_arm : MethodName := ⟨R_M, "arm", "(IZ)I"⟩
def y_M_limit : MethodName := ⟨R_M, "limit", "(II)I"⟩
def y_M_event : MethodName := ⟨R_M, "event", "(II)I"⟩
def y_M_actionAt : MethodName := ⟨R_M, "actionAt", "(II)I"⟩
def y_M_count : MethodName := ⟨R_M, "count", "(I)I"⟩
def F_N : u_T := fun k => match k with
  | _ => (R_N, "numbers", "[I", true)
def t_N : Nat → FieldType := fun k => match k with
  | _ => .array .int
theorem n_N : ∀ a, a < 1 → ∀ b, b < 1 → a ≠ b → (F_N a).2.1 ≠ (F_N b).2.1 := by decide +kernel
theorem t_N_ok : ∀ k, k < 1 → parseFieldDescriptor (F_N k).2.2.1 = some (t_N k) := by decide +kernel
def F_E : u_T := fun k => match k with
  | 0 => (R_E, "numbers", "[I", true)
  | 1 => (R_E, "values", "[I", true)
  | 2 => (R_E, "first", "I", false)
  | 3 => (R_E, "size", "I", false)
  | 4 => (R_E, "lost", "I", false)
  | 5 => (R_E, "silent", "[Z", true)
  | _ => (R_E, "value", "I", false)
def t_E : Nat → FieldType := fun k => match k with
  | 0 => .array .int
  | 1 => .array .int
  | 2 => .int
  | 3 => .int
  | 4 => .int
  | 5 => .array .boolean
  | _ => .int
theorem n_E : ∀ a, a < 7 → ∀ b, b < 7 → a ≠ b → (F_E a).2.1 ≠ (F_E b).2.1 := by decide +kernel
theorem t_E_ok : ∀ k, k < 7 → parseFieldDescriptor (F_E k).2.2.1 = some (t_E k) := by decide +kernel
def F_L : u_T := fun k => match k with
  | 0 => (R_L, "there", "[Z", true)
  | 1 => (R_L, "on", "[Z", true)
  | 2 => (R_L, "links", "[Z", true)
  | 3 => (R_L, "parameters", "[I", true)
  | 4 => (R_L, "times", "[I", true)
  | 5 => (R_L, "lows", "[I", true)
  | 6 => (R_L, "highs", "[I", true)
  | 7 => (R_L, "events", "[I", true)
  | 8 => (R_L, "counts", "[I", true)
  | 9 => (R_L, "size", "I", false)
  | _ => (R_L, "broken", "I", false)
def t_L : Nat → FieldType := fun k => match k with
  | 0 => .array .boolean
  | 1 => .array .boolean
  | 2 => .array .boolean
  | 3 => .array .int
  | 4 => .array .int
  | 5 => .array .int
  | 6 => .array .int
  | 7 => .array .int
  | 8 => .array .int
  | 9 => .int
  | _ => .int
theorem n_L : ∀ a, a < 11 → ∀ b, b < 11 → a ≠ b → (F_L a).2.1 ≠ (F_L b).2.1 := by decide +kernel
theorem t_L_ok : ∀ k, k < 11 → parseFieldDescriptor (F_L k).2.2.1 = some (t_L k) := by decide +kernel
def F_A : u_T := fun k => match k with
  | 0 => (R_A, "rows", "[[B", true)
  | 1 => (R_A, "sizes", "[I", true)
  | _ => (R_A, "on", "[Z", true)
def t_A : Nat → FieldType := fun k => match k with
  | 0 => .array (.array .byte)
  | 1 => .array .int
  | _ => .array .boolean
theorem n_A : ∀ a, a < 3 → ∀ b, b < 3 → a ≠ b → (F_A a).2.1 ≠ (F_A b).2.1 := by decide +kernel
theorem t_A_ok : ∀ k, k < 3 → parseFieldDescriptor (F_A k).2.2.1 = some (t_A k) := by decide +kernel
def F_C : u_T := fun k => match k with
  | 0 => (R_C, "numbers", "LWatchList$Numbers;", true)
  | 1 => (R_C, "events", "LWatchList$Events;", true)
  | 2 => (R_C, "limits", "LWatchList$Limits;", true)
  | 3 => (R_C, "actions", "LWatchList$Actions;", true)
  | 4 => (R_C, "text", "[B", true)
  | 5 => (R_C, "size", "I", false)
  | _ => (R_C, "linked", "Z", false)
def t_C : Nat → FieldType := fun k => match k with
  | 0 => .object "WatchList$Numbers"
  | 1 => .object "WatchList$Events"
  | 2 => .object "WatchList$Limits"
  | 3 => .object "WatchList$Actions"
  | 4 => .array .byte
  | 5 => .int
  | _ => .boolean
theorem n_C : ∀ a, a < 7 → ∀ b, b < 7 → a ≠ b → (F_C a).2.1 ≠ (F_C b).2.1 := by decide +kernel
theorem t_C_ok : ∀ k, k < 7 → parseFieldDescriptor (F_C k).2.2.1 = some (t_C k) := by decide +kernel
def F_M : u_T := fun k => match k with
  | 0 => (R_M, "thrown", "I", false)
  | 1 => (R_M, "parameters", "[I", true)
  | 2 => (R_M, "there", "[Z", true)
  | 3 => (R_M, "on", "[Z", true)
  | 4 => (R_M, "links", "[Z", true)
  | 5 => (R_M, "of", "[I", true)
  | 6 => (R_M, "times", "[I", true)
  | 7 => (R_M, "low", "[I", true)
  | 8 => (R_M, "high", "[I", true)
  | 9 => (R_M, "raises", "[I", true)
  | 10 => (R_M, "counts", "[I", true)
  | 11 => (R_M, "broken", "I", false)
  | 12 => (R_M, "linked", "Z", false)
  | 13 => (R_M, "waiting", "I", false)
  | 14 => (R_M, "events", "[I", true)
  | 15 => (R_M, "numbers", "[I", true)
  | 16 => (R_M, "lost", "I", false)
  | 17 => (R_M, "worked", "I", false)
  | 18 => (R_M, "silent", "[Z", true)
  | 19 => (R_M, "sizes", "[I", true)
  | 20 => (R_M, "armed", "[Z", true)
  | 21 => (R_M, "actions", "[B", true)
  | 22 => (R_M, "size", "I", false)
  | _ => (R_M, "text", "[B", true)
def t_M : Nat → FieldType := fun k => match k with
  | 0 => .int
  | 1 => .array .int
  | 2 => .array .boolean
  | 3 => .array .boolean
  | 4 => .array .boolean
  | 5 => .array .int
  | 6 => .array .int
  | 7 => .array .int
  | 8 => .array .int
  | 9 => .array .int
  | 10 => .array .int
  | 11 => .int
  | 12 => .boolean
  | 13 => .int
  | 14 => .array .int
  | 15 => .array .int
  | 16 => .int
  | 17 => .int
  | 18 => .array .boolean
  | 19 => .array .int
  | 20 => .array .boolean
  | 21 => .array .byte
  | 22 => .int
  | _ => .array .byte
theorem n_M : ∀ a, a < 24 → ∀ b, b < 24 → a ≠ b → (F_M a).2.1 ≠ (F_M b).2.1 := by decide +kernel
theorem t_M_ok : ∀ k, k < 24 → parseFieldDescriptor (F_M k).2.2.1 = some (t_M k) := by decide +kernel
abbrev classes : List vw_C := [(R_C, F_C, 7), (R_N, F_N, 1), (R_E, F_E, 7), (R_L, F_L, 11), (R_A, F_A, 3), (R_M, F_M, 24)]
theorem gw {w : Cond} (h : w ∈ lw_tbl) (g : goodWord w = true) : w ∈ lw_good := List.mem_filter.mpr ⟨h, g⟩
theorem tw_0 : Cond.initialized R_law ∈ lw_good := gw (List.mem_of_getElem? (i := 3) rfl) rfl
theorem tw_1 : Cond.initialized R_C ∈ lw_good := gw (List.mem_of_getElem? (i := 4) rfl) rfl
theorem tw_2 : Cond.initialized R_N ∈ lw_good := gw (List.mem_of_getElem? (i := 5) rfl) rfl
theorem tw_3 : Cond.initialized R_E ∈ lw_good := gw (List.mem_of_getElem? (i := 6) rfl) rfl
theorem tw_4 : Cond.initialized R_L ∈ lw_good := gw (List.mem_of_getElem? (i := 7) rfl) rfl
theorem tw_5 : Cond.initialized R_A ∈ lw_good := gw (List.mem_of_getElem? (i := 8) rfl) rfl
theorem tw_6 : Cond.initialized R_M ∈ lw_good := gw (List.mem_of_getElem? (i := 9) rfl) rfl
theorem tw_7 : Cond.initialized R_S ∈ lw_good := gw (List.mem_of_getElem? (i := 10) rfl) rfl
theorem tw_8 : Cond.classLink R_law 7 R_C ∈ lw_good := gw (List.mem_of_getElem? (i := 11) rfl) rfl
theorem tw_9 : Cond.instantiable R_C 7 ∈ lw_good := gw (List.mem_of_getElem? (i := 12) rfl) rfl
theorem tw_10 : Cond.methodLink R_law 9 y_C_init ∈ lw_good := gw (List.mem_of_getElem? (i := 13) rfl) rfl
theorem tw_11 : Cond.instanceMethod y_C_init ∈ lw_good := gw (List.mem_of_getElem? (i := 14) rfl) rfl
theorem tw_12 : Cond.code y_C_init prog_1_method_1_code 1 none ∈ lw_good := gw (List.mem_of_getElem? (i := 15) rfl) rfl
theorem tw_13 : Cond.methodLink R_C 1 y_O_init ∈ lw_good := gw (List.mem_of_getElem? (i := 16) rfl) rfl
theorem tw_14 : Cond.instanceMethod y_O_init ∈ lw_good := gw (List.mem_of_getElem? (i := 17) rfl) rfl
theorem tw_15 : Cond.code y_O_init object_method_1_code 1 none ∈ lw_good := gw (List.mem_of_getElem? (i := 18) rfl) rfl
theorem tw_16 : Cond.classLink R_C 7 R_N ∈ lw_good := gw (List.mem_of_getElem? (i := 19) rfl) rfl
theorem tw_17 : Cond.instantiable R_N 1 ∈ lw_good := gw (List.mem_of_getElem? (i := 20) rfl) rfl
theorem tn_18 : Cond.methodLinkNest R_C 9 y_N_init R_C ∈ lw_tbl := List.mem_of_getElem? (i := 21) rfl
theorem tw_19 : Cond.instanceMethod y_N_init ∈ lw_good := gw (List.mem_of_getElem? (i := 22) rfl) rfl
theorem tw_20 : Cond.code y_N_init prog_5_method_1_code 1 none ∈ lw_good := gw (List.mem_of_getElem? (i := 23) rfl) rfl
theorem tw_21 : Cond.methodLink R_N 3 y_O_init ∈ lw_good := gw (List.mem_of_getElem? (i := 24) rfl) rfl
theorem tw_22 : Cond.fieldLink R_N 9 R_N "numbers" "[I" ∈ lw_good := gw (List.mem_of_getElem? (i := 25) rfl) rfl
theorem tn_23 : Cond.fieldLinkNest R_C 41 R_N "numbers" "[I" R_C ∈ lw_tbl := List.mem_of_getElem? (i := 26) rfl
theorem tw_24 : Cond.laysFinal R_N R_N "numbers" "[I" ∈ lw_good := gw (List.mem_of_getElem? (i := 27) rfl) rfl
theorem tw_27 : Cond.arrayClass FieldType.int ∈ lw_good := gw (List.mem_of_getElem? (i := 30) rfl) rfl
theorem tw_28 : Cond.classLink R_C 16 R_E ∈ lw_good := gw (List.mem_of_getElem? (i := 31) rfl) rfl
theorem tw_29 : Cond.instantiable R_E 7 ∈ lw_good := gw (List.mem_of_getElem? (i := 32) rfl) rfl
theorem tn_30 : Cond.methodLinkNest R_C 18 y_E_init R_C ∈ lw_tbl := List.mem_of_getElem? (i := 33) rfl
theorem tw_31 : Cond.instanceMethod y_E_init ∈ lw_good := gw (List.mem_of_getElem? (i := 34) rfl) rfl
theorem tw_32 : Cond.code y_E_init prog_3_method_1_code 1 none ∈ lw_good := gw (List.mem_of_getElem? (i := 35) rfl) rfl
theorem tw_33 : Cond.methodLink R_E 3 y_O_init ∈ lw_good := gw (List.mem_of_getElem? (i := 36) rfl) rfl
theorem tw_34 : Cond.fieldLink R_E 11 R_E "numbers" "[I" ∈ lw_good := gw (List.mem_of_getElem? (i := 37) rfl) rfl
theorem tw_35 : Cond.fieldLink R_E 15 R_E "values" "[I" ∈ lw_good := gw (List.mem_of_getElem? (i := 38) rfl) rfl
theorem tw_36 : Cond.fieldLink R_E 29 R_E "first" "I" ∈ lw_good := gw (List.mem_of_getElem? (i := 39) rfl) rfl
theorem tw_37 : Cond.fieldLink R_E 22 R_E "size" "I" ∈ lw_good := gw (List.mem_of_getElem? (i := 40) rfl) rfl
theorem tn_38 : Cond.fieldLinkNest R_C 126 R_E "size" "I" R_C ∈ lw_tbl := List.mem_of_getElem? (i := 41) rfl
theorem tw_39 : Cond.fieldLink R_E 26 R_E "lost" "I" ∈ lw_good := gw (List.mem_of_getElem? (i := 42) rfl) rfl
theorem tn_40 : Cond.fieldLinkNest R_C 127 R_E "lost" "I" R_C ∈ lw_tbl := List.mem_of_getElem? (i := 43) rfl
theorem tw_41 : Cond.fieldLink R_E 18 R_E "silent" "[Z" ∈ lw_good := gw (List.mem_of_getElem? (i := 44) rfl) rfl
theorem tn_42 : Cond.fieldLinkNest R_C 83 R_E "silent" "[Z" R_C ∈ lw_tbl := List.mem_of_getElem? (i := 45) rfl
theorem tw_43 : Cond.fieldLink R_E 32 R_E "value" "I" ∈ lw_good := gw (List.mem_of_getElem? (i := 46) rfl) rfl
theorem tn_44 : Cond.fieldLinkNest R_C 130 R_E "value" "I" R_C ∈ lw_tbl := List.mem_of_getElem? (i := 47) rfl
theorem tw_45 : Cond.laysFinal R_E R_E "numbers" "[I" ∈ lw_good := gw (List.mem_of_getElem? (i := 48) rfl) rfl
theorem tw_47 : Cond.laysFinal R_E R_E "values" "[I" ∈ lw_good := gw (List.mem_of_getElem? (i := 50) rfl) rfl
theorem tw_49 : Cond.lays R_E R_E "first" "I" ∈ lw_good := gw (List.mem_of_getElem? (i := 52) rfl) rfl
theorem tw_51 : Cond.lays R_E R_E "size" "I" ∈ lw_good := gw (List.mem_of_getElem? (i := 54) rfl) rfl
theorem tw_53 : Cond.lays R_E R_E "lost" "I" ∈ lw_good := gw (List.mem_of_getElem? (i := 56) rfl) rfl
theorem tw_55 : Cond.laysFinal R_E R_E "silent" "[Z" ∈ lw_good := gw (List.mem_of_getElem? (i := 58) rfl) rfl
theorem tw_57 : Cond.lays R_E R_E "value" "I" ∈ lw_good := gw (List.mem_of_getElem? (i := 60) rfl) rfl
theorem tw_60 : Cond.arrayClass FieldType.boolean ∈ lw_good := gw (List.mem_of_getElem? (i := 63) rfl) rfl
theorem tw_61 : Cond.classLink R_C 23 R_L ∈ lw_good := gw (List.mem_of_getElem? (i := 64) rfl) rfl
theorem tw_62 : Cond.instantiable R_L 11 ∈ lw_good := gw (List.mem_of_getElem? (i := 65) rfl) rfl
theorem tn_63 : Cond.methodLinkNest R_C 25 y_L_init R_C ∈ lw_tbl := List.mem_of_getElem? (i := 66) rfl
theorem tw_64 : Cond.instanceMethod y_L_init ∈ lw_good := gw (List.mem_of_getElem? (i := 67) rfl) rfl
theorem tw_65 : Cond.code y_L_init prog_4_method_1_code 1 none ∈ lw_good := gw (List.mem_of_getElem? (i := 68) rfl) rfl
theorem tw_66 : Cond.methodLink R_L 3 y_O_init ∈ lw_good := gw (List.mem_of_getElem? (i := 69) rfl) rfl
theorem tw_67 : Cond.fieldLink R_L 11 R_L "there" "[Z" ∈ lw_good := gw (List.mem_of_getElem? (i := 70) rfl) rfl
theorem tw_68 : Cond.fieldLink R_L 15 R_L "on" "[Z" ∈ lw_good := gw (List.mem_of_getElem? (i := 71) rfl) rfl
theorem tn_69 : Cond.fieldLinkNest R_C 100 R_L "on" "[Z" R_C ∈ lw_tbl := List.mem_of_getElem? (i := 72) rfl
theorem tw_70 : Cond.fieldLink R_L 18 R_L "links" "[Z" ∈ lw_good := gw (List.mem_of_getElem? (i := 73) rfl) rfl
theorem tn_71 : Cond.fieldLinkNest R_C 114 R_L "links" "[Z" R_C ∈ lw_tbl := List.mem_of_getElem? (i := 74) rfl
theorem tw_72 : Cond.fieldLink R_L 21 R_L "parameters" "[I" ∈ lw_good := gw (List.mem_of_getElem? (i := 75) rfl) rfl
theorem tn_73 : Cond.fieldLinkNest R_C 106 R_L "parameters" "[I" R_C ∈ lw_tbl := List.mem_of_getElem? (i := 76) rfl
theorem tw_74 : Cond.fieldLink R_L 25 R_L "times" "[I" ∈ lw_good := gw (List.mem_of_getElem? (i := 77) rfl) rfl
theorem tn_75 : Cond.fieldLinkNest R_C 109 R_L "times" "[I" R_C ∈ lw_tbl := List.mem_of_getElem? (i := 78) rfl
theorem tw_76 : Cond.fieldLink R_L 28 R_L "lows" "[I" ∈ lw_good := gw (List.mem_of_getElem? (i := 79) rfl) rfl
theorem tw_77 : Cond.fieldLink R_L 31 R_L "highs" "[I" ∈ lw_good := gw (List.mem_of_getElem? (i := 80) rfl) rfl
theorem tw_78 : Cond.fieldLink R_L 34 R_L "events" "[I" ∈ lw_good := gw (List.mem_of_getElem? (i := 81) rfl) rfl
theorem tn_79 : Cond.fieldLinkNest R_C 112 R_L "events" "[I" R_C ∈ lw_tbl := List.mem_of_getElem? (i := 82) rfl
theorem tw_80 : Cond.fieldLink R_L 37 R_L "counts" "[I" ∈ lw_good := gw (List.mem_of_getElem? (i := 83) rfl) rfl
theorem tn_81 : Cond.fieldLinkNest R_C 103 R_L "counts" "[I" R_C ∈ lw_tbl := List.mem_of_getElem? (i := 84) rfl
theorem tw_82 : Cond.fieldLink R_L 46 R_L "size" "I" ∈ lw_good := gw (List.mem_of_getElem? (i := 85) rfl) rfl
theorem tn_83 : Cond.fieldLinkNest R_C 125 R_L "size" "I" R_C ∈ lw_tbl := List.mem_of_getElem? (i := 86) rfl
theorem tn_84 : Cond.fieldLinkNest R_C 56 R_L "broken" "I" R_C ∈ lw_tbl := List.mem_of_getElem? (i := 87) rfl
theorem tw_85 : Cond.fieldLink R_L 57 R_L "broken" "I" ∈ lw_good := gw (List.mem_of_getElem? (i := 88) rfl) rfl
theorem tw_86 : Cond.laysFinal R_L R_L "there" "[Z" ∈ lw_good := gw (List.mem_of_getElem? (i := 89) rfl) rfl
theorem tw_88 : Cond.laysFinal R_L R_L "on" "[Z" ∈ lw_good := gw (List.mem_of_getElem? (i := 91) rfl) rfl
theorem tw_90 : Cond.laysFinal R_L R_L "links" "[Z" ∈ lw_good := gw (List.mem_of_getElem? (i := 93) rfl) rfl
theorem tw_92 : Cond.laysFinal R_L R_L "parameters" "[I" ∈ lw_good := gw (List.mem_of_getElem? (i := 95) rfl) rfl
theorem tw_94 : Cond.laysFinal R_L R_L "times" "[I" ∈ lw_good := gw (List.mem_of_getElem? (i := 97) rfl) rfl
theorem tw_96 : Cond.laysFinal R_L R_L "lows" "[I" ∈ lw_good := gw (List.mem_of_getElem? (i := 99) rfl) rfl
theorem tw_98 : Cond.laysFinal R_L R_L "highs" "[I" ∈ lw_good := gw (List.mem_of_getElem? (i := 101) rfl) rfl
theorem tw_100 : Cond.laysFinal R_L R_L "events" "[I" ∈ lw_good := gw (List.mem_of_getElem? (i := 103) rfl) rfl
theorem tw_102 : Cond.laysFinal R_L R_L "counts" "[I" ∈ lw_good := gw (List.mem_of_getElem? (i := 105) rfl) rfl
theorem tw_104 : Cond.lays R_L R_L "size" "I" ∈ lw_good := gw (List.mem_of_getElem? (i := 107) rfl) rfl
theorem tw_106 : Cond.lays R_L R_L "broken" "I" ∈ lw_good := gw (List.mem_of_getElem? (i := 109) rfl) rfl
theorem tw_109 : Cond.classLink R_C 30 R_A ∈ lw_good := gw (List.mem_of_getElem? (i := 112) rfl) rfl
theorem tw_110 : Cond.instantiable R_A 3 ∈ lw_good := gw (List.mem_of_getElem? (i := 113) rfl) rfl
theorem tn_111 : Cond.methodLinkNest R_C 32 y_A_init R_C ∈ lw_tbl := List.mem_of_getElem? (i := 114) rfl
theorem tw_112 : Cond.instanceMethod y_A_init ∈ lw_good := gw (List.mem_of_getElem? (i := 115) rfl) rfl
theorem tw_113 : Cond.code y_A_init prog_2_method_1_code 1 none ∈ lw_good := gw (List.mem_of_getElem? (i := 116) rfl) rfl
theorem tw_114 : Cond.methodLink R_A 3 y_O_init ∈ lw_good := gw (List.mem_of_getElem? (i := 117) rfl) rfl
theorem tw_115 : Cond.classLink R_A 13 "[[B" ∈ lw_good := gw (List.mem_of_getElem? (i := 118) rfl) rfl
theorem tn_116 : Cond.arrayOver (FieldType.array FieldType.byte) ∈ lw_tbl := List.mem_of_getElem? (i := 119) rfl
theorem tw_117 : Cond.fieldLink R_A 15 R_A "rows" "[[B" ∈ lw_good := gw (List.mem_of_getElem? (i := 120) rfl) rfl
theorem tn_118 : Cond.fieldLinkNest R_C 121 R_A "rows" "[[B" R_C ∈ lw_tbl := List.mem_of_getElem? (i := 121) rfl
theorem tw_119 : Cond.fieldLink R_A 18 R_A "sizes" "[I" ∈ lw_good := gw (List.mem_of_getElem? (i := 122) rfl) rfl
theorem tn_120 : Cond.fieldLinkNest R_C 117 R_A "sizes" "[I" R_C ∈ lw_tbl := List.mem_of_getElem? (i := 123) rfl
theorem tw_121 : Cond.fieldLink R_A 22 R_A "on" "[Z" ∈ lw_good := gw (List.mem_of_getElem? (i := 124) rfl) rfl
theorem tn_122 : Cond.fieldLinkNest R_C 120 R_A "on" "[Z" R_C ∈ lw_tbl := List.mem_of_getElem? (i := 125) rfl
theorem tw_123 : Cond.laysFinal R_A R_A "rows" "[[B" ∈ lw_good := gw (List.mem_of_getElem? (i := 126) rfl) rfl
theorem tw_125 : Cond.laysFinal R_A R_A "sizes" "[I" ∈ lw_good := gw (List.mem_of_getElem? (i := 128) rfl) rfl
theorem tw_127 : Cond.laysFinal R_A R_A "on" "[Z" ∈ lw_good := gw (List.mem_of_getElem? (i := 130) rfl) rfl
theorem tw_130 : Cond.arrayClass FieldType.byte ∈ lw_good := gw (List.mem_of_getElem? (i := 133) rfl) rfl
theorem tw_131 : Cond.fieldLink R_C 10 R_C "numbers" "LWatchList$Numbers;" ∈ lw_good := gw (List.mem_of_getElem? (i := 134) rfl) rfl
theorem tw_132 : Cond.fieldLink R_C 19 R_C "events" "LWatchList$Events;" ∈ lw_good := gw (List.mem_of_getElem? (i := 135) rfl) rfl
theorem tw_133 : Cond.fieldLink R_C 26 R_C "limits" "LWatchList$Limits;" ∈ lw_good := gw (List.mem_of_getElem? (i := 136) rfl) rfl
theorem tw_134 : Cond.fieldLink R_C 33 R_C "actions" "LWatchList$Actions;" ∈ lw_good := gw (List.mem_of_getElem? (i := 137) rfl) rfl
theorem tw_135 : Cond.fieldLink R_C 37 R_C "text" "[B" ∈ lw_good := gw (List.mem_of_getElem? (i := 138) rfl) rfl
theorem tw_136 : Cond.fieldLink R_C 87 R_C "size" "I" ∈ lw_good := gw (List.mem_of_getElem? (i := 139) rfl) rfl
theorem tw_137 : Cond.fieldLink R_C 64 R_C "linked" "Z" ∈ lw_good := gw (List.mem_of_getElem? (i := 140) rfl) rfl
theorem tw_138 : Cond.laysFinal R_C R_C "numbers" "LWatchList$Numbers;" ∈ lw_good := gw (List.mem_of_getElem? (i := 141) rfl) rfl
theorem tw_140 : Cond.laysFinal R_C R_C "events" "LWatchList$Events;" ∈ lw_good := gw (List.mem_of_getElem? (i := 143) rfl) rfl
theorem tw_142 : Cond.laysFinal R_C R_C "limits" "LWatchList$Limits;" ∈ lw_good := gw (List.mem_of_getElem? (i := 145) rfl) rfl
theorem tw_144 : Cond.laysFinal R_C R_C "actions" "LWatchList$Actions;" ∈ lw_good := gw (List.mem_of_getElem? (i := 147) rfl) rfl
theorem tw_146 : Cond.laysFinal R_C R_C "text" "[B" ∈ lw_good := gw (List.mem_of_getElem? (i := 149) rfl) rfl
theorem tw_148 : Cond.lays R_C R_C "size" "I" ∈ lw_good := gw (List.mem_of_getElem? (i := 151) rfl) rfl
theorem tw_150 : Cond.lays R_C R_C "linked" "Z" ∈ lw_good := gw (List.mem_of_getElem? (i := 153) rfl) rfl
theorem tw_153 : Cond.methodLink R_law 13 y_C_set ∈ lw_good := gw (List.mem_of_getElem? (i := 156) rfl) rfl
theorem tw_154 : Cond.instanceMethod y_C_set ∈ lw_good := gw (List.mem_of_getElem? (i := 157) rfl) rfl
theorem tw_155 : Cond.selects R_C y_C_set y_C_set ∈ lw_good := gw (List.mem_of_getElem? (i := 158) rfl) rfl
theorem tw_156 : Cond.code y_C_set prog_1_method_2_code 3 (some .boolean) ∈ lw_good := gw (List.mem_of_getElem? (i := 159) rfl) rfl
theorem tw_157 : Cond.methodLink R_law 18 y_C_add ∈ lw_good := gw (List.mem_of_getElem? (i := 160) rfl) rfl
theorem tw_158 : Cond.instanceMethod y_C_add ∈ lw_good := gw (List.mem_of_getElem? (i := 161) rfl) rfl
theorem tw_159 : Cond.selects R_C y_C_add y_C_add ∈ lw_good := gw (List.mem_of_getElem? (i := 162) rfl) rfl
theorem tw_160 : Cond.code y_C_add prog_1_method_3_code 8 (some .int) ∈ lw_good := gw (List.mem_of_getElem? (i := 163) rfl) rfl
theorem tw_161 : Cond.methodLink R_C 44 y_L_add ∈ lw_good := gw (List.mem_of_getElem? (i := 164) rfl) rfl
theorem tw_162 : Cond.instanceMethod y_L_add ∈ lw_good := gw (List.mem_of_getElem? (i := 165) rfl) rfl
theorem tw_163 : Cond.selects R_L y_L_add y_L_add ∈ lw_good := gw (List.mem_of_getElem? (i := 166) rfl) rfl
theorem tw_164 : Cond.code y_L_add prog_4_method_3_code 8 (some .int) ∈ lw_good := gw (List.mem_of_getElem? (i := 167) rfl) rfl
theorem tw_165 : Cond.methodLink R_L 40 y_E_is ∈ lw_good := gw (List.mem_of_getElem? (i := 168) rfl) rfl
theorem tw_166 : Cond.static y_E_is ∈ lw_good := gw (List.mem_of_getElem? (i := 169) rfl) rfl
theorem tw_167 : Cond.code y_E_is prog_3_method_2_code 1 (some .boolean) ∈ lw_good := gw (List.mem_of_getElem? (i := 170) rfl) rfl
theorem tw_168 : Cond.methodLink R_law 23 y_C_remove ∈ lw_good := gw (List.mem_of_getElem? (i := 171) rfl) rfl
theorem tw_169 : Cond.instanceMethod y_C_remove ∈ lw_good := gw (List.mem_of_getElem? (i := 172) rfl) rfl
theorem tw_170 : Cond.selects R_C y_C_remove y_C_remove ∈ lw_good := gw (List.mem_of_getElem? (i := 173) rfl) rfl
theorem tw_171 : Cond.code y_C_remove prog_1_method_4_code 2 (some .int) ∈ lw_good := gw (List.mem_of_getElem? (i := 174) rfl) rfl
theorem tw_172 : Cond.methodLink R_C 48 y_L_remove ∈ lw_good := gw (List.mem_of_getElem? (i := 175) rfl) rfl
theorem tw_173 : Cond.instanceMethod y_L_remove ∈ lw_good := gw (List.mem_of_getElem? (i := 176) rfl) rfl
theorem tw_174 : Cond.selects R_L y_L_remove y_L_remove ∈ lw_good := gw (List.mem_of_getElem? (i := 177) rfl) rfl
theorem tw_175 : Cond.code y_L_remove prog_4_method_4_code 2 (some .int) ∈ lw_good := gw (List.mem_of_getElem? (i := 178) rfl) rfl
theorem tw_176 : Cond.methodLink R_L 50 y_L_is ∈ lw_good := gw (List.mem_of_getElem? (i := 179) rfl) rfl
theorem tw_177 : Cond.instanceMethod y_L_is ∈ lw_good := gw (List.mem_of_getElem? (i := 180) rfl) rfl
theorem tw_178 : Cond.selects R_L y_L_is y_L_is ∈ lw_good := gw (List.mem_of_getElem? (i := 181) rfl) rfl
theorem tw_179 : Cond.code y_L_is prog_4_method_2_code 2 (some .boolean) ∈ lw_good := gw (List.mem_of_getElem? (i := 182) rfl) rfl
theorem tw_180 : Cond.methodLink R_law 28 y_C_enable ∈ lw_good := gw (List.mem_of_getElem? (i := 183) rfl) rfl
theorem tw_181 : Cond.instanceMethod y_C_enable ∈ lw_good := gw (List.mem_of_getElem? (i := 184) rfl) rfl
theorem tw_182 : Cond.selects R_C y_C_enable y_C_enable ∈ lw_good := gw (List.mem_of_getElem? (i := 185) rfl) rfl
theorem tw_183 : Cond.code y_C_enable prog_1_method_5_code 3 (some .int) ∈ lw_good := gw (List.mem_of_getElem? (i := 186) rfl) rfl
theorem tw_184 : Cond.methodLink R_C 52 y_L_enable ∈ lw_good := gw (List.mem_of_getElem? (i := 187) rfl) rfl
theorem tw_185 : Cond.instanceMethod y_L_enable ∈ lw_good := gw (List.mem_of_getElem? (i := 188) rfl) rfl
theorem tw_186 : Cond.selects R_L y_L_enable y_L_enable ∈ lw_good := gw (List.mem_of_getElem? (i := 189) rfl) rfl
theorem tw_187 : Cond.code y_L_enable prog_4_method_5_code 3 (some .int) ∈ lw_good := gw (List.mem_of_getElem? (i := 190) rfl) rfl
theorem tw_188 : Cond.methodLink R_law 33 y_C_watch ∈ lw_good := gw (List.mem_of_getElem? (i := 191) rfl) rfl
theorem tw_189 : Cond.instanceMethod y_C_watch ∈ lw_good := gw (List.mem_of_getElem? (i := 192) rfl) rfl
theorem tw_190 : Cond.selects R_C y_C_watch y_C_watch ∈ lw_good := gw (List.mem_of_getElem? (i := 193) rfl) rfl
theorem tw_191 : Cond.code y_C_watch prog_1_method_6_code 2 (some .int) ∈ lw_good := gw (List.mem_of_getElem? (i := 194) rfl) rfl
theorem tw_192 : Cond.methodLink R_C 60 y_L_watch ∈ lw_good := gw (List.mem_of_getElem? (i := 195) rfl) rfl
theorem tw_193 : Cond.instanceMethod y_L_watch ∈ lw_good := gw (List.mem_of_getElem? (i := 196) rfl) rfl
theorem tw_194 : Cond.selects R_L y_L_watch y_L_watch ∈ lw_good := gw (List.mem_of_getElem? (i := 197) rfl) rfl
theorem tw_195 : Cond.code y_L_watch prog_4_method_6_code 7 (some .boolean) ∈ lw_good := gw (List.mem_of_getElem? (i := 198) rfl) rfl
theorem tn_196 : Cond.interfaceEntry R_L 51 ∈ lw_tbl := List.mem_of_getElem? (i := 199) rfl
theorem tw_197 : Cond.methodLink R_L 51 y_V_value ∈ lw_good := gw (List.mem_of_getElem? (i := 200) rfl) rfl
theorem tn_198 : Cond.interfaceMethod R_V R_V "value" "(I)I" ∈ lw_tbl := List.mem_of_getElem? (i := 201) rfl
theorem tn_199 : Cond.declares y_V_value ∈ lw_tbl := List.mem_of_getElem? (i := 202) rfl
theorem tn_200 : Cond.castable R_N R_V ∈ lw_tbl := List.mem_of_getElem? (i := 203) rfl
theorem tw_201 : Cond.selects R_N y_V_value y_N_value ∈ lw_good := gw (List.mem_of_getElem? (i := 204) rfl) rfl
theorem tn_202 : Cond.unhidden R_N "value" "(I)I" ∈ lw_tbl := List.mem_of_getElem? (i := 205) rfl
theorem tw_203 : Cond.instanceMethod y_N_value ∈ lw_good := gw (List.mem_of_getElem? (i := 206) rfl) rfl
theorem tn_204 : Cond.publicMethod y_N_value ∈ lw_tbl := List.mem_of_getElem? (i := 207) rfl
theorem tw_205 : Cond.code y_N_value prog_5_method_2_code 2 (some .int) ∈ lw_good := gw (List.mem_of_getElem? (i := 208) rfl) rfl
theorem tw_206 : Cond.methodLink R_L 60 y_E_raise ∈ lw_good := gw (List.mem_of_getElem? (i := 209) rfl) rfl
theorem tw_207 : Cond.instanceMethod y_E_raise ∈ lw_good := gw (List.mem_of_getElem? (i := 210) rfl) rfl
theorem tw_208 : Cond.selects R_E y_E_raise y_E_raise ∈ lw_good := gw (List.mem_of_getElem? (i := 211) rfl) rfl
theorem tw_209 : Cond.code y_E_raise prog_3_method_3_code 4 (some .boolean) ∈ lw_good := gw (List.mem_of_getElem? (i := 212) rfl) rfl
theorem tw_210 : Cond.methodLink R_law 38 y_C_linked ∈ lw_good := gw (List.mem_of_getElem? (i := 213) rfl) rfl
theorem tw_211 : Cond.instanceMethod y_C_linked ∈ lw_good := gw (List.mem_of_getElem? (i := 214) rfl) rfl
theorem tw_212 : Cond.selects R_C y_C_linked y_C_linked ∈ lw_good := gw (List.mem_of_getElem? (i := 215) rfl) rfl
theorem tw_213 : Cond.code y_C_linked prog_1_method_7_code 1 (some .boolean) ∈ lw_good := gw (List.mem_of_getElem? (i := 216) rfl) rfl
theorem tw_214 : Cond.methodLink R_law 43 y_C_raise ∈ lw_good := gw (List.mem_of_getElem? (i := 217) rfl) rfl
theorem tw_215 : Cond.instanceMethod y_C_raise ∈ lw_good := gw (List.mem_of_getElem? (i := 218) rfl) rfl
theorem tw_216 : Cond.selects R_C y_C_raise y_C_raise ∈ lw_good := gw (List.mem_of_getElem? (i := 219) rfl) rfl
theorem tw_217 : Cond.code y_C_raise prog_1_method_8_code 3 (some .boolean) ∈ lw_good := gw (List.mem_of_getElem? (i := 220) rfl) rfl
theorem tw_218 : Cond.methodLink R_C 68 y_E_is ∈ lw_good := gw (List.mem_of_getElem? (i := 221) rfl) rfl
theorem tw_219 : Cond.methodLink R_C 72 y_E_raise ∈ lw_good := gw (List.mem_of_getElem? (i := 222) rfl) rfl
theorem tw_220 : Cond.methodLink R_law 47 y_C_work ∈ lw_good := gw (List.mem_of_getElem? (i := 223) rfl) rfl
theorem tw_221 : Cond.instanceMethod y_C_work ∈ lw_good := gw (List.mem_of_getElem? (i := 224) rfl) rfl
theorem tw_222 : Cond.selects R_C y_C_work y_C_work ∈ lw_good := gw (List.mem_of_getElem? (i := 225) rfl) rfl
theorem tw_223 : Cond.code y_C_work prog_1_method_9_code 1 (some .int) ∈ lw_good := gw (List.mem_of_getElem? (i := 226) rfl) rfl
theorem tw_224 : Cond.methodLink R_C 76 y_E_work ∈ lw_good := gw (List.mem_of_getElem? (i := 227) rfl) rfl
theorem tw_225 : Cond.instanceMethod y_E_work ∈ lw_good := gw (List.mem_of_getElem? (i := 228) rfl) rfl
theorem tw_226 : Cond.selects R_E y_E_work y_E_work ∈ lw_good := gw (List.mem_of_getElem? (i := 229) rfl) rfl
theorem tw_227 : Cond.code y_E_work prog_3_method_4_code 2 (some .int) ∈ lw_good := gw (List.mem_of_getElem? (i := 230) rfl) rfl
theorem tw_228 : Cond.methodLink R_law 51 y_C_lose ∈ lw_good := gw (List.mem_of_getElem? (i := 231) rfl) rfl
theorem tw_229 : Cond.instanceMethod y_C_lose ∈ lw_good := gw (List.mem_of_getElem? (i := 232) rfl) rfl
theorem tw_230 : Cond.selects R_C y_C_lose y_C_lose ∈ lw_good := gw (List.mem_of_getElem? (i := 233) rfl) rfl
theorem tw_231 : Cond.code y_C_lose prog_1_method_10_code 1 (some .int) ∈ lw_good := gw (List.mem_of_getElem? (i := 234) rfl) rfl
theorem tw_232 : Cond.methodLink R_C 80 y_E_lose ∈ lw_good := gw (List.mem_of_getElem? (i := 235) rfl) rfl
theorem tw_233 : Cond.instanceMethod y_E_lose ∈ lw_good := gw (List.mem_of_getElem? (i := 236) rfl) rfl
theorem tw_234 : Cond.selects R_E y_E_lose y_E_lose ∈ lw_good := gw (List.mem_of_getElem? (i := 237) rfl) rfl
theorem tw_235 : Cond.code y_E_lose prog_3_method_5_code 2 (some .int) ∈ lw_good := gw (List.mem_of_getElem? (i := 238) rfl) rfl
theorem tw_236 : Cond.methodLink R_law 55 y_C_tell ∈ lw_good := gw (List.mem_of_getElem? (i := 239) rfl) rfl
theorem tw_237 : Cond.instanceMethod y_C_tell ∈ lw_good := gw (List.mem_of_getElem? (i := 240) rfl) rfl
theorem tw_238 : Cond.selects R_C y_C_tell y_C_tell ∈ lw_good := gw (List.mem_of_getElem? (i := 241) rfl) rfl
theorem tw_239 : Cond.code y_C_tell prog_1_method_11_code 3 (some .int) ∈ lw_good := gw (List.mem_of_getElem? (i := 242) rfl) rfl
theorem tw_240 : Cond.methodLink R_law 59 y_C_put ∈ lw_good := gw (List.mem_of_getElem? (i := 243) rfl) rfl
theorem tw_241 : Cond.instanceMethod y_C_put ∈ lw_good := gw (List.mem_of_getElem? (i := 244) rfl) rfl
theorem tw_242 : Cond.selects R_C y_C_put y_C_put ∈ lw_good := gw (List.mem_of_getElem? (i := 245) rfl) rfl
theorem tw_243 : Cond.code y_C_put prog_1_method_12_code 2 (some .int) ∈ lw_good := gw (List.mem_of_getElem? (i := 246) rfl) rfl
theorem tw_244 : Cond.methodLink R_law 63 y_C_act ∈ lw_good := gw (List.mem_of_getElem? (i := 247) rfl) rfl
theorem tw_245 : Cond.instanceMethod y_C_act ∈ lw_good := gw (List.mem_of_getElem? (i := 248) rfl) rfl
theorem tw_246 : Cond.selects R_C y_C_act y_C_act ∈ lw_good := gw (List.mem_of_getElem? (i := 249) rfl) rfl
theorem tw_247 : Cond.code y_C_act prog_1_method_13_code 3 (some .int) ∈ lw_good := gw (List.mem_of_getElem? (i := 250) rfl) rfl
theorem tw_248 : Cond.methodLink R_C 90 y_A_add ∈ lw_good := gw (List.mem_of_getElem? (i := 251) rfl) rfl
theorem tw_249 : Cond.instanceMethod y_A_add ∈ lw_good := gw (List.mem_of_getElem? (i := 252) rfl) rfl
theorem tw_250 : Cond.selects R_A y_A_add y_A_add ∈ lw_good := gw (List.mem_of_getElem? (i := 253) rfl) rfl
theorem tw_251 : Cond.code y_A_add prog_2_method_2_code 5 (some .int) ∈ lw_good := gw (List.mem_of_getElem? (i := 254) rfl) rfl
theorem tw_252 : Cond.methodLink R_A 26 y_S_arraycopy ∈ lw_good := gw (List.mem_of_getElem? (i := 255) rfl) rfl
theorem tw_253 : Cond.static y_S_arraycopy ∈ lw_good := gw (List.mem_of_getElem? (i := 256) rfl) rfl
theorem tw_254 : Cond.native y_S_arraycopy ∈ lw_good := gw (List.mem_of_getElem? (i := 257) rfl) rfl
theorem tw_255 : Cond.methodLink R_law 67 y_C_drop ∈ lw_good := gw (List.mem_of_getElem? (i := 258) rfl) rfl
theorem tw_256 : Cond.instanceMethod y_C_drop ∈ lw_good := gw (List.mem_of_getElem? (i := 259) rfl) rfl
theorem tw_257 : Cond.selects R_C y_C_drop y_C_drop ∈ lw_good := gw (List.mem_of_getElem? (i := 260) rfl) rfl
theorem tw_258 : Cond.code y_C_drop prog_1_method_14_code 2 (some .int) ∈ lw_good := gw (List.mem_of_getElem? (i := 261) rfl) rfl
theorem tw_259 : Cond.methodLink R_C 93 y_A_drop ∈ lw_good := gw (List.mem_of_getElem? (i := 262) rfl) rfl
theorem tw_260 : Cond.instanceMethod y_A_drop ∈ lw_good := gw (List.mem_of_getElem? (i := 263) rfl) rfl
theorem tw_261 : Cond.selects R_A y_A_drop y_A_drop ∈ lw_good := gw (List.mem_of_getElem? (i := 264) rfl) rfl
theorem tw_262 : Cond.code y_A_drop prog_2_method_3_code 2 (some .int) ∈ lw_good := gw (List.mem_of_getElem? (i := 265) rfl) rfl
theorem tw_263 : Cond.methodLink R_law 71 y_C_arm ∈ lw_good := gw (List.mem_of_getElem? (i := 266) rfl) rfl
theorem tw_264 : Cond.instanceMethod y_C_arm ∈ lw_good := gw (List.mem_of_getElem? (i := 267) rfl) rfl
theorem tw_265 : Cond.selects R_C y_C_arm y_C_arm ∈ lw_good := gw (List.mem_of_getElem? (i := 268) rfl) rfl
theorem tw_266 : Cond.code y_C_arm prog_1_method_15_code 3 (some .int) ∈ lw_good := gw (List.mem_of_getElem? (i := 269) rfl) rfl
theorem tw_267 : Cond.methodLink R_C 96 y_A_arm ∈ lw_good := gw (List.mem_of_getElem? (i := 270) rfl) rfl
theorem tw_268 : Cond.instanceMethod y_A_arm ∈ lw_good := gw (List.mem_of_getElem? (i := 271) rfl) rfl
theorem tw_269 : Cond.selects R_A y_A_arm y_A_arm ∈ lw_good := gw (List.mem_of_getElem? (i := 272) rfl) rfl
theorem tw_270 : Cond.code y_A_arm prog_2_method_4_code 3 (some .int) ∈ lw_good := gw (List.mem_of_getElem? (i := 273) rfl) rfl
theorem tw_271 : Cond.methodLink R_law 75 y_C_limit ∈ lw_good := gw (List.mem_of_getElem? (i := 274) rfl) rfl
theorem tw_272 : Cond.instanceMethod y_C_limit ∈ lw_good := gw (List.mem_of_getElem? (i := 275) rfl) rfl
theorem tw_273 : Cond.selects R_C y_C_limit y_C_limit ∈ lw_good := gw (List.mem_of_getElem? (i := 276) rfl) rfl
theorem tw_274 : Cond.code y_C_limit prog_1_method_16_code 3 (some .int) ∈ lw_good := gw (List.mem_of_getElem? (i := 277) rfl) rfl
theorem tw_275 : Cond.methodLink R_C 99 y_L_is ∈ lw_good := gw (List.mem_of_getElem? (i := 278) rfl) rfl
theorem tw_276 : Cond.methodLink R_law 80 y_C_event ∈ lw_good := gw (List.mem_of_getElem? (i := 279) rfl) rfl
theorem tw_277 : Cond.instanceMethod y_C_event ∈ lw_good := gw (List.mem_of_getElem? (i := 280) rfl) rfl
theorem tw_278 : Cond.selects R_C y_C_event y_C_event ∈ lw_good := gw (List.mem_of_getElem? (i := 281) rfl) rfl
theorem tw_279 : Cond.code y_C_event prog_1_method_17_code 3 (some .int) ∈ lw_good := gw (List.mem_of_getElem? (i := 282) rfl) rfl
theorem tw_280 : Cond.methodLink R_law 84 y_C_actionAt ∈ lw_good := gw (List.mem_of_getElem? (i := 283) rfl) rfl
theorem tw_281 : Cond.instanceMethod y_C_actionAt ∈ lw_good := gw (List.mem_of_getElem? (i := 284) rfl) rfl
theorem tw_282 : Cond.selects R_C y_C_actionAt y_C_actionAt ∈ lw_good := gw (List.mem_of_getElem? (i := 285) rfl) rfl
theorem tw_283 : Cond.code y_C_actionAt prog_1_method_18_code 3 (some .int) ∈ lw_good := gw (List.mem_of_getElem? (i := 286) rfl) rfl
theorem tw_284 : Cond.methodLink R_law 88 y_C_count ∈ lw_good := gw (List.mem_of_getElem? (i := 287) rfl) rfl
theorem tw_285 : Cond.instanceMethod y_C_count ∈ lw_good := gw (List.mem_of_getElem? (i := 288) rfl) rfl
theorem tw_286 : Cond.selects R_C y_C_count y_C_count ∈ lw_good := gw (List.mem_of_getElem? (i := 289) rfl) rfl
theorem tw_287 : Cond.code y_C_count prog_1_method_19_code 2 (some .int) ∈ lw_good := gw (List.mem_of_getElem? (i := 290) rfl) rfl
theorem tw_288 : Cond.classLink R_law 10 R_M ∈ lw_good := gw (List.mem_of_getElem? (i := 291) rfl) rfl
theorem tw_289 : Cond.instantiable R_M 24 ∈ lw_good := gw (List.mem_of_getElem? (i := 292) rfl) rfl
theorem tw_290 : Cond.methodLink R_law 12 y_M_init ∈ lw_good := gw (List.mem_of_getElem? (i := 293) rfl) rfl
theorem tw_291 : Cond.instanceMethod y_M_init ∈ lw_good := gw (List.mem_of_getElem? (i := 294) rfl) rfl
theorem tw_292 : Cond.code y_M_init prog_8_method_1_code 1 none ∈ lw_good := gw (List.mem_of_getElem? (i := 295) rfl) rfl
theorem tw_293 : Cond.methodLink R_M 1 y_O_init ∈ lw_good := gw (List.mem_of_getElem? (i := 296) rfl) rfl
theorem tw_294 : Cond.fieldLink R_M 63 R_M "thrown" "I" ∈ lw_good := gw (List.mem_of_getElem? (i := 297) rfl) rfl
theorem tw_295 : Cond.fieldLink R_M 7 R_M "parameters" "[I" ∈ lw_good := gw (List.mem_of_getElem? (i := 298) rfl) rfl
theorem tw_296 : Cond.fieldLink R_M 13 R_M "there" "[Z" ∈ lw_good := gw (List.mem_of_getElem? (i := 299) rfl) rfl
theorem tw_297 : Cond.fieldLink R_M 17 R_M "on" "[Z" ∈ lw_good := gw (List.mem_of_getElem? (i := 300) rfl) rfl
theorem tw_298 : Cond.fieldLink R_M 20 R_M "links" "[Z" ∈ lw_good := gw (List.mem_of_getElem? (i := 301) rfl) rfl
theorem tw_299 : Cond.fieldLink R_M 23 R_M "of" "[I" ∈ lw_good := gw (List.mem_of_getElem? (i := 302) rfl) rfl
theorem tw_300 : Cond.fieldLink R_M 26 R_M "times" "[I" ∈ lw_good := gw (List.mem_of_getElem? (i := 303) rfl) rfl
theorem tw_301 : Cond.fieldLink R_M 29 R_M "low" "[I" ∈ lw_good := gw (List.mem_of_getElem? (i := 304) rfl) rfl
theorem tw_302 : Cond.fieldLink R_M 32 R_M "high" "[I" ∈ lw_good := gw (List.mem_of_getElem? (i := 305) rfl) rfl
theorem tw_303 : Cond.fieldLink R_M 35 R_M "raises" "[I" ∈ lw_good := gw (List.mem_of_getElem? (i := 306) rfl) rfl
theorem tw_304 : Cond.fieldLink R_M 38 R_M "counts" "[I" ∈ lw_good := gw (List.mem_of_getElem? (i := 307) rfl) rfl
theorem tw_305 : Cond.fieldLink R_M 93 R_M "broken" "I" ∈ lw_good := gw (List.mem_of_getElem? (i := 308) rfl) rfl
theorem tw_306 : Cond.fieldLink R_M 85 R_M "linked" "Z" ∈ lw_good := gw (List.mem_of_getElem? (i := 309) rfl) rfl
theorem tw_307 : Cond.fieldLink R_M 79 R_M "waiting" "I" ∈ lw_good := gw (List.mem_of_getElem? (i := 310) rfl) rfl
theorem tw_308 : Cond.fieldLink R_M 41 R_M "events" "[I" ∈ lw_good := gw (List.mem_of_getElem? (i := 311) rfl) rfl
theorem tw_309 : Cond.fieldLink R_M 44 R_M "numbers" "[I" ∈ lw_good := gw (List.mem_of_getElem? (i := 312) rfl) rfl
theorem tw_310 : Cond.fieldLink R_M 82 R_M "lost" "I" ∈ lw_good := gw (List.mem_of_getElem? (i := 313) rfl) rfl
theorem tw_311 : Cond.fieldLink R_M 99 R_M "worked" "I" ∈ lw_good := gw (List.mem_of_getElem? (i := 314) rfl) rfl
theorem tw_312 : Cond.fieldLink R_M 47 R_M "silent" "[Z" ∈ lw_good := gw (List.mem_of_getElem? (i := 315) rfl) rfl
theorem tw_313 : Cond.fieldLink R_M 50 R_M "sizes" "[I" ∈ lw_good := gw (List.mem_of_getElem? (i := 316) rfl) rfl
theorem tw_314 : Cond.fieldLink R_M 53 R_M "armed" "[Z" ∈ lw_good := gw (List.mem_of_getElem? (i := 317) rfl) rfl
theorem tw_315 : Cond.fieldLink R_M 56 R_M "actions" "[B" ∈ lw_good := gw (List.mem_of_getElem? (i := 318) rfl) rfl
theorem tw_316 : Cond.fieldLink R_M 102 R_M "size" "I" ∈ lw_good := gw (List.mem_of_getElem? (i := 319) rfl) rfl
theorem tw_317 : Cond.fieldLink R_M 60 R_M "text" "[B" ∈ lw_good := gw (List.mem_of_getElem? (i := 320) rfl) rfl
theorem tw_318 : Cond.lays R_M R_M "thrown" "I" ∈ lw_good := gw (List.mem_of_getElem? (i := 321) rfl) rfl
theorem tw_320 : Cond.laysFinal R_M R_M "parameters" "[I" ∈ lw_good := gw (List.mem_of_getElem? (i := 323) rfl) rfl
theorem tw_322 : Cond.laysFinal R_M R_M "there" "[Z" ∈ lw_good := gw (List.mem_of_getElem? (i := 325) rfl) rfl
theorem tw_324 : Cond.laysFinal R_M R_M "on" "[Z" ∈ lw_good := gw (List.mem_of_getElem? (i := 327) rfl) rfl
theorem tw_326 : Cond.laysFinal R_M R_M "links" "[Z" ∈ lw_good := gw (List.mem_of_getElem? (i := 329) rfl) rfl
theorem tw_328 : Cond.laysFinal R_M R_M "of" "[I" ∈ lw_good := gw (List.mem_of_getElem? (i := 331) rfl) rfl
theorem tw_330 : Cond.laysFinal R_M R_M "times" "[I" ∈ lw_good := gw (List.mem_of_getElem? (i := 333) rfl) rfl
theorem tw_332 : Cond.laysFinal R_M R_M "low" "[I" ∈ lw_good := gw (List.mem_of_getElem? (i := 335) rfl) rfl
theorem tw_334 : Cond.laysFinal R_M R_M "high" "[I" ∈ lw_good := gw (List.mem_of_getElem? (i := 337) rfl) rfl
theorem tw_336 : Cond.laysFinal R_M R_M "raises" "[I" ∈ lw_good := gw (List.mem_of_getElem? (i := 339) rfl) rfl
theorem tw_338 : Cond.laysFinal R_M R_M "counts" "[I" ∈ lw_good := gw (List.mem_of_getElem? (i := 341) rfl) rfl
theorem tw_340 : Cond.lays R_M R_M "broken" "I" ∈ lw_good := gw (List.mem_of_getElem? (i := 343) rfl) rfl
theorem tw_342 : Cond.lays R_M R_M "linked" "Z" ∈ lw_good := gw (List.mem_of_getElem? (i := 345) rfl) rfl
theorem tw_344 : Cond.lays R_M R_M "waiting" "I" ∈ lw_good := gw (List.mem_of_getElem? (i := 347) rfl) rfl
theorem tw_346 : Cond.laysFinal R_M R_M "events" "[I" ∈ lw_good := gw (List.mem_of_getElem? (i := 349) rfl) rfl
theorem tw_348 : Cond.laysFinal R_M R_M "numbers" "[I" ∈ lw_good := gw (List.mem_of_getElem? (i := 351) rfl) rfl
theorem tw_350 : Cond.lays R_M R_M "lost" "I" ∈ lw_good := gw (List.mem_of_getElem? (i := 353) rfl) rfl
theorem tw_352 : Cond.lays R_M R_M "worked" "I" ∈ lw_good := gw (List.mem_of_getElem? (i := 355) rfl) rfl
theorem tw_354 : Cond.laysFinal R_M R_M "silent" "[Z" ∈ lw_good := gw (List.mem_of_getElem? (i := 357) rfl) rfl
theorem tw_356 : Cond.laysFinal R_M R_M "sizes" "[I" ∈ lw_good := gw (List.mem_of_getElem? (i := 359) rfl) rfl
theorem tw_358 : Cond.laysFinal R_M R_M "armed" "[Z" ∈ lw_good := gw (List.mem_of_getElem? (i := 361) rfl) rfl
theorem tw_360 : Cond.laysFinal R_M R_M "actions" "[B" ∈ lw_good := gw (List.mem_of_getElem? (i := 363) rfl) rfl
theorem tw_362 : Cond.lays R_M R_M "size" "I" ∈ lw_good := gw (List.mem_of_getElem? (i := 365) rfl) rfl
theorem tw_364 : Cond.laysFinal R_M R_M "text" "[B" ∈ lw_good := gw (List.mem_of_getElem? (i := 367) rfl) rfl
theorem tw_367 : Cond.methodLink R_law 17 y_M_set ∈ lw_good := gw (List.mem_of_getElem? (i := 370) rfl) rfl
theorem tw_368 : Cond.instanceMethod y_M_set ∈ lw_good := gw (List.mem_of_getElem? (i := 371) rfl) rfl
theorem tw_369 : Cond.selects R_M y_M_set y_M_set ∈ lw_good := gw (List.mem_of_getElem? (i := 372) rfl) rfl
theorem tw_370 : Cond.code y_M_set prog_8_method_3_code 3 (some .boolean) ∈ lw_good := gw (List.mem_of_getElem? (i := 373) rfl) rfl
theorem tw_371 : Cond.methodLink R_law 22 y_M_add ∈ lw_good := gw (List.mem_of_getElem? (i := 374) rfl) rfl
theorem tw_372 : Cond.instanceMethod y_M_add ∈ lw_good := gw (List.mem_of_getElem? (i := 375) rfl) rfl
theorem tw_373 : Cond.selects R_M y_M_add y_M_add ∈ lw_good := gw (List.mem_of_getElem? (i := 376) rfl) rfl
theorem tw_374 : Cond.code y_M_add prog_8_method_7_code 8 (some .int) ∈ lw_good := gw (List.mem_of_getElem? (i := 377) rfl) rfl
theorem tw_375 : Cond.methodLink R_M 67 y_M_isIn ∈ lw_good := gw (List.mem_of_getElem? (i := 378) rfl) rfl
theorem tw_376 : Cond.static y_M_isIn ∈ lw_good := gw (List.mem_of_getElem? (i := 379) rfl) rfl
theorem tw_377 : Cond.code y_M_isIn prog_8_method_6_code 3 (some .boolean) ∈ lw_good := gw (List.mem_of_getElem? (i := 380) rfl) rfl
theorem tw_378 : Cond.methodLink R_M 71 y_M_limits ∈ lw_good := gw (List.mem_of_getElem? (i := 381) rfl) rfl
theorem tn_379 : Cond.privateMethod y_M_limits ∈ lw_tbl := List.mem_of_getElem? (i := 382) rfl
theorem tw_380 : Cond.instanceMethod y_M_limits ∈ lw_good := gw (List.mem_of_getElem? (i := 383) rfl) rfl
theorem tw_381 : Cond.code y_M_limits prog_8_method_5_code 3 (some .int) ∈ lw_good := gw (List.mem_of_getElem? (i := 384) rfl) rfl
theorem tw_382 : Cond.methodLink R_law 27 y_M_remove ∈ lw_good := gw (List.mem_of_getElem? (i := 385) rfl) rfl
theorem tw_383 : Cond.instanceMethod y_M_remove ∈ lw_good := gw (List.mem_of_getElem? (i := 386) rfl) rfl
theorem tw_384 : Cond.selects R_M y_M_remove y_M_remove ∈ lw_good := gw (List.mem_of_getElem? (i := 387) rfl) rfl
theorem tw_385 : Cond.code y_M_remove prog_8_method_8_code 2 (some .int) ∈ lw_good := gw (List.mem_of_getElem? (i := 388) rfl) rfl
theorem tw_386 : Cond.methodLink R_M 75 y_M_isThere ∈ lw_good := gw (List.mem_of_getElem? (i := 389) rfl) rfl
theorem tn_387 : Cond.privateMethod y_M_isThere ∈ lw_tbl := List.mem_of_getElem? (i := 390) rfl
theorem tw_388 : Cond.instanceMethod y_M_isThere ∈ lw_good := gw (List.mem_of_getElem? (i := 391) rfl) rfl
theorem tw_389 : Cond.code y_M_isThere prog_8_method_4_code 2 (some .boolean) ∈ lw_good := gw (List.mem_of_getElem? (i := 392) rfl) rfl
theorem tw_390 : Cond.methodLink R_law 32 y_M_enable ∈ lw_good := gw (List.mem_of_getElem? (i := 393) rfl) rfl
theorem tw_391 : Cond.instanceMethod y_M_enable ∈ lw_good := gw (List.mem_of_getElem? (i := 394) rfl) rfl
theorem tw_392 : Cond.selects R_M y_M_enable y_M_enable ∈ lw_good := gw (List.mem_of_getElem? (i := 395) rfl) rfl
theorem tw_393 : Cond.code y_M_enable prog_8_method_9_code 3 (some .int) ∈ lw_good := gw (List.mem_of_getElem? (i := 396) rfl) rfl
theorem tw_394 : Cond.methodLink R_law 37 y_M_watch ∈ lw_good := gw (List.mem_of_getElem? (i := 397) rfl) rfl
theorem tw_395 : Cond.instanceMethod y_M_watch ∈ lw_good := gw (List.mem_of_getElem? (i := 398) rfl) rfl
theorem tw_396 : Cond.selects R_M y_M_watch y_M_watch ∈ lw_good := gw (List.mem_of_getElem? (i := 399) rfl) rfl
theorem tw_397 : Cond.code y_M_watch prog_8_method_11_code 5 (some .int) ∈ lw_good := gw (List.mem_of_getElem? (i := 400) rfl) rfl
theorem tw_398 : Cond.methodLink R_M 89 y_M_waits ∈ lw_good := gw (List.mem_of_getElem? (i := 401) rfl) rfl
theorem tn_399 : Cond.privateMethod y_M_waits ∈ lw_tbl := List.mem_of_getElem? (i := 402) rfl
theorem tw_400 : Cond.instanceMethod y_M_waits ∈ lw_good := gw (List.mem_of_getElem? (i := 403) rfl) rfl
theorem tw_401 : Cond.code y_M_waits prog_8_method_10_code 3 (some .boolean) ∈ lw_good := gw (List.mem_of_getElem? (i := 404) rfl) rfl
theorem tw_402 : Cond.methodLink R_law 42 y_M_linked ∈ lw_good := gw (List.mem_of_getElem? (i := 405) rfl) rfl
theorem tw_403 : Cond.instanceMethod y_M_linked ∈ lw_good := gw (List.mem_of_getElem? (i := 406) rfl) rfl
theorem tw_404 : Cond.selects R_M y_M_linked y_M_linked ∈ lw_good := gw (List.mem_of_getElem? (i := 407) rfl) rfl
theorem tw_405 : Cond.code y_M_linked prog_8_method_12_code 1 (some .boolean) ∈ lw_good := gw (List.mem_of_getElem? (i := 408) rfl) rfl
theorem tw_406 : Cond.methodLink R_law 46 y_M_raise ∈ lw_good := gw (List.mem_of_getElem? (i := 409) rfl) rfl
theorem tw_407 : Cond.instanceMethod y_M_raise ∈ lw_good := gw (List.mem_of_getElem? (i := 410) rfl) rfl
theorem tw_408 : Cond.selects R_M y_M_raise y_M_raise ∈ lw_good := gw (List.mem_of_getElem? (i := 411) rfl) rfl
theorem tw_409 : Cond.code y_M_raise prog_8_method_14_code 3 (some .boolean) ∈ lw_good := gw (List.mem_of_getElem? (i := 412) rfl) rfl
theorem tw_410 : Cond.methodLink R_M 96 y_M_isEvent ∈ lw_good := gw (List.mem_of_getElem? (i := 413) rfl) rfl
theorem tw_411 : Cond.static y_M_isEvent ∈ lw_good := gw (List.mem_of_getElem? (i := 414) rfl) rfl
theorem tw_412 : Cond.code y_M_isEvent prog_8_method_13_code 1 (some .boolean) ∈ lw_good := gw (List.mem_of_getElem? (i := 415) rfl) rfl
theorem tw_413 : Cond.methodLink R_law 50 y_M_work ∈ lw_good := gw (List.mem_of_getElem? (i := 416) rfl) rfl
theorem tw_414 : Cond.instanceMethod y_M_work ∈ lw_good := gw (List.mem_of_getElem? (i := 417) rfl) rfl
theorem tw_415 : Cond.selects R_M y_M_work y_M_work ∈ lw_good := gw (List.mem_of_getElem? (i := 418) rfl) rfl
theorem tw_416 : Cond.code y_M_work prog_8_method_15_code 3 (some .int) ∈ lw_good := gw (List.mem_of_getElem? (i := 419) rfl) rfl
theorem tw_417 : Cond.methodLink R_law 54 y_M_lose ∈ lw_good := gw (List.mem_of_getElem? (i := 420) rfl) rfl
theorem tw_418 : Cond.instanceMethod y_M_lose ∈ lw_good := gw (List.mem_of_getElem? (i := 421) rfl) rfl
theorem tw_419 : Cond.selects R_M y_M_lose y_M_lose ∈ lw_good := gw (List.mem_of_getElem? (i := 422) rfl) rfl
theorem tw_420 : Cond.code y_M_lose prog_8_method_16_code 2 (some .int) ∈ lw_good := gw (List.mem_of_getElem? (i := 423) rfl) rfl
theorem tw_421 : Cond.methodLink R_law 58 y_M_tell ∈ lw_good := gw (List.mem_of_getElem? (i := 424) rfl) rfl
theorem tw_422 : Cond.instanceMethod y_M_tell ∈ lw_good := gw (List.mem_of_getElem? (i := 425) rfl) rfl
theorem tw_423 : Cond.selects R_M y_M_tell y_M_tell ∈ lw_good := gw (List.mem_of_getElem? (i := 426) rfl) rfl
theorem tw_424 : Cond.code y_M_tell prog_8_method_17_code 3 (some .int) ∈ lw_good := gw (List.mem_of_getElem? (i := 427) rfl) rfl
theorem tw_425 : Cond.methodLink R_law 62 y_M_put ∈ lw_good := gw (List.mem_of_getElem? (i := 428) rfl) rfl
theorem tw_426 : Cond.instanceMethod y_M_put ∈ lw_good := gw (List.mem_of_getElem? (i := 429) rfl) rfl
theorem tw_427 : Cond.selects R_M y_M_put y_M_put ∈ lw_good := gw (List.mem_of_getElem? (i := 430) rfl) rfl
theorem tw_428 : Cond.code y_M_put prog_8_method_18_code 2 (some .int) ∈ lw_good := gw (List.mem_of_getElem? (i := 431) rfl) rfl
theorem tw_429 : Cond.methodLink R_law 66 y_M_act ∈ lw_good := gw (List.mem_of_getElem? (i := 432) rfl) rfl
theorem tw_430 : Cond.instanceMethod y_M_act ∈ lw_good := gw (List.mem_of_getElem? (i := 433) rfl) rfl
theorem tw_431 : Cond.selects R_M y_M_act y_M_act ∈ lw_good := gw (List.mem_of_getElem? (i := 434) rfl) rfl
theorem tw_432 : Cond.code y_M_act prog_8_method_19_code 4 (some .int) ∈ lw_good := gw (List.mem_of_getElem? (i := 435) rfl) rfl
theorem tw_433 : Cond.methodLink R_law 70 y_M_drop ∈ lw_good := gw (List.mem_of_getElem? (i := 436) rfl) rfl
theorem tw_434 : Cond.instanceMethod y_M_drop ∈ lw_good := gw (List.mem_of_getElem? (i := 437) rfl) rfl
theorem tw_435 : Cond.selects R_M y_M_drop y_M_drop ∈ lw_good := gw (List.mem_of_getElem? (i := 438) rfl) rfl
theorem tw_436 : Cond.code y_M_drop prog_8_method_20_code 2 (some .int) ∈ lw_good := gw (List.mem_of_getElem? (i := 439) rfl) rfl
theorem tw_437 : Cond.methodLink R_law 74 y_M_arm ∈ lw_good := gw (List.mem_of_getElem? (i := 440) rfl) rfl
theorem tw_438 : Cond.instanceMethod y_M_arm ∈ lw_good := gw (List.mem_of_getElem? (i := 441) rfl) rfl
theorem tw_439 : Cond.selects R_M y_M_arm y_M_arm ∈ lw_good := gw (List.mem_of_getElem? (i := 442) rfl) rfl
theorem tw_440 : Cond.code y_M_arm prog_8_method_21_code 3 (some .int) ∈ lw_good := gw (List.mem_of_getElem? (i := 443) rfl) rfl
theorem tw_441 : Cond.methodLink R_law 79 y_M_limit ∈ lw_good := gw (List.mem_of_getElem? (i := 444) rfl) rfl
theorem tw_442 : Cond.instanceMethod y_M_limit ∈ lw_good := gw (List.mem_of_getElem? (i := 445) rfl) rfl
theorem tw_443 : Cond.selects R_M y_M_limit y_M_limit ∈ lw_good := gw (List.mem_of_getElem? (i := 446) rfl) rfl
theorem tw_444 : Cond.code y_M_limit prog_8_method_22_code 3 (some .int) ∈ lw_good := gw (List.mem_of_getElem? (i := 447) rfl) rfl
theorem tw_445 : Cond.methodLink R_law 83 y_M_event ∈ lw_good := gw (List.mem_of_getElem? (i := 448) rfl) rfl
theorem tw_446 : Cond.instanceMethod y_M_event ∈ lw_good := gw (List.mem_of_getElem? (i := 449) rfl) rfl
theorem tw_447 : Cond.selects R_M y_M_event y_M_event ∈ lw_good := gw (List.mem_of_getElem? (i := 450) rfl) rfl
theorem tw_448 : Cond.code y_M_event prog_8_method_23_code 3 (some .int) ∈ lw_good := gw (List.mem_of_getElem? (i := 451) rfl) rfl
theorem tw_449 : Cond.methodLink R_law 87 y_M_actionAt ∈ lw_good := gw (List.mem_of_getElem? (i := 452) rfl) rfl
theorem tw_450 : Cond.instanceMethod y_M_actionAt ∈ lw_good := gw (List.mem_of_getElem? (i := 453) rfl) rfl
theorem tw_451 : Cond.selects R_M y_M_actionAt y_M_actionAt ∈ lw_good := gw (List.mem_of_getElem? (i := 454) rfl) rfl
theorem tw_452 : Cond.code y_M_actionAt prog_8_method_24_code 3 (some .int) ∈ lw_good := gw (List.mem_of_getElem? (i := 455) rfl) rfl
theorem tw_453 : Cond.methodLink R_law 91 y_M_count ∈ lw_good := gw (List.mem_of_getElem? (i := 456) rfl) rfl
theorem tw_454 : Cond.instanceMethod y_M_count ∈ lw_good := gw (List.mem_of_getElem? (i := 457) rfl) rfl
theorem tw_455 : Cond.selects R_M y_M_count y_M_count ∈ lw_good := gw (List.mem_of_getElem? (i := 458) rfl) rfl
theorem tw_456 : Cond.code y_M_count prog_8_method_25_code 2 (some .int) ∈ lw_good := gw (List.mem_of_getElem? (i := 459) rfl) rfl
theorem ts_limits : Cond.selects R_M y_M_limits y_M_limits ∈ lw_good := gw (List.mem_of_getElem? (i := 0) rfl) rfl
theorem ts_isThere : Cond.selects R_M y_M_isThere y_M_isThere ∈ lw_good := gw (List.mem_of_getElem? (i := 1) rfl) rfl
theorem ts_waits : Cond.selects R_M y_M_waits y_M_waits ∈ lw_good := gw (List.mem_of_getElem? (i := 2) rfl) rfl
theorem i_N : ∀ w ∈ u_ws R_N F_N 1, w ∈ lw_good := by
  intro w hw
  obtain ⟨k, hk, rfl⟩ := List.mem_map.mp hw
  have hk := List.mem_range.mp hk
  match k, hk with
  | 0, _ => exact tw_24
  | k + 1, h => exact absurd h (by omega)
theorem i_E : ∀ w ∈ u_ws R_E F_E 7, w ∈ lw_good := by
  intro w hw
  obtain ⟨k, hk, rfl⟩ := List.mem_map.mp hw
  have hk := List.mem_range.mp hk
  match k, hk with
  | 0, _ => exact tw_45
  | 1, _ => exact tw_47
  | 2, _ => exact tw_49
  | 3, _ => exact tw_51
  | 4, _ => exact tw_53
  | 5, _ => exact tw_55
  | 6, _ => exact tw_57
  | k + 7, h => exact absurd h (by omega)
theorem i_L : ∀ w ∈ u_ws R_L F_L 11, w ∈ lw_good := by
  intro w hw
  obtain ⟨k, hk, rfl⟩ := List.mem_map.mp hw
  have hk := List.mem_range.mp hk
  match k, hk with
  | 0, _ => exact tw_86
  | 1, _ => exact tw_88
  | 2, _ => exact tw_90
  | 3, _ => exact tw_92
  | 4, _ => exact tw_94
  | 5, _ => exact tw_96
  | 6, _ => exact tw_98
  | 7, _ => exact tw_100
  | 8, _ => exact tw_102
  | 9, _ => exact tw_104
  | 10, _ => exact tw_106
  | k + 11, h => exact absurd h (by omega)
theorem i_A : ∀ w ∈ u_ws R_A F_A 3, w ∈ lw_good := by
  intro w hw
  obtain ⟨k, hk, rfl⟩ := List.mem_map.mp hw
  have hk := List.mem_range.mp hk
  match k, hk with
  | 0, _ => exact tw_123
  | 1, _ => exact tw_125
  | 2, _ => exact tw_127
  | k + 3, h => exact absurd h (by omega)
theorem i_C : ∀ w ∈ u_ws R_C F_C 7, w ∈ lw_good := by
  intro w hw
  obtain ⟨k, hk, rfl⟩ := List.mem_map.mp hw
  have hk := List.mem_range.mp hk
  match k, hk with
  | 0, _ => exact tw_138
  | 1, _ => exact tw_140
  | 2, _ => exact tw_142
  | 3, _ => exact tw_144
  | 4, _ => exact tw_146
  | 5, _ => exact tw_148
  | 6, _ => exact tw_150
  | k + 7, h => exact absurd h (by omega)
theorem i_M : ∀ w ∈ u_ws R_M F_M 24, w ∈ lw_good := by
  intro w hw
  obtain ⟨k, hk, rfl⟩ := List.mem_map.mp hw
  have hk := List.mem_range.mp hk
  match k, hk with
  | 0, _ => exact tw_318
  | 1, _ => exact tw_320
  | 2, _ => exact tw_322
  | 3, _ => exact tw_324
  | 4, _ => exact tw_326
  | 5, _ => exact tw_328
  | 6, _ => exact tw_330
  | 7, _ => exact tw_332
  | 8, _ => exact tw_334
  | 9, _ => exact tw_336
  | 10, _ => exact tw_338
  | 11, _ => exact tw_340
  | 12, _ => exact tw_342
  | 13, _ => exact tw_344
  | 14, _ => exact tw_346
  | 15, _ => exact tw_348
  | 16, _ => exact tw_350
  | 17, _ => exact tw_352
  | 18, _ => exact tw_354
  | 19, _ => exact tw_356
  | 20, _ => exact tw_358
  | 21, _ => exact tw_360
  | 22, _ => exact tw_362
  | 23, _ => exact tw_364
  | k + 24, h => exact absurd h (by omega)
end
section
-- ===== the facts that calls need and the good words do not carry =====
def isNest : Cond → Bool
  | .fieldLinkNest .. => true
  | .methodLinkNest .. => true
  | _ => false
def nestW : List Cond := lw_tbl.filter isNest
theorem nestW_in {w : Cond} (h : w ∈ lw_tbl) (g : isNest w = true) : w ∈ nestW := List.mem_filter.mpr ⟨h, g⟩
/-- the class of byte[][] has byte[]'s as its component -/
def BBk (cBB cB : ClassId) (U : State) : Prop := ∃ kA : Class, U.vm.classes[cBB]? = some kA ∧ kA.kind = .array cB (.array .byte)
theorem BBk.moved {cBB cB : ClassId} {u U : State} (hvm : u.vm.Alike U.vm) (h : BBk cBB cB u) : BBk cBB cB U := by
  obtain ⟨kA, h1, h2⟩ := h
  obtain ⟨k', hk', he⟩ := hvm.2.2 _ _ h1
  exact ⟨k', hk', by rw [he]; exact h2⟩
abbrev tyL (cA : Nat → ClassId) : List (ClassId × FieldType) := [(cA 0, .int), (cA 1, .boolean), (cA 2, .byte), (cA 3, .array .byte)]
def KK (D : va_G) (cA : Nat → ClassId) (U : State) : Prop := va_K D classes (tyL cA) U ∧ (∀ w ∈ nestW, va_Nw w U) ∧ va_Fw R_N y_V_value y_N_value U ∧ BBk (cA 3) (cA 2) U
theorem nest_warm {s U : State} (hW : s.WarmedH U.vm) {w : Cond} (hw : w ∈ nestW) (h : va_Nw w s) : va_Nw w U := by
  have hn : isNest w = true := (List.mem_filter.mp hw).2
  cases w <;> first | exact va_Nw.warmF hW h | exact va_Nw.warmM hW h | (simp [isNest] at hn)
theorem nest_same {u U : State} (hvm : u.vm = U.vm) {w : Cond} (hw : w ∈ nestW) (h : va_Nw w u) : va_Nw w U := by
  have hn : isNest w = true := (List.mem_filter.mp hw).2
  cases w <;> first | exact va_Nw.same rfl hvm h | (simp [isNest] at hn)
theorem y_V_ok : y_V_value.cls ≠ "java/lang/invoke/MethodHandle" ∧ y_V_value.cls ≠ "java/lang/invoke/VarHandle" := by decide +kernel
theorem KK.warm {D : va_G} {cA : Nat → ClassId} {s U : State} (hW : s.WarmedH U.vm) (h : KK D cA s) : KK D cA U :=
  ⟨va_K.moved hW.alike h.1, fun w hw => nest_warm hW hw (h.2.1 w hw), va_Fw.moved y_V_ok hW.alike h.2.2.1, h.2.2.2.moved hW.alike⟩
theorem KK.same {D : va_G} {cA : Nat → ClassId} {u U : State} (hvm : u.vm = U.vm) (h : KK D cA u) : KK D cA U :=
  have ha : u.vm.Alike U.vm := hvm ▸ Vm.Alike.refl u.vm
  ⟨va_K.moved ha h.1, fun w hw => nest_same hvm hw (h.2.1 w hw), va_Fw.moved y_V_ok ha h.2.2.1, h.2.2.2.moved ha⟩
theorem KK.nest {D : va_G} {cA : Nat → ClassId} {U : State} {A : Array Value} (h : KK D cA U) {w : Cond} (hw : w ∈ nestW) (ho : w.onTables = true) : w.before A U = true := va_Nw.use ho (h.2.1 w hw)
-- ===== worlds as lists of addresses and cells =====
theorem va_P_iff {D : va_G} {cl : List vw_C} {ws : va_W} {H : Heap} : va_P D cl ws H ↔ ∀ q ∈ ws, va_at D cl q H := by
  refine ⟨fun h q hq => ?_, fun h k q hk => h q (List.mem_of_getElem? hk)⟩
  obtain ⟨k, hk⟩ := List.getElem?_of_mem hq
  exact h k q hk
theorem va_D_iff {A : Nat → Prop} {ws : va_W} : va_D A ws ↔ (ws.map Prod.fst).Nodup ∧ ∀ a ∈ ws.map Prod.fst, A a := by
  constructor
  · intro h
    refine ⟨?_, fun a ha => ?_⟩
    · rw [List.nodup_iff_pairwise_ne, List.pairwise_iff_getElem]
      intro i j hi hj hij e
      rw [List.length_map] at hi hj
      rw [List.getElem_map, List.getElem_map] at e
      have := h.1 i j ws[i] ws[j] (List.getElem?_eq_getElem hi) (List.getElem?_eq_getElem hj) e
      omega
    · obtain ⟨q, hq, rfl⟩ := List.mem_map.mp ha
      obtain ⟨k, hk⟩ := List.getElem?_of_mem hq
      exact h.2 k q hk
  · intro h
    refine ⟨fun i j x y hi hj e => ?_, fun k q hk => h.2 q.1 (List.mem_map.mpr ⟨q, List.mem_of_getElem? hk, rfl⟩)⟩
    have h1 := h.1
    rw [List.nodup_iff_pairwise_ne, List.pairwise_iff_getElem] at h1
    obtain ⟨hi', rfl⟩ := List.getElem?_eq_some_iff.mp hi
    obtain ⟨hj', rfl⟩ := List.getElem?_eq_some_iff.mp hj
    rcases Nat.lt_trichotomy i j with c | c | c
    · exact absurd (by rw [List.getElem_map, List.getElem_map]; exact e) (h1 i j (by rw [List.length_map]; exact hi') (by rw [List.length_map]; exact hj') c)
    · exact c
    · exact absurd (by rw [List.getElem_map, List.getElem_map]; exact e.symm) (h1 j i (by rw [List.length_map]; exact hj') (by rw [List.length_map]; exact hi') c)
theorem va_D_same {A : Nat → Prop} {w w' : va_W} (e : w'.map Prod.fst = w.map Prod.fst) (h : va_D A w) : va_D A w' := by
  rw [va_D_iff] at h ⊢
  rw [e]
  exact h
theorem va_A_iff {ws : va_W} {sz q : Nat} : va_A ws sz q ↔ q ∈ ws.map Prod.fst ∨ sz ≤ q := by
  constructor
  · rintro (⟨k, e, h⟩ | h)
    · exact Or.inl (List.mem_map.mpr ⟨(q, e), List.mem_of_getElem? h, rfl⟩)
    · exact Or.inr h
  · rintro (h | h)
    · obtain ⟨⟨a, e⟩, hq, rfl⟩ := List.mem_map.mp h
      obtain ⟨k, hk⟩ := List.getElem?_of_mem hq
      exact Or.inl ⟨k, e, hk⟩
    · exact Or.inr h
/-- the middle part was a callee's, and has its addresses still -/
theorem join3 {A : Nat → Prop} {D : va_G} {cl : List vw_C} {wl w w' wr : va_W} {H H1 : Heap} (hP : va_P D cl (wl ++ (w ++ wr)) H) (hD : va_D A (wl ++ (w ++ wr))) (e : w'.map Prod.fst = w.map Prod.fst)
    (hk : ∀ q : Nat, q < H.size → ¬ va_A w H.size q → H1[q]? = H[q]?) (hP1 : va_P D cl w' H1) : va_P D cl (wl ++ (w' ++ wr)) H1 ∧ va_D A (wl ++ (w' ++ wr)) := by
  have ea : (wl ++ (w' ++ wr)).map Prod.fst = (wl ++ (w ++ wr)).map Prod.fst := by simp only [List.map_append, e]
  refine ⟨?_, va_D_same ea hD⟩
  have hn := (va_D_iff.mp hD).1
  simp only [List.map_append] at hn
  rw [List.nodup_append, List.nodup_append] at hn
  obtain ⟨-, ⟨-, -, n2⟩, n1⟩ := hn
  rw [va_P_iff] at hP hP1 ⊢
  have kp : ∀ q : Nat × va_E, q ∈ wl ++ (w ++ wr) → q.1 ∉ w.map Prod.fst → va_at D cl q H1 := by
    intro q hq hn
    have h0 := hP q hq
    refine h0.kept (hk q.1 h0.lt (fun h => ?_))
    rcases va_A_iff.mp h with h | h
    · exact hn h
    · have := h0.lt
      omega
  intro q hq
  rcases List.mem_append.mp hq with h | h
  · refine kp q (List.mem_append_left _ h) (fun hw => ?_)
    exact n1 q.1 (List.mem_map.mpr ⟨q, h, rfl⟩) q.1 (List.mem_append_left _ hw) rfl
  · rcases List.mem_append.mp h with h | h
    · exact hP1 q h
    · refine kp q (List.mem_append_right _ (List.mem_append_right _ h)) (fun hw => ?_)
      exact n2 q.1 hw q.1 (List.mem_map.mpr ⟨q, h, rfl⟩) rfl
theorem sub3 {D : va_G} {cl : List vw_C} {wl w wr : va_W} {H : Heap} (hP : va_P D cl (wl ++ (w ++ wr)) H) : va_P D cl w H := by
  rw [va_P_iff] at hP ⊢
  exact fun q hq => hP q (List.mem_append_right _ (List.mem_append_left _ hq))
theorem subD3 {A : Nat → Prop} {wl w wr : va_W} (hD : va_D A (wl ++ (w ++ wr))) : va_D A w := by
  rw [va_D_iff] at hD ⊢
  obtain ⟨hn, ha⟩ := hD
  simp only [List.map_append] at hn ha
  rw [List.nodup_append, List.nodup_append] at hn
  exact ⟨hn.2.1.1, fun a h => ha a (List.mem_append_right _ (List.mem_append_left _ h))⟩
theorem free3 {A : Nat → Prop} {wl w wr : va_W} {H0 H : Heap} {locs : List Loc} (hD : va_D A (wl ++ (w ++ wr))) (hS : va_S A H0 H locs) (hA : ∀ q, H0.size ≤ q → A q) : ∀ q, va_A w H.size q → A q := by
  intro q h
  rcases va_A_iff.mp h with h | h
  · exact (va_D_iff.mp (subD3 hD)).2 q h
  · exact hA q (Nat.le_trans hS.1 h)
-- ===== contracts =====
abbrev rmZ (fr lo : Nat) : Room := { frames := fr, cells := 0, slots := 0, locals := lo }
abbrev wds (y : MethodName) (b : ByteArray) (n : Nat) (ret : Option FieldType) : List Cond := .code y b n ret :: lw_good
/-- a method that makes nothing: its answer and its world's new state are sp -/
def Ct (l : Launch) (y : MethodName) (b : ByteArray) (n : Nat) (ret : Option FieldType) (fr lo : Nat) (D : va_G) (cA : Nat → ClassId) {St : Type} (av : List Value) (Wf : St → va_W) (X : St) (sp : Int32 × St) : Prop :=
  ∀ sz : Nat, Met l y (wds y b n ret) (rmZ fr lo) (va_Pc av (fun U => U.heap.size = sz ∧ va_P D classes (Wf X) U.heap ∧ KK D cA U ∧ va_D (fun _ => True) (Wf X)))
    (va_Qi (fun r (_ : Unit) => r = sp.1) (fun _ t => va_P D classes (Wf sp.2) t.heap) (va_A (Wf X) sz)) 0 0 (va_A (Wf X) sz)
theorem Ct.of {l : Launch} {y : MethodName} {b : ByteArray} {n : Nat} {ret : Option FieldType} {fr lo : Nat} {D : va_G} {cA : Nat → ClassId} {St : Type} {av : List Value} {Wf : St → va_W} {X : St} {sp : Int32 × St} {ty : FieldType} (hret : ret = some ty) (hn : narrow ty (.int sp.1) = .int sp.1) (hy : plainName y.cls = true) (hlen : (lg_sl av).length ≤ n)
    (body : ∀ (p : Program) (e : Env) (s : State) (m : MethodId) (below : List Frame) (meth : Method) (c : Code) (A : Nat → Prop) (Q : State → Prop) (ls : Array Slot),
      p.tables.exec = Jvm.exec → c.code = b → c.maxLocals = n → s.vm.findClass y.cls = some m.cls → (∀ w ∈ lw_good, w.before av.toArray s = true) → KK D cA s → va_P D classes (Wf X) s.heap → va_D A (Wf X) → (∀ q, s.heap.size ≤ q → A q) → va_S A s.heap s.heap [] →
      (∀ (r : Int32) (X' : St) (H : Heap) (locs : List Loc) (pc : Nat) (ls' : Array Slot), sp = (r, X') → va_P D classes (Wf X') H → va_S A s.heap H locs → decode b pc = .ok (.ireturn, 1) → W p l e (rmZ fr lo) s m av.toArray below meth c H locs 0 0 Q (F0 m pc ls' [.int r])) →
      lv_has ls n (lv_args 0 av) → W p l e (rmZ fr lo) s m av.toArray below meth c s.heap [] 0 0 Q (F0 m 0 ls [])) : Ct l y b n ret fr lo D cA av Wf X sp := by
  intro sz
  refine Met.ofW (cc := b) (maxL := n) (ret := ret) hy rfl ?_
  intro p e s m args below meth c s₁ B hml hv
  obtain ⟨rfl, hsz, hP, hK, hD0⟩ := hv
  have hts := atoms_spec (ws := wds y b n ret) B.pre
  subst hsz
  have hl := lv_entry av (n := n) hlen
  rw [lg_entry_eq]
  refine body p e s m below meth c (va_A (Wf X) s.heap.size) _ _ B.exec B.bytes hml (findClass_of_methodNamed B.named) (fun w hw => hts w (List.mem_cons_of_mem _ hw)) hK hP hD0.self (fun q h => Or.inr h) va_S.rf ?_ hl
  intro r X' H locs pc ls' hsp hP' hS hdg
  have hr := B.returns
  have hlocks := B.notSynchronized
  rw [hret] at hr
  refine W.zret B.exec B.bytes hr (by rw [hsp] at hn; exact hn) (fun t ht hW => ⟨⟨r, (), rfl, by rw [hsp], by show va_P D classes (Wf sp.2) t.heap; rw [ht, hsp]; exact hP'⟩, hS.F ht⟩) hS.2.2 hdg
-- ===== calls =====
theorem good_cd {y : MethodName} {b : ByteArray} {n : Nat} {ret : Option FieldType} (h : Cond.code y b n ret ∈ lw_good) : GoodIn lw_good (wds y b n ret) := by
  intro w hw
  have hw' : w ∈ lw_good := by
    rcases List.mem_cons.mp hw with rfl | hw
    · exact h
    · exact hw
  exact ⟨hw', good_of_word (List.mem_filter.mp hw').2⟩
theorem good_app {ws ws' : List Cond} (h : GoodIn lw_good ws) (h' : ∀ w ∈ ws', w ∈ lw_good) : GoodIn lw_good (ws' ++ ws) := by
  intro w hw
  rcases List.mem_append.mp hw with hw | hw
  · exact ⟨h' w hw, good_of_word (List.mem_filter.mp (h' w hw)).2⟩
  · exact h w hw
/-- what a virtual call's words are -/
def LkV (own : String) (idx : Nat) (C : String) (y : MethodName) (b : ByteArray) (n : Nat) (ret : Option FieldType) (k : Nat) : Prop := GoodIn lw_good (wsV own idx C y (wds y b n ret)) ∧ (y.cls = C ∧ y.cls ≠ "java/lang/invoke/MethodHandle" ∧ y.cls ≠ "java/lang/invoke/VarHandle" ∧ (parseMethodDescriptor y.desc).map (fun d => d.parameters.length) = some k)
theorem LkV.of {own : String} {idx : Nat} {C : String} {y : MethodName} {b : ByteArray} {n : Nat} {ret : Option FieldType} {k : Nat} (h1 : Cond.methodLink own idx y ∈ lw_good) (h2 : Cond.instanceMethod y ∈ lw_good) (h3 : Cond.selects C y y ∈ lw_good) (h4 : Cond.initialized C ∈ lw_good) (h5 : Cond.code y b n ret ∈ lw_good)
    (hd : y.cls = C ∧ y.cls ≠ "java/lang/invoke/MethodHandle" ∧ y.cls ≠ "java/lang/invoke/VarHandle" ∧ (parseMethodDescriptor y.desc).map (fun d => d.parameters.length) = some k) : LkV own idx C y b n ret k := by
  refine ⟨good_app (good_cd h5) (fun w hw => ?_), hd⟩
  simp only [List.mem_cons, List.not_mem_nil, or_false] at hw
  rcases hw with rfl | rfl | rfl | rfl <;> assumption
def LkS (own : String) (idx : Nat) (y : MethodName) (b : ByteArray) (n : Nat) (ret : Option FieldType) (k : Nat) : Prop := GoodIn lw_good (wds y b n ret) ∧ (Cond.methodLink own idx y ∈ lw_good ∧ Cond.static y ∈ lw_good ∧ Cond.initialized y.cls ∈ lw_good) ∧ (y.cls ≠ "java/lang/invoke/MethodHandle" ∧ y.cls ≠ "java/lang/invoke/VarHandle" ∧ (parseMethodDescriptor y.desc).map (fun d => d.parameters.length) = some k)
theorem LkS.of {own : String} {idx : Nat} {y : MethodName} {b : ByteArray} {n : Nat} {ret : Option FieldType} {k : Nat} (h1 : Cond.methodLink own idx y ∈ lw_good) (h2 : Cond.static y ∈ lw_good) (h4 : Cond.initialized y.cls ∈ lw_good) (h5 : Cond.code y b n ret ∈ lw_good)
    (hd : y.cls ≠ "java/lang/invoke/MethodHandle" ∧ y.cls ≠ "java/lang/invoke/VarHandle" ∧ (parseMethodDescriptor y.desc).map (fun d => d.parameters.length) = some k) : LkS own idx y b n ret k := ⟨good_cd h5, ⟨h1, h2, h4⟩, hd⟩
section CALLS
variable {p : Program} {l : Launch} {e : Env} {R : Room} {s : State} {m : MethodId} {args : Array Value} {below : List Frame} {meth : Method} {c : Code} {H : Heap} {locs : List Loc} {cells slots : Nat} {Q : State → Prop}
variable {cc b : ByteArray} {pc nL n fr lo idx ci : Nat} {ls : Array Slot} {rest st0 As : List Value} {D : va_G} {cA : Nat → ClassId} {A : Nat → Prop} {a : Nat} {own C : String} {y : MethodName} {ret : Option FieldType} {St : Type} {Wf : St → va_W} {X : St} {sp : Int32 × St} {rr : Int32} {X' : St} {wl wr : va_W} {r0 : vw_C} {fs : List Value}
theorem call_blind {av : List Value} {sz : Nat} {w : va_W} : FrameBlind (va_Pc av (fun U => U.heap.size = sz ∧ va_P D classes w U.heap ∧ KK D cA U ∧ va_D (fun _ => True) w)) := by
  intro a U g mk q
  obtain ⟨q0, q1, qP, qK, qD⟩ := q
  exact ⟨q0, q1, qP, KK.same (u := U) (U := U.calling g mk a) rfl qK, qD⟩
/-- a virtual call of a method that makes nothing; the callee's world is the middle of the caller's -/
theorem cV3 (hM : Ct l y b n ret fr lo D cA (.ref a :: As) Wf X sp) (lk : LkV own idx C y b n ret As.length) (hx : p.tables.exec = Jvm.exec) (hb : c.code = cc) (hml : c.maxLocals = nL) (hown : s.vm.findClass own = some m.cls) (hts : ∀ w ∈ lw_good, w.before args s = true) (hKK : KK D cA s)
    (hP : va_P D classes (wl ++ (Wf X ++ wr)) H) (hD : va_D A (wl ++ (Wf X ++ wr))) (hS : va_S A s.heap H locs) (hA : ∀ q, s.heap.size ≤ q → A q) (hls : ls.size = nL) (q0 : Nat) (he : (Wf X)[q0]? = some (a, .inr (ci, fs))) (hc : classes[ci]? = some r0) (hC : r0.1 = C)
    (hroom : fr + 1 ≤ R.frames ∧ 8 + (n + 11) + lo ≤ R.locals) (hcs : cells ≤ R.cells ∧ slots ≤ R.slots) (hsp : sp = (rr, X')) (hadr : (Wf X').map Prod.fst = (Wf X).map Prod.fst) (hst : st0 = As.reverse ++ .ref a :: rest) (hW : (rest.map fun v => v.category).sum ≤ 8) (hdg : decode cc pc = .ok (.invokevirtual idx, 3))
    (kk : ∀ (H1 : Heap) (locs1 : List Loc), va_P D classes (wl ++ (Wf X' ++ wr)) H1 → va_D A (wl ++ (Wf X' ++ wr)) → va_S A s.heap H1 locs1 → W p l e R s m args below meth c H1 locs1 cells slots Q (F0 m (pc + 3) ls (.int rr :: rest))) :
    W p l e R s m args below meth c H locs cells slots Q (F0 m pc ls st0) := by
  subst hsp
  have hF := free3 hD hS hA
  have hPc := sub3 hP
  subst hC
  refine va_calli (va_runV (As := As) (rest := rest) ⟨hx, hb, hml, hown, hts⟩ (hM H.size) (cwV As.length hts lk.1 rfl rfl rfl lk.2 hroom) ⟨call_blind, va_recv hKK.1 hPc hc he, fun U hU hW => ⟨rfl, by rw [hU], by rw [hU]; exact hPc, KK.warm hW hKK, (subD3 hD).weaken (fun _ _ _ _ => trivial)⟩⟩ rfl rfl hls hst (lv_room hW) hdg hcs) hS (fun q _ h => hF q h) hF (fun r u t H1 locs1 ht hvm hw hB hz1 hk1 hS1 => ?_)
  rw [ht] at hB
  obtain ⟨hP1, hD1⟩ := join3 hP hD hadr hk1 hB
  rw [hw]
  exact kk H1 locs1 hP1 hD1 hS1
theorem cS3 (hM : Ct l y b n ret fr lo D cA As Wf X sp) (lk : LkS own idx y b n ret As.length) (hx : p.tables.exec = Jvm.exec) (hb : c.code = cc) (hml : c.maxLocals = nL) (hown : s.vm.findClass own = some m.cls) (hts : ∀ w ∈ lw_good, w.before args s = true) (hKK : KK D cA s)
    (hP : va_P D classes (wl ++ (Wf X ++ wr)) H) (hD : va_D A (wl ++ (Wf X ++ wr))) (hS : va_S A s.heap H locs) (hA : ∀ q, s.heap.size ≤ q → A q) (hls : ls.size = nL)
    (hroom : fr + 1 ≤ R.frames ∧ 8 + (n + 11) + lo ≤ R.locals) (hcs : cells ≤ R.cells ∧ slots ≤ R.slots) (hsp : sp = (rr, X')) (hadr : (Wf X').map Prod.fst = (Wf X).map Prod.fst) (hst : st0 = As.reverse ++ rest) (hW : (rest.map fun v => v.category).sum ≤ 8) (hdg : decode cc pc = .ok (.invokestatic idx, 3))
    (kk : ∀ (H1 : Heap) (locs1 : List Loc), va_P D classes (wl ++ (Wf X' ++ wr)) H1 → va_D A (wl ++ (Wf X' ++ wr)) → va_S A s.heap H1 locs1 → W p l e R s m args below meth c H1 locs1 cells slots Q (F0 m (pc + 3) ls (.int rr :: rest))) :
    W p l e R s m args below meth c H locs cells slots Q (F0 m pc ls st0) := by
  subst hsp
  have hF := free3 hD hS hA
  have hPc := sub3 hP
  refine va_calli (va_runS (As := As) (rest := rest) ⟨hx, hb, hml, hown, hts⟩ (hM H.size) ⟨callB_of As.length hts lk.1 rfl rfl rfl (hts _ lk.2.1.2.2) (hts _ lk.2.1.1) lk.2.2 hroom, hts _ lk.2.1.2.1⟩ ⟨call_blind, fun U hU hW => ⟨rfl, by rw [hU], by rw [hU]; exact hPc, KK.warm hW hKK, (subD3 hD).weaken (fun _ _ _ _ => trivial)⟩⟩ rfl rfl hls hst (lv_room hW) hdg hcs) hS (fun q _ h => hF q h) hF (fun r u t H1 locs1 ht hvm hw hB hz1 hk1 hS1 => ?_)
  rw [ht] at hB
  obtain ⟨hP1, hD1⟩ := join3 hP hD hadr hk1 hB
  rw [hw]
  exact kk H1 locs1 hP1 hD1 hS1
/-- the same, where the worlds are the same -/
theorem cV (hM : Ct l y b n ret fr lo D cA (.ref a :: As) Wf X sp) (lk : LkV own idx C y b n ret As.length) (hx : p.tables.exec = Jvm.exec) (hb : c.code = cc) (hml : c.maxLocals = nL) (hown : s.vm.findClass own = some m.cls) (hts : ∀ w ∈ lw_good, w.before args s = true) (hKK : KK D cA s)
    (hP : va_P D classes (Wf X) H) (hD : va_D A (Wf X)) (hS : va_S A s.heap H locs) (hA : ∀ q, s.heap.size ≤ q → A q) (hls : ls.size = nL) (q0 : Nat) (he : (Wf X)[q0]? = some (a, .inr (ci, fs))) (hc : classes[ci]? = some r0) (hC : r0.1 = C)
    (hroom : fr + 1 ≤ R.frames ∧ 8 + (n + 11) + lo ≤ R.locals) (hcs : cells ≤ R.cells ∧ slots ≤ R.slots) (hsp : sp = (rr, X')) (hadr : (Wf X').map Prod.fst = (Wf X).map Prod.fst) (hst : st0 = As.reverse ++ .ref a :: rest) (hW : (rest.map fun v => v.category).sum ≤ 8) (hdg : decode cc pc = .ok (.invokevirtual idx, 3))
    (kk : ∀ (H1 : Heap) (locs1 : List Loc), va_P D classes (Wf X') H1 → va_D A (Wf X') → va_S A s.heap H1 locs1 → W p l e R s m args below meth c H1 locs1 cells slots Q (F0 m (pc + 3) ls (.int rr :: rest))) :
    W p l e R s m args below meth c H locs cells slots Q (F0 m pc ls st0) :=
  cV3 (wl := []) (wr := []) hM lk hx hb hml hown hts hKK (by simpa using hP) (by simpa using hD) hS hA hls q0 he hc hC hroom hcs hsp hadr hst hW hdg (fun H1 locs1 a1 a2 a3 => kk H1 locs1 (by simpa using a1) (by simpa using a2) a3)
theorem cS (hM : Ct l y b n ret fr lo D cA As Wf X sp) (lk : LkS own idx y b n ret As.length) (hx : p.tables.exec = Jvm.exec) (hb : c.code = cc) (hml : c.maxLocals = nL) (hown : s.vm.findClass own = some m.cls) (hts : ∀ w ∈ lw_good, w.before args s = true) (hKK : KK D cA s)
    (hP : va_P D classes (Wf X) H) (hD : va_D A (Wf X)) (hS : va_S A s.heap H locs) (hA : ∀ q, s.heap.size ≤ q → A q) (hls : ls.size = nL)
    (hroom : fr + 1 ≤ R.frames ∧ 8 + (n + 11) + lo ≤ R.locals) (hcs : cells ≤ R.cells ∧ slots ≤ R.slots) (hsp : sp = (rr, X')) (hadr : (Wf X').map Prod.fst = (Wf X).map Prod.fst) (hst : st0 = As.reverse ++ rest) (hW : (rest.map fun v => v.category).sum ≤ 8) (hdg : decode cc pc = .ok (.invokestatic idx, 3))
    (kk : ∀ (H1 : Heap) (locs1 : List Loc), va_P D classes (Wf X') H1 → va_D A (Wf X') → va_S A s.heap H1 locs1 → W p l e R s m args below meth c H1 locs1 cells slots Q (F0 m (pc + 3) ls (.int rr :: rest))) :
    W p l e R s m args below meth c H locs cells slots Q (F0 m pc ls st0) :=
  cS3 (wl := []) (wr := []) hM lk hx hb hml hown hts hKK (by simpa using hP) (by simpa using hD) hS hA hls hroom hcs hsp hadr hst hW hdg (fun H1 locs1 a1 a2 a3 => kk H1 locs1 (by simpa using a1) (by simpa using a2) a3)
end CALLS
end
section
-- ===== the pictures of the two sides, and what their methods do, as pure functions =====
abbrev Sg : Type := Nat → Nat → Int32
abbrev ix (i : Int32) : Nat := i.toNatClampNeg
/-- in cell j the place k holds v -/
def pt (X : Sg) (j k : Nat) (v : Int32) : Sg := va_up X j (upd (X j) k v)
abbrev nz (x : Int32) : Int32 := vp_nar .boolean x
abbrev nb (x : Int32) : Int32 := vp_nar .byte x
/-- the 32 rows of actions -/
def rowsW (cA : Nat → ClassId) (h : Nat → Nat) (Rw : Sg) : va_W := (List.range 32).map (fun e => (h (22 + e), .inl (cA 2, 256, .inl (Rw e))))
def wC (cA : Nat → ClassId) (h : Nat → Nat) (Rw X : Sg) : va_W := [
  (h 0, .inr (0, [.ref (h 1), .ref (h 3), .ref (h 7), .ref (h 17), .ref (h 21), .int (X 0 5), .int (X 0 6)])),
  (h 1, .inr (1, [.ref (h 2)])),
  (h 2, .inl (cA 0, 32, .inl (X 2))),
  (h 3, .inr (2, [.ref (h 4), .ref (h 5), .int (X 3 2), .int (X 3 3), .int (X 3 4), .ref (h 6), .int (X 3 6)])),
  (h 4, .inl (cA 0, 64, .inl (X 4))),
  (h 5, .inl (cA 0, 64, .inl (X 5))),
  (h 6, .inl (cA 1, 32, .inl (X 6))),
  (h 7, .inr (3, [.ref (h 8), .ref (h 9), .ref (h 10), .ref (h 11), .ref (h 12), .ref (h 13), .ref (h 14), .ref (h 15), .ref (h 16), .int (X 7 9), .int (X 7 10)])),
  (h 8, .inl (cA 1, 256, .inl (X 8))),
  (h 9, .inl (cA 1, 256, .inl (X 9))),
  (h 10, .inl (cA 1, 256, .inl (X 10))),
  (h 11, .inl (cA 0, 256, .inl (X 11))),
  (h 12, .inl (cA 0, 256, .inl (X 12))),
  (h 13, .inl (cA 0, 256, .inl (X 13))),
  (h 14, .inl (cA 0, 256, .inl (X 14))),
  (h 15, .inl (cA 0, 256, .inl (X 15))),
  (h 16, .inl (cA 0, 256, .inl (X 16))),
  (h 17, .inr (4, [.ref (h 18), .ref (h 19), .ref (h 20)])),
  (h 18, .inl (cA 3, 32, .inr (.inr (.inr (.inr (fun e => some (h (22 + e)))))))),
  (h 19, .inl (cA 0, 32, .inl (X 19))),
  (h 20, .inl (cA 1, 32, .inl (X 20))),
  (h 21, .inl (cA 2, 256, .inl (X 21)))] ++ rowsW cA h Rw
def wM (cA : Nat → ClassId) (h : Nat → Nat) (X : Sg) : va_W := [
  (h 0, .inr (5, [.int (X 0 0), .ref (h 1), .ref (h 2), .ref (h 3), .ref (h 4), .ref (h 5), .ref (h 6), .ref (h 7), .ref (h 8), .ref (h 9), .ref (h 10), .int (X 0 11), .int (X 0 12), .int (X 0 13), .ref (h 11), .ref (h 12), .int (X 0 16), .int (X 0 17), .ref (h 13), .ref (h 14), .ref (h 15), .ref (h 16), .int (X 0 22), .ref (h 17)])),
  (h 1, .inl (cA 0, 32, .inl (X 1))),
  (h 2, .inl (cA 1, 256, .inl (X 2))),
  (h 3, .inl (cA 1, 256, .inl (X 3))),
  (h 4, .inl (cA 1, 256, .inl (X 4))),
  (h 5, .inl (cA 0, 256, .inl (X 5))),
  (h 6, .inl (cA 0, 256, .inl (X 6))),
  (h 7, .inl (cA 0, 256, .inl (X 7))),
  (h 8, .inl (cA 0, 256, .inl (X 8))),
  (h 9, .inl (cA 0, 256, .inl (X 9))),
  (h 10, .inl (cA 0, 256, .inl (X 10))),
  (h 11, .inl (cA 0, 64, .inl (X 11))),
  (h 12, .inl (cA 0, 64, .inl (X 12))),
  (h 13, .inl (cA 1, 32, .inl (X 13))),
  (h 14, .inl (cA 0, 32, .inl (X 14))),
  (h 15, .inl (cA 1, 32, .inl (X 15))),
  (h 16, .inl (cA 2, 8192, .inl (X 16))),
  (h 17, .inl (cA 2, 256, .inl (X 17)))]
theorem wC_adr {cA : Nat → ClassId} {h : Nat → Nat} {Rw Rw' X X' : Sg} : (wC cA h Rw' X').map Prod.fst = (wC cA h Rw X).map Prod.fst := rfl
theorem wM_adr {cA : Nat → ClassId} {h : Nat → Nat} {X X' : Sg} : (wM cA h X').map Prod.fst = (wM cA h X).map Prod.fst := rfl
-- ===== the class =====
def sE_is (e : Int32) : Int32 := if e < 0 then 0 else if 32 ≤ e then 0 else 1
def sE_k (X : Sg) : Int32 := (X 3 2 + X 3 3) - (X 3 2 + X 3 3) / 64 * 64
def sE_raise (X : Sg) (e v : Int32) : Int32 × Sg := if X 3 3 = 64 then (0, pt X 3 4 (X 3 4 + 1)) else (1, pt (pt (pt X 4 (ix (sE_k X)) e) 5 (ix (sE_k X)) v) 3 3 (X 3 3 + 1))
def sE_work (X : Sg) : Int32 × Sg := if X 3 3 = 0 then (-1, X) else (X 4 (ix (X 3 2)), pt (pt (pt X 3 6 (X 5 (ix (X 3 2)))) 3 2 ((X 3 2 + 1) - (X 3 2 + 1) / 64 * 64)) 3 3 (X 3 3 - 1))
def sE_lose (X : Sg) : Int32 × Sg := (X 3 3, pt (pt X 3 4 (X 3 4 + X 3 3)) 3 3 0)
def sL_is (X : Sg) (id : Int32) : Int32 := if id < 0 then 0 else if 256 ≤ id then 0 else if X 8 (ix id) = 0 then 0 else 1
def sL_add (X : Sg) (id par often low high ev lk : Int32) : Int32 × Sg :=
  if often < 1 then (13, X) else if 255 < often then (13, X) else if high < low then (13, X) else if par < 0 then (13, X) else if 32 ≤ par then (13, X) else if sE_is ev = 0 then (13, X) else if id < 0 then (13, X) else
  if id < 256 then (if X 8 (ix id) = 0 then (if X 7 9 = 16 then (26, X) else
    (0, pt (pt (pt (pt (pt (pt (pt (pt (pt (pt X 8 (ix id) (nz 1)) 9 (ix id) (nz 0)) 10 (ix id) (nz lk)) 11 (ix id) par) 12 (ix id) often) 13 (ix id) low) 14 (ix id) high) 15 (ix id) ev) 16 (ix id) 0) 7 9 (X 7 9 + 1))) else (25, X)) else (13, X)
def sL_remove (X : Sg) (id : Int32) : Int32 × Sg := if sL_is X id = 0 then (27, X) else if X 9 (ix id) = 0 then (0, pt (pt X 8 (ix id) (nz 0)) 7 9 (X 7 9 - 1)) else (15, X)
def sL_enable (X : Sg) (id b : Int32) : Int32 × Sg := if sL_is X id = 0 then (27, X) else (0, pt (pt X 9 (ix id) (nz b)) 16 (ix id) 0)
/-- the new count of a limit that is on -/
def sL_c (X : Sg) (v : Int32) (i : Nat) : Int32 := if v < X 13 i then X 16 i + 1 else if X 14 i < v then X 16 i + 1 else 0
def sL_step (X : Sg) (lk : Int32) (i : Nat) : Int32 × Sg :=
  if X 8 i = 0 then (lk, X) else if X 9 i = 0 then (lk, X) else
  if sL_c X (X 2 (ix (X 11 i))) i = X 12 i then
    (lk ||| (sE_raise (pt (pt X 16 i (sL_c X (X 2 (ix (X 11 i))) i)) 7 10 (X 7 10 + 1)) (X 15 i) (X 2 (ix (X 11 i)))).2 10 i, (sE_raise (pt (pt X 16 i (sL_c X (X 2 (ix (X 11 i))) i)) 7 10 (X 7 10 + 1)) (X 15 i) (X 2 (ix (X 11 i)))).2)
  else (lk, pt X 16 i (sL_c X (X 2 (ix (X 11 i))) i))
def sL_it (X : Sg) : Nat → Int32 × Sg
  | 0 => (0, X)
  | n + 1 => sL_step (sL_it X n).2 (sL_it X n).1 n
def sL_watch (X : Sg) : Int32 × Sg := sL_it X 256
def sC_set (X : Sg) (k v : Int32) : Int32 × Sg := if k < 0 then (0, X) else if k < 32 then (1, pt X 2 (ix k) v) else (0, X)
def sC_watch (X : Sg) : Int32 × Sg := ((sL_watch X).2 7 10 - X 7 10, pt (sL_watch X).2 0 6 (sL_watch X).1)
def sC_raise (X : Sg) (e v : Int32) : Int32 × Sg := if sE_is e = 0 then (0, X) else if (sE_raise X e v).1 = 0 then (0, (sE_raise X e v).2) else (1, (sE_raise X e v).2)
def sC_tell (X : Sg) (e b : Int32) : Int32 × Sg := if sE_is e = 0 then (16, X) else if b = 0 then (0, pt X 6 (ix e) (nz 1)) else (0, pt X 6 (ix e) (nz 0))
def sC_put (X : Sg) (b : Int32) : Int32 × Sg := if X 0 5 = 256 then (-1, X) else (X 0 5 + 1, pt (pt X 0 5 (X 0 5 + 1)) 21 (ix (X 0 5)) (nb b.toInt8.toInt32))
def sA_add (q : Sg × Sg) (e n : Int32) : Int32 × (Sg × Sg) := if q.1 19 (ix e) ≤ 0 then (0, (pt (pt q.1 19 (ix e) n) 20 (ix e) (nz 0), va_up q.2 (ix e) (va_cpy (q.1 21) (q.2 (ix e)) (ix 0) (ix 0) (ix n)))) else (29, q)
def sC_act (q : Sg × Sg) (e : Int32) : Int32 × (Sg × Sg) := if sE_is e = 0 then (16, (pt q.1 0 5 0, q.2)) else if q.1 0 5 = 0 then (22, (pt q.1 0 5 0, q.2)) else sA_add (pt q.1 0 5 0, q.2) e (q.1 0 5)
def sA_drop (X : Sg) (e : Int32) : Int32 × Sg := if X 19 (ix e) = 0 then (30, X) else if X 20 (ix e) = 0 then (0, pt X 19 (ix e) 0) else (15, X)
def sA_arm (X : Sg) (e b : Int32) : Int32 × Sg := if X 19 (ix e) = 0 then (30, X) else (0, pt X 20 (ix e) (nz b))
def sC_drop (X : Sg) (e : Int32) : Int32 × Sg := if sE_is e = 0 then (16, X) else sA_drop X e
def sC_arm (X : Sg) (e b : Int32) : Int32 × Sg := if sE_is e = 0 then (16, X) else sA_arm X e b
def sC_limit (X : Sg) (id w : Int32) : Int32 × Sg := if sL_is X id = 0 then (-1, X) else if w = 0 then (if X 9 (ix id) = 0 then (0, X) else (1, X)) else if w = 1 then (X 16 (ix id), X) else if w = 2 then (X 11 (ix id), X) else if w = 3 then (X 12 (ix id), X) else if w = 4 then (X 15 (ix id), X) else if w = 5 then (if X 10 (ix id) = 0 then (0, X) else (1, X)) else (-1, X)
def sC_event (X : Sg) (e w : Int32) : Int32 × Sg := if sE_is e = 0 then (-1, X) else if w = 0 then (if X 6 (ix e) = 0 then (1, X) else (0, X)) else if w = 1 then (X 19 (ix e), X) else if w = 2 then (if X 19 (ix e) ≤ 0 then (0, X) else if X 20 (ix e) = 0 then (0, X) else (1, X)) else (-1, X)
def sC_actionAt (X Rw : Sg) (e k : Int32) : Int32 × Sg := if sE_is e = 0 then (-1, X) else if k < 0 then (-1, X) else if k < X 19 (ix e) then (Rw (ix e) (ix k) &&& 255, X) else (-1, X)
def sC_count (X : Sg) (w : Int32) : Int32 × Sg := if w = 0 then (X 7 9, X) else if w = 1 then (X 7 10, X) else if w = 2 then (X 3 3, X) else if w = 3 then (X 3 4, X) else if w = 4 then (X 3 6, X) else (-1, X)
-- ===== the reference =====
def th (M : Sg) : Sg := pt M 0 0 0
def sM_isIn (v a b : Int32) : Int32 := if v < a then 0 else if b < v then 0 else 1
def sM_isThere (M : Sg) (id : Int32) : Int32 := if id < 0 then 0 else if 256 ≤ id then 0 else if M 2 (ix id) = 0 then 0 else 1
def cntN (f : Nat → Int32) : Nat → Int32
  | 0 => 0
  | n + 1 => cntN f n + (if f n = 0 then 0 else 1)
def sM_limits (M : Sg) : Int32 := cntN (M 2) 256
def sM_set (M : Sg) (k v : Int32) : Int32 × Sg := if k < 0 then (0, M) else if k ≤ 31 then (1, pt M 1 (ix k) v) else (0, M)
def sM_add (M : Sg) (id par often low high ev lk : Int32) : Int32 × Sg :=
  if sM_isIn often 1 255 = 0 then (13, M) else if high < low then (13, M) else if sM_isIn par 0 31 = 0 then (13, M) else if sM_isIn ev 0 31 = 0 then (13, M) else if sM_isIn id 0 255 = 0 then (13, M) else
  if M 2 (ix id) = 0 then (if sM_limits M = 16 then (26, M) else
    (0, pt (pt (pt (pt (pt (pt (pt (pt (pt M 2 (ix id) (nz 1)) 3 (ix id) (nz 0)) 4 (ix id) (nz lk)) 5 (ix id) par) 6 (ix id) often) 7 (ix id) low) 8 (ix id) high) 9 (ix id) ev) 10 (ix id) 0)) else (25, M)
def sM_remove (M : Sg) (id : Int32) : Int32 × Sg := if sM_isThere M id = 0 then (27, M) else if M 3 (ix id) = 0 then (0, pt M 2 (ix id) (nz (M 3 (ix id)))) else (15, pt M 2 (ix id) (nz (M 3 (ix id))))
def sM_enable (M : Sg) (id b : Int32) : Int32 × Sg := if sM_isThere M id = 0 then (27, M) else (0, pt (pt M 3 (ix id) (nz b)) 10 (ix id) 0)
def sM_waits (M : Sg) (e v : Int32) : Int32 × Sg := if M 0 13 = 64 then (0, pt M 0 16 (M 0 16 + 1)) else (1, pt (pt (pt M 11 (ix (M 0 13)) e) 12 (ix (M 0 13)) v) 0 13 (M 0 13 + 1))
def sM_c (M : Sg) (v : Int32) (i : Nat) : Int32 := if sM_isIn v (M 7 i) (M 8 i) = 0 then M 10 i + 1 else 0
def sM_lk (M : Sg) (i : Nat) : Sg := if M 0 12 = 0 then (if M 4 i = 0 then pt M 0 12 0 else pt M 0 12 1) else pt M 0 12 1
def sM_step (M : Sg) (n : Int32) (i : Nat) : Int32 × Sg :=
  if M 2 i = 0 then (n, M) else if M 3 i = 0 then (n, M) else
  if sM_c M (M 1 (ix (M 5 i))) i = M 6 i then
    (n + 1, sM_lk (sM_waits (pt M 10 i (sM_c M (M 1 (ix (M 5 i))) i)) (M 9 i) (M 1 (ix (M 5 i)))).2 i)
  else (n, pt M 10 i (sM_c M (M 1 (ix (M 5 i))) i))
def sM_it (M : Sg) : Nat → Int32 × Sg
  | 0 => (0, M)
  | n + 1 => sM_step (sM_it M n).2 (sM_it M n).1 n
def sM_w (M : Sg) : Int32 × Sg := sM_it (pt M 0 12 0) 256
def sM_watch (M : Sg) : Int32 × Sg := ((sM_w M).1, pt (sM_w M).2 0 11 ((sM_w M).2 0 11 + (sM_w M).1))
def sM_isEvent (e : Int32) : Int32 := sM_isIn e 0 31
def sM_raise (M : Sg) (e v : Int32) : Int32 × Sg := if sM_isEvent e = 0 then (0, M) else if (sM_waits M e v).1 = 0 then (0, (sM_waits M e v).2) else (1, (sM_waits M e v).2)
def sM_sh (M : Sg) : Nat → Sg
  | 0 => M
  | k + 1 => pt (pt (sM_sh M k) 11 k ((sM_sh M k) 11 (k + 1))) 12 k ((sM_sh M k) 12 (k + 1))
def sM_work (M : Sg) : Int32 × Sg := if M 0 13 = 0 then (-1, M) else (M 11 (ix 0), sM_sh (pt (pt M 0 17 (M 12 (ix 0))) 0 13 (M 0 13 - 1)) (ix (M 0 13 - 1)))
def sM_lose (M : Sg) : Int32 × Sg := (M 0 13, pt (pt M 0 13 0) 0 16 (M 0 16 + M 0 13))
def sM_tell (M : Sg) (e b : Int32) : Int32 × Sg := if sM_isEvent e = 0 then (16, M) else if b = 0 then (0, pt M 13 (ix e) (nz 1)) else (0, pt M 13 (ix e) (nz 0))
def sM_put (M : Sg) (b : Int32) : Int32 × Sg := if M 0 22 = 256 then (-1, M) else (M 0 22 + 1, pt (pt M 17 (ix (M 0 22)) (nb b.toInt8.toInt32)) 0 22 (M 0 22 + 1))
def sM_cp (M : Sg) (e : Int32) : Nat → Sg
  | 0 => M
  | k + 1 => pt (sM_cp M e k) 16 (ix (256 * e + nI k)) (nb ((sM_cp M e k) 17 k))
def sM_act (M : Sg) (e : Int32) : Int32 × Sg := if sM_isEvent e = 0 then (16, pt M 0 22 0) else if M 0 22 = 0 then (22, pt M 0 22 0) else if M 14 (ix e) ≤ 0 then (0, sM_cp (pt (pt (pt M 0 22 0) 14 (ix e) (M 0 22)) 15 (ix e) (nz 0)) e (ix (M 0 22))) else (29, pt M 0 22 0)
def sM_drop (M : Sg) (e : Int32) : Int32 × Sg := if sM_isEvent e = 0 then (16, M) else if M 14 (ix e) = 0 then (30, M) else if M 15 (ix e) = 0 then (0, pt M 14 (ix e) 0) else (15, M)
def sM_arm (M : Sg) (e b : Int32) : Int32 × Sg := if sM_isEvent e = 0 then (16, M) else if M 14 (ix e) = 0 then (30, M) else (0, pt M 15 (ix e) (nz b))
def sM_limit (M : Sg) (id w : Int32) : Int32 × Sg := if sM_isThere M id = 0 then (-1, M) else if w = 0 then (if M 3 (ix id) = 0 then (0, M) else (1, M)) else if w = 1 then (M 10 (ix id), M) else if w = 2 then (M 5 (ix id), M) else if w = 3 then (M 6 (ix id), M) else if w = 4 then (M 9 (ix id), M) else if w = 5 then (if M 4 (ix id) = 0 then (0, M) else (1, M)) else (-1, M)
def sM_event (M : Sg) (e w : Int32) : Int32 × Sg := if sM_isEvent e = 0 then (-1, M) else if w = 0 then (if M 13 (ix e) = 0 then (1, M) else (0, M)) else if w = 1 then (M 14 (ix e), M) else if w = 2 then (if M 14 (ix e) ≤ 0 then (0, M) else if M 15 (ix e) = 0 then (0, M) else (1, M)) else (-1, M)
def sM_actionAt (M : Sg) (e k : Int32) : Int32 × Sg := if sM_isEvent e = 0 then (-1, M) else if k < 0 then (-1, M) else if M 14 (ix e) ≤ k then (-1, M) else (M 16 (ix (256 * e + k)) &&& 255, M)
def sM_count (M : Sg) (w : Int32) : Int32 × Sg := if w = 0 then (sM_limits M, M) else if w = 1 then (M 0 11, M) else if w = 2 then (M 0 13, M) else if w = 3 then (M 0 16, M) else if w = 4 then (M 0 17, M) else (-1, M)
end
section
-- ===== rows that decode the instructions =====
abbrev b_C_init : ByteArray := prog_1_method_1_code
theorem d_C_init_0 : decode b_C_init 0 = .ok (.aload_n 0, 1) := by decide +kernel
theorem d_C_init_1 : decode b_C_init 1 = .ok (.invokespecial 1, 3) := by decide +kernel
theorem d_C_init_4 : decode b_C_init 4 = .ok (.aload_n 0, 1) := by decide +kernel
theorem d_C_init_5 : decode b_C_init 5 = .ok (.new 7, 3) := by decide +kernel
theorem d_C_init_8 : decode b_C_init 8 = .ok (.dup, 1) := by decide +kernel
theorem d_C_init_9 : decode b_C_init 9 = .ok (.invokespecial 9, 3) := by decide +kernel
theorem d_C_init_12 : decode b_C_init 12 = .ok (.putfield 10, 3) := by decide +kernel
theorem d_C_init_15 : decode b_C_init 15 = .ok (.aload_n 0, 1) := by decide +kernel
theorem d_C_init_16 : decode b_C_init 16 = .ok (.new 16, 3) := by decide +kernel
theorem d_C_init_19 : decode b_C_init 19 = .ok (.dup, 1) := by decide +kernel
theorem d_C_init_20 : decode b_C_init 20 = .ok (.invokespecial 18, 3) := by decide +kernel
theorem d_C_init_23 : decode b_C_init 23 = .ok (.putfield 19, 3) := by decide +kernel
theorem d_C_init_26 : decode b_C_init 26 = .ok (.aload_n 0, 1) := by decide +kernel
theorem d_C_init_27 : decode b_C_init 27 = .ok (.new 23, 3) := by decide +kernel
theorem d_C_init_30 : decode b_C_init 30 = .ok (.dup, 1) := by decide +kernel
theorem d_C_init_31 : decode b_C_init 31 = .ok (.invokespecial 25, 3) := by decide +kernel
theorem d_C_init_34 : decode b_C_init 34 = .ok (.putfield 26, 3) := by decide +kernel
theorem d_C_init_37 : decode b_C_init 37 = .ok (.aload_n 0, 1) := by decide +kernel
theorem d_C_init_38 : decode b_C_init 38 = .ok (.new 30, 3) := by decide +kernel
theorem d_C_init_41 : decode b_C_init 41 = .ok (.dup, 1) := by decide +kernel
theorem d_C_init_42 : decode b_C_init 42 = .ok (.invokespecial 32, 3) := by decide +kernel
theorem d_C_init_45 : decode b_C_init 45 = .ok (.putfield 33, 3) := by decide +kernel
theorem d_C_init_48 : decode b_C_init 48 = .ok (.aload_n 0, 1) := by decide +kernel
theorem d_C_init_49 : decode b_C_init 49 = .ok (.sipush 256, 3) := by decide +kernel
theorem d_C_init_52 : decode b_C_init 52 = .ok (.newarray .byte, 2) := by decide +kernel
theorem d_C_init_54 : decode b_C_init 54 = .ok (.putfield 37, 3) := by decide +kernel
theorem d_C_init_57 : decode b_C_init 57 = .ok (.return_, 1) := by decide +kernel
abbrev b_C_set : ByteArray := prog_1_method_2_code
theorem d_C_set_0 : decode b_C_set 0 = .ok (.iload_n 1, 1) := by decide +kernel
theorem d_C_set_1 : decode b_C_set 1 = .ok (.ifCond .lt 9, 3) := by decide +kernel
theorem d_C_set_4 : decode b_C_set 4 = .ok (.iload_n 1, 1) := by decide +kernel
theorem d_C_set_5 : decode b_C_set 5 = .ok (.bipush 32, 2) := by decide +kernel
theorem d_C_set_7 : decode b_C_set 7 = .ok (.if_icmp .lt 5, 3) := by decide +kernel
theorem d_C_set_10 : decode b_C_set 10 = .ok (.iconst 0, 1) := by decide +kernel
theorem d_C_set_11 : decode b_C_set 11 = .ok (.ireturn, 1) := by decide +kernel
theorem d_C_set_12 : decode b_C_set 12 = .ok (.aload_n 0, 1) := by decide +kernel
theorem d_C_set_13 : decode b_C_set 13 = .ok (.getfield 10, 3) := by decide +kernel
theorem d_C_set_16 : decode b_C_set 16 = .ok (.getfield 41, 3) := by decide +kernel
theorem d_C_set_19 : decode b_C_set 19 = .ok (.iload_n 1, 1) := by decide +kernel
theorem d_C_set_20 : decode b_C_set 20 = .ok (.iload_n 2, 1) := by decide +kernel
theorem d_C_set_21 : decode b_C_set 21 = .ok (.iastore, 1) := by decide +kernel
theorem d_C_set_22 : decode b_C_set 22 = .ok (.iconst 1, 1) := by decide +kernel
theorem d_C_set_23 : decode b_C_set 23 = .ok (.ireturn, 1) := by decide +kernel
abbrev b_C_add : ByteArray := prog_1_method_3_code
theorem d_C_add_0 : decode b_C_add 0 = .ok (.aload_n 0, 1) := by decide +kernel
theorem d_C_add_1 : decode b_C_add 1 = .ok (.getfield 26, 3) := by decide +kernel
theorem d_C_add_4 : decode b_C_add 4 = .ok (.iload_n 1, 1) := by decide +kernel
theorem d_C_add_5 : decode b_C_add 5 = .ok (.iload_n 2, 1) := by decide +kernel
theorem d_C_add_6 : decode b_C_add 6 = .ok (.iload_n 3, 1) := by decide +kernel
theorem d_C_add_7 : decode b_C_add 7 = .ok (.iload 4, 2) := by decide +kernel
theorem d_C_add_9 : decode b_C_add 9 = .ok (.iload 5, 2) := by decide +kernel
theorem d_C_add_11 : decode b_C_add 11 = .ok (.iload 6, 2) := by decide +kernel
theorem d_C_add_13 : decode b_C_add 13 = .ok (.iload 7, 2) := by decide +kernel
theorem d_C_add_15 : decode b_C_add 15 = .ok (.invokevirtual 44, 3) := by decide +kernel
theorem d_C_add_18 : decode b_C_add 18 = .ok (.ireturn, 1) := by decide +kernel
abbrev b_C_remove : ByteArray := prog_1_method_4_code
theorem d_C_remove_0 : decode b_C_remove 0 = .ok (.aload_n 0, 1) := by decide +kernel
theorem d_C_remove_1 : decode b_C_remove 1 = .ok (.getfield 26, 3) := by decide +kernel
theorem d_C_remove_4 : decode b_C_remove 4 = .ok (.iload_n 1, 1) := by decide +kernel
theorem d_C_remove_5 : decode b_C_remove 5 = .ok (.invokevirtual 48, 3) := by decide +kernel
theorem d_C_remove_8 : decode b_C_remove 8 = .ok (.ireturn, 1) := by decide +kernel
abbrev b_C_enable : ByteArray := prog_1_method_5_code
theorem d_C_enable_0 : decode b_C_enable 0 = .ok (.aload_n 0, 1) := by decide +kernel
theorem d_C_enable_1 : decode b_C_enable 1 = .ok (.getfield 26, 3) := by decide +kernel
theorem d_C_enable_4 : decode b_C_enable 4 = .ok (.iload_n 1, 1) := by decide +kernel
theorem d_C_enable_5 : decode b_C_enable 5 = .ok (.iload_n 2, 1) := by decide +kernel
theorem d_C_enable_6 : decode b_C_enable 6 = .ok (.invokevirtual 52, 3) := by decide +kernel
theorem d_C_enable_9 : decode b_C_enable 9 = .ok (.ireturn, 1) := by decide +kernel
abbrev b_C_watch : ByteArray := prog_1_method_6_code
theorem d_C_watch_0 : decode b_C_watch 0 = .ok (.aload_n 0, 1) := by decide +kernel
theorem d_C_watch_1 : decode b_C_watch 1 = .ok (.getfield 26, 3) := by decide +kernel
theorem d_C_watch_4 : decode b_C_watch 4 = .ok (.getfield 56, 3) := by decide +kernel
theorem d_C_watch_7 : decode b_C_watch 7 = .ok (.istore_n 1, 1) := by decide +kernel
theorem d_C_watch_8 : decode b_C_watch 8 = .ok (.aload_n 0, 1) := by decide +kernel
theorem d_C_watch_9 : decode b_C_watch 9 = .ok (.aload_n 0, 1) := by decide +kernel
theorem d_C_watch_10 : decode b_C_watch 10 = .ok (.getfield 26, 3) := by decide +kernel
theorem d_C_watch_13 : decode b_C_watch 13 = .ok (.aload_n 0, 1) := by decide +kernel
theorem d_C_watch_14 : decode b_C_watch 14 = .ok (.getfield 10, 3) := by decide +kernel
theorem d_C_watch_17 : decode b_C_watch 17 = .ok (.aload_n 0, 1) := by decide +kernel
theorem d_C_watch_18 : decode b_C_watch 18 = .ok (.getfield 19, 3) := by decide +kernel
theorem d_C_watch_21 : decode b_C_watch 21 = .ok (.invokevirtual 60, 3) := by decide +kernel
theorem d_C_watch_24 : decode b_C_watch 24 = .ok (.putfield 64, 3) := by decide +kernel
theorem d_C_watch_27 : decode b_C_watch 27 = .ok (.aload_n 0, 1) := by decide +kernel
theorem d_C_watch_28 : decode b_C_watch 28 = .ok (.getfield 26, 3) := by decide +kernel
theorem d_C_watch_31 : decode b_C_watch 31 = .ok (.getfield 56, 3) := by decide +kernel
theorem d_C_watch_34 : decode b_C_watch 34 = .ok (.iload_n 1, 1) := by decide +kernel
theorem d_C_watch_35 : decode b_C_watch 35 = .ok (.isub, 1) := by decide +kernel
theorem d_C_watch_36 : decode b_C_watch 36 = .ok (.ireturn, 1) := by decide +kernel
abbrev b_C_linked : ByteArray := prog_1_method_7_code
theorem d_C_linked_0 : decode b_C_linked 0 = .ok (.aload_n 0, 1) := by decide +kernel
theorem d_C_linked_1 : decode b_C_linked 1 = .ok (.getfield 64, 3) := by decide +kernel
theorem d_C_linked_4 : decode b_C_linked 4 = .ok (.ireturn, 1) := by decide +kernel
abbrev b_C_raise : ByteArray := prog_1_method_8_code
theorem d_C_raise_0 : decode b_C_raise 0 = .ok (.iload_n 1, 1) := by decide +kernel
theorem d_C_raise_1 : decode b_C_raise 1 = .ok (.invokestatic 68, 3) := by decide +kernel
theorem d_C_raise_4 : decode b_C_raise 4 = .ok (.ifCond .eq 19, 3) := by decide +kernel
theorem d_C_raise_7 : decode b_C_raise 7 = .ok (.aload_n 0, 1) := by decide +kernel
theorem d_C_raise_8 : decode b_C_raise 8 = .ok (.getfield 19, 3) := by decide +kernel
theorem d_C_raise_11 : decode b_C_raise 11 = .ok (.iload_n 1, 1) := by decide +kernel
theorem d_C_raise_12 : decode b_C_raise 12 = .ok (.iload_n 2, 1) := by decide +kernel
theorem d_C_raise_13 : decode b_C_raise 13 = .ok (.invokevirtual 72, 3) := by decide +kernel
theorem d_C_raise_16 : decode b_C_raise 16 = .ok (.ifCond .eq 7, 3) := by decide +kernel
theorem d_C_raise_19 : decode b_C_raise 19 = .ok (.iconst 1, 1) := by decide +kernel
theorem d_C_raise_20 : decode b_C_raise 20 = .ok (.goto 4, 3) := by decide +kernel
theorem d_C_raise_23 : decode b_C_raise 23 = .ok (.iconst 0, 1) := by decide +kernel
theorem d_C_raise_24 : decode b_C_raise 24 = .ok (.ireturn, 1) := by decide +kernel
abbrev b_C_work : ByteArray := prog_1_method_9_code
theorem d_C_work_0 : decode b_C_work 0 = .ok (.aload_n 0, 1) := by decide +kernel
theorem d_C_work_1 : decode b_C_work 1 = .ok (.getfield 19, 3) := by decide +kernel
theorem d_C_work_4 : decode b_C_work 4 = .ok (.invokevirtual 76, 3) := by decide +kernel
theorem d_C_work_7 : decode b_C_work 7 = .ok (.ireturn, 1) := by decide +kernel
abbrev b_C_lose : ByteArray := prog_1_method_10_code
theorem d_C_lose_0 : decode b_C_lose 0 = .ok (.aload_n 0, 1) := by decide +kernel
theorem d_C_lose_1 : decode b_C_lose 1 = .ok (.getfield 19, 3) := by decide +kernel
theorem d_C_lose_4 : decode b_C_lose 4 = .ok (.invokevirtual 80, 3) := by decide +kernel
theorem d_C_lose_7 : decode b_C_lose 7 = .ok (.ireturn, 1) := by decide +kernel
abbrev b_C_tell : ByteArray := prog_1_method_11_code
theorem d_C_tell_0 : decode b_C_tell 0 = .ok (.iload_n 1, 1) := by decide +kernel
theorem d_C_tell_1 : decode b_C_tell 1 = .ok (.invokestatic 68, 3) := by decide +kernel
theorem d_C_tell_4 : decode b_C_tell 4 = .ok (.ifCond .ne 6, 3) := by decide +kernel
theorem d_C_tell_7 : decode b_C_tell 7 = .ok (.bipush 16, 2) := by decide +kernel
theorem d_C_tell_9 : decode b_C_tell 9 = .ok (.ireturn, 1) := by decide +kernel
theorem d_C_tell_10 : decode b_C_tell 10 = .ok (.aload_n 0, 1) := by decide +kernel
theorem d_C_tell_11 : decode b_C_tell 11 = .ok (.getfield 19, 3) := by decide +kernel
theorem d_C_tell_14 : decode b_C_tell 14 = .ok (.getfield 83, 3) := by decide +kernel
theorem d_C_tell_17 : decode b_C_tell 17 = .ok (.iload_n 1, 1) := by decide +kernel
theorem d_C_tell_18 : decode b_C_tell 18 = .ok (.iload_n 2, 1) := by decide +kernel
theorem d_C_tell_19 : decode b_C_tell 19 = .ok (.ifCond .ne 7, 3) := by decide +kernel
theorem d_C_tell_22 : decode b_C_tell 22 = .ok (.iconst 1, 1) := by decide +kernel
theorem d_C_tell_23 : decode b_C_tell 23 = .ok (.goto 4, 3) := by decide +kernel
theorem d_C_tell_26 : decode b_C_tell 26 = .ok (.iconst 0, 1) := by decide +kernel
theorem d_C_tell_27 : decode b_C_tell 27 = .ok (.bastore, 1) := by decide +kernel
theorem d_C_tell_28 : decode b_C_tell 28 = .ok (.iconst 0, 1) := by decide +kernel
theorem d_C_tell_29 : decode b_C_tell 29 = .ok (.ireturn, 1) := by decide +kernel
abbrev b_C_put : ByteArray := prog_1_method_12_code
theorem d_C_put_0 : decode b_C_put 0 = .ok (.aload_n 0, 1) := by decide +kernel
theorem d_C_put_1 : decode b_C_put 1 = .ok (.getfield 87, 3) := by decide +kernel
theorem d_C_put_4 : decode b_C_put 4 = .ok (.sipush 256, 3) := by decide +kernel
theorem d_C_put_7 : decode b_C_put 7 = .ok (.if_icmp .ne 5, 3) := by decide +kernel
theorem d_C_put_10 : decode b_C_put 10 = .ok (.iconst (-1), 1) := by decide +kernel
theorem d_C_put_11 : decode b_C_put 11 = .ok (.ireturn, 1) := by decide +kernel
theorem d_C_put_12 : decode b_C_put 12 = .ok (.aload_n 0, 1) := by decide +kernel
theorem d_C_put_13 : decode b_C_put 13 = .ok (.getfield 37, 3) := by decide +kernel
theorem d_C_put_16 : decode b_C_put 16 = .ok (.aload_n 0, 1) := by decide +kernel
theorem d_C_put_17 : decode b_C_put 17 = .ok (.dup, 1) := by decide +kernel
theorem d_C_put_18 : decode b_C_put 18 = .ok (.getfield 87, 3) := by decide +kernel
theorem d_C_put_21 : decode b_C_put 21 = .ok (.dup_x1, 1) := by decide +kernel
theorem d_C_put_22 : decode b_C_put 22 = .ok (.iconst 1, 1) := by decide +kernel
theorem d_C_put_23 : decode b_C_put 23 = .ok (.iadd, 1) := by decide +kernel
theorem d_C_put_24 : decode b_C_put 24 = .ok (.putfield 87, 3) := by decide +kernel
theorem d_C_put_27 : decode b_C_put 27 = .ok (.iload_n 1, 1) := by decide +kernel
theorem d_C_put_28 : decode b_C_put 28 = .ok (.i2b, 1) := by decide +kernel
theorem d_C_put_29 : decode b_C_put 29 = .ok (.bastore, 1) := by decide +kernel
theorem d_C_put_30 : decode b_C_put 30 = .ok (.aload_n 0, 1) := by decide +kernel
theorem d_C_put_31 : decode b_C_put 31 = .ok (.getfield 87, 3) := by decide +kernel
theorem d_C_put_34 : decode b_C_put 34 = .ok (.ireturn, 1) := by decide +kernel
abbrev b_C_act : ByteArray := prog_1_method_13_code
theorem d_C_act_0 : decode b_C_act 0 = .ok (.aload_n 0, 1) := by decide +kernel
theorem d_C_act_1 : decode b_C_act 1 = .ok (.getfield 87, 3) := by decide +kernel
theorem d_C_act_4 : decode b_C_act 4 = .ok (.istore_n 2, 1) := by decide +kernel
theorem d_C_act_5 : decode b_C_act 5 = .ok (.aload_n 0, 1) := by decide +kernel
theorem d_C_act_6 : decode b_C_act 6 = .ok (.iconst 0, 1) := by decide +kernel
theorem d_C_act_7 : decode b_C_act 7 = .ok (.putfield 87, 3) := by decide +kernel
theorem d_C_act_10 : decode b_C_act 10 = .ok (.iload_n 1, 1) := by decide +kernel
theorem d_C_act_11 : decode b_C_act 11 = .ok (.invokestatic 68, 3) := by decide +kernel
theorem d_C_act_14 : decode b_C_act 14 = .ok (.ifCond .ne 8, 3) := by decide +kernel
theorem d_C_act_17 : decode b_C_act 17 = .ok (.bipush 16, 2) := by decide +kernel
theorem d_C_act_19 : decode b_C_act 19 = .ok (.goto 26, 3) := by decide +kernel
theorem d_C_act_22 : decode b_C_act 22 = .ok (.iload_n 2, 1) := by decide +kernel
theorem d_C_act_23 : decode b_C_act 23 = .ok (.ifCond .ne 8, 3) := by decide +kernel
theorem d_C_act_26 : decode b_C_act 26 = .ok (.bipush 22, 2) := by decide +kernel
theorem d_C_act_28 : decode b_C_act 28 = .ok (.goto 17, 3) := by decide +kernel
theorem d_C_act_31 : decode b_C_act 31 = .ok (.aload_n 0, 1) := by decide +kernel
theorem d_C_act_32 : decode b_C_act 32 = .ok (.getfield 33, 3) := by decide +kernel
theorem d_C_act_35 : decode b_C_act 35 = .ok (.iload_n 1, 1) := by decide +kernel
theorem d_C_act_36 : decode b_C_act 36 = .ok (.aload_n 0, 1) := by decide +kernel
theorem d_C_act_37 : decode b_C_act 37 = .ok (.getfield 37, 3) := by decide +kernel
theorem d_C_act_40 : decode b_C_act 40 = .ok (.iconst 0, 1) := by decide +kernel
theorem d_C_act_41 : decode b_C_act 41 = .ok (.iload_n 2, 1) := by decide +kernel
theorem d_C_act_42 : decode b_C_act 42 = .ok (.invokevirtual 90, 3) := by decide +kernel
theorem d_C_act_45 : decode b_C_act 45 = .ok (.ireturn, 1) := by decide +kernel
abbrev b_C_drop : ByteArray := prog_1_method_14_code
theorem d_C_drop_0 : decode b_C_drop 0 = .ok (.iload_n 1, 1) := by decide +kernel
theorem d_C_drop_1 : decode b_C_drop 1 = .ok (.invokestatic 68, 3) := by decide +kernel
theorem d_C_drop_4 : decode b_C_drop 4 = .ok (.ifCond .eq 14, 3) := by decide +kernel
theorem d_C_drop_7 : decode b_C_drop 7 = .ok (.aload_n 0, 1) := by decide +kernel
theorem d_C_drop_8 : decode b_C_drop 8 = .ok (.getfield 33, 3) := by decide +kernel
theorem d_C_drop_11 : decode b_C_drop 11 = .ok (.iload_n 1, 1) := by decide +kernel
theorem d_C_drop_12 : decode b_C_drop 12 = .ok (.invokevirtual 93, 3) := by decide +kernel
theorem d_C_drop_15 : decode b_C_drop 15 = .ok (.goto 5, 3) := by decide +kernel
theorem d_C_drop_18 : decode b_C_drop 18 = .ok (.bipush 16, 2) := by decide +kernel
theorem d_C_drop_20 : decode b_C_drop 20 = .ok (.ireturn, 1) := by decide +kernel
abbrev b_C_arm : ByteArray := prog_1_method_15_code
theorem d_C_arm_0 : decode b_C_arm 0 = .ok (.iload_n 1, 1) := by decide +kernel
theorem d_C_arm_1 : decode b_C_arm 1 = .ok (.invokestatic 68, 3) := by decide +kernel
theorem d_C_arm_4 : decode b_C_arm 4 = .ok (.ifCond .eq 15, 3) := by decide +kernel
theorem d_C_arm_7 : decode b_C_arm 7 = .ok (.aload_n 0, 1) := by decide +kernel
theorem d_C_arm_8 : decode b_C_arm 8 = .ok (.getfield 33, 3) := by decide +kernel
theorem d_C_arm_11 : decode b_C_arm 11 = .ok (.iload_n 1, 1) := by decide +kernel
theorem d_C_arm_12 : decode b_C_arm 12 = .ok (.iload_n 2, 1) := by decide +kernel
theorem d_C_arm_13 : decode b_C_arm 13 = .ok (.invokevirtual 96, 3) := by decide +kernel
theorem d_C_arm_16 : decode b_C_arm 16 = .ok (.goto 5, 3) := by decide +kernel
theorem d_C_arm_19 : decode b_C_arm 19 = .ok (.bipush 16, 2) := by decide +kernel
theorem d_C_arm_21 : decode b_C_arm 21 = .ok (.ireturn, 1) := by decide +kernel
abbrev b_C_limit : ByteArray := prog_1_method_16_code
theorem d_C_limit_0 : decode b_C_limit 0 = .ok (.aload_n 0, 1) := by decide +kernel
theorem d_C_limit_1 : decode b_C_limit 1 = .ok (.getfield 26, 3) := by decide +kernel
theorem d_C_limit_4 : decode b_C_limit 4 = .ok (.iload_n 1, 1) := by decide +kernel
theorem d_C_limit_5 : decode b_C_limit 5 = .ok (.invokevirtual 99, 3) := by decide +kernel
theorem d_C_limit_8 : decode b_C_limit 8 = .ok (.ifCond .ne 5, 3) := by decide +kernel
theorem d_C_limit_11 : decode b_C_limit 11 = .ok (.iconst (-1), 1) := by decide +kernel
theorem d_C_limit_12 : decode b_C_limit 12 = .ok (.ireturn, 1) := by decide +kernel
theorem d_C_limit_13 : decode b_C_limit 13 = .ok (.iload_n 2, 1) := by decide +kernel
theorem d_C_limit_14 : decode b_C_limit 14 = .ok (.tableswitch 114 0 5 #[38, 56, 66, 76, 86, 96], 38) := by decide +kernel
theorem d_C_limit_52 : decode b_C_limit 52 = .ok (.aload_n 0, 1) := by decide +kernel
theorem d_C_limit_53 : decode b_C_limit 53 = .ok (.getfield 26, 3) := by decide +kernel
theorem d_C_limit_56 : decode b_C_limit 56 = .ok (.getfield 100, 3) := by decide +kernel
theorem d_C_limit_59 : decode b_C_limit 59 = .ok (.iload_n 1, 1) := by decide +kernel
theorem d_C_limit_60 : decode b_C_limit 60 = .ok (.baload, 1) := by decide +kernel
theorem d_C_limit_61 : decode b_C_limit 61 = .ok (.ifCond .eq 7, 3) := by decide +kernel
theorem d_C_limit_64 : decode b_C_limit 64 = .ok (.iconst 1, 1) := by decide +kernel
theorem d_C_limit_65 : decode b_C_limit 65 = .ok (.goto 4, 3) := by decide +kernel
theorem d_C_limit_68 : decode b_C_limit 68 = .ok (.iconst 0, 1) := by decide +kernel
theorem d_C_limit_69 : decode b_C_limit 69 = .ok (.ireturn, 1) := by decide +kernel
theorem d_C_limit_70 : decode b_C_limit 70 = .ok (.aload_n 0, 1) := by decide +kernel
theorem d_C_limit_71 : decode b_C_limit 71 = .ok (.getfield 26, 3) := by decide +kernel
theorem d_C_limit_74 : decode b_C_limit 74 = .ok (.getfield 103, 3) := by decide +kernel
theorem d_C_limit_77 : decode b_C_limit 77 = .ok (.iload_n 1, 1) := by decide +kernel
theorem d_C_limit_78 : decode b_C_limit 78 = .ok (.iaload, 1) := by decide +kernel
theorem d_C_limit_79 : decode b_C_limit 79 = .ok (.ireturn, 1) := by decide +kernel
theorem d_C_limit_80 : decode b_C_limit 80 = .ok (.aload_n 0, 1) := by decide +kernel
theorem d_C_limit_81 : decode b_C_limit 81 = .ok (.getfield 26, 3) := by decide +kernel
theorem d_C_limit_84 : decode b_C_limit 84 = .ok (.getfield 106, 3) := by decide +kernel
theorem d_C_limit_87 : decode b_C_limit 87 = .ok (.iload_n 1, 1) := by decide +kernel
theorem d_C_limit_88 : decode b_C_limit 88 = .ok (.iaload, 1) := by decide +kernel
theorem d_C_limit_89 : decode b_C_limit 89 = .ok (.ireturn, 1) := by decide +kernel
theorem d_C_limit_90 : decode b_C_limit 90 = .ok (.aload_n 0, 1) := by decide +kernel
theorem d_C_limit_91 : decode b_C_limit 91 = .ok (.getfield 26, 3) := by decide +kernel
theorem d_C_limit_94 : decode b_C_limit 94 = .ok (.getfield 109, 3) := by decide +kernel
theorem d_C_limit_97 : decode b_C_limit 97 = .ok (.iload_n 1, 1) := by decide +kernel
theorem d_C_limit_98 : decode b_C_limit 98 = .ok (.iaload, 1) := by decide +kernel
theorem d_C_limit_99 : decode b_C_limit 99 = .ok (.ireturn, 1) := by decide +kernel
theorem d_C_limit_100 : decode b_C_limit 100 = .ok (.aload_n 0, 1) := by decide +kernel
theorem d_C_limit_101 : decode b_C_limit 101 = .ok (.getfield 26, 3) := by decide +kernel
theorem d_C_limit_104 : decode b_C_limit 104 = .ok (.getfield 112, 3) := by decide +kernel
theorem d_C_limit_107 : decode b_C_limit 107 = .ok (.iload_n 1, 1) := by decide +kernel
theorem d_C_limit_108 : decode b_C_limit 108 = .ok (.iaload, 1) := by decide +kernel
theorem d_C_limit_109 : decode b_C_limit 109 = .ok (.ireturn, 1) := by decide +kernel
theorem d_C_limit_110 : decode b_C_limit 110 = .ok (.aload_n 0, 1) := by decide +kernel
theorem d_C_limit_111 : decode b_C_limit 111 = .ok (.getfield 26, 3) := by decide +kernel
theorem d_C_limit_114 : decode b_C_limit 114 = .ok (.getfield 114, 3) := by decide +kernel
theorem d_C_limit_117 : decode b_C_limit 117 = .ok (.iload_n 1, 1) := by decide +kernel
theorem d_C_limit_118 : decode b_C_limit 118 = .ok (.baload, 1) := by decide +kernel
theorem d_C_limit_119 : decode b_C_limit 119 = .ok (.ifCond .eq 7, 3) := by decide +kernel
theorem d_C_limit_122 : decode b_C_limit 122 = .ok (.iconst 1, 1) := by decide +kernel
theorem d_C_limit_123 : decode b_C_limit 123 = .ok (.goto 4, 3) := by decide +kernel
theorem d_C_limit_126 : decode b_C_limit 126 = .ok (.iconst 0, 1) := by decide +kernel
theorem d_C_limit_127 : decode b_C_limit 127 = .ok (.ireturn, 1) := by decide +kernel
theorem d_C_limit_128 : decode b_C_limit 128 = .ok (.iconst (-1), 1) := by decide +kernel
theorem d_C_limit_129 : decode b_C_limit 129 = .ok (.ireturn, 1) := by decide +kernel
abbrev b_C_event : ByteArray := prog_1_method_17_code
theorem d_C_event_0 : decode b_C_event 0 = .ok (.iload_n 1, 1) := by decide +kernel
theorem d_C_event_1 : decode b_C_event 1 = .ok (.invokestatic 68, 3) := by decide +kernel
theorem d_C_event_4 : decode b_C_event 4 = .ok (.ifCond .ne 5, 3) := by decide +kernel
theorem d_C_event_7 : decode b_C_event 7 = .ok (.iconst (-1), 1) := by decide +kernel
theorem d_C_event_8 : decode b_C_event 8 = .ok (.ireturn, 1) := by decide +kernel
theorem d_C_event_9 : decode b_C_event 9 = .ok (.iload_n 2, 1) := by decide +kernel
theorem d_C_event_10 : decode b_C_event 10 = .ok (.tableswitch 84 0 2 #[26, 44, 54], 26) := by decide +kernel
theorem d_C_event_36 : decode b_C_event 36 = .ok (.aload_n 0, 1) := by decide +kernel
theorem d_C_event_37 : decode b_C_event 37 = .ok (.getfield 19, 3) := by decide +kernel
theorem d_C_event_40 : decode b_C_event 40 = .ok (.getfield 83, 3) := by decide +kernel
theorem d_C_event_43 : decode b_C_event 43 = .ok (.iload_n 1, 1) := by decide +kernel
theorem d_C_event_44 : decode b_C_event 44 = .ok (.baload, 1) := by decide +kernel
theorem d_C_event_45 : decode b_C_event 45 = .ok (.ifCond .eq 7, 3) := by decide +kernel
theorem d_C_event_48 : decode b_C_event 48 = .ok (.iconst 0, 1) := by decide +kernel
theorem d_C_event_49 : decode b_C_event 49 = .ok (.goto 4, 3) := by decide +kernel
theorem d_C_event_52 : decode b_C_event 52 = .ok (.iconst 1, 1) := by decide +kernel
theorem d_C_event_53 : decode b_C_event 53 = .ok (.ireturn, 1) := by decide +kernel
theorem d_C_event_54 : decode b_C_event 54 = .ok (.aload_n 0, 1) := by decide +kernel
theorem d_C_event_55 : decode b_C_event 55 = .ok (.getfield 33, 3) := by decide +kernel
theorem d_C_event_58 : decode b_C_event 58 = .ok (.getfield 117, 3) := by decide +kernel
theorem d_C_event_61 : decode b_C_event 61 = .ok (.iload_n 1, 1) := by decide +kernel
theorem d_C_event_62 : decode b_C_event 62 = .ok (.iaload, 1) := by decide +kernel
theorem d_C_event_63 : decode b_C_event 63 = .ok (.ireturn, 1) := by decide +kernel
theorem d_C_event_64 : decode b_C_event 64 = .ok (.aload_n 0, 1) := by decide +kernel
theorem d_C_event_65 : decode b_C_event 65 = .ok (.getfield 33, 3) := by decide +kernel
theorem d_C_event_68 : decode b_C_event 68 = .ok (.getfield 117, 3) := by decide +kernel
theorem d_C_event_71 : decode b_C_event 71 = .ok (.iload_n 1, 1) := by decide +kernel
theorem d_C_event_72 : decode b_C_event 72 = .ok (.iaload, 1) := by decide +kernel
theorem d_C_event_73 : decode b_C_event 73 = .ok (.ifCond .le 19, 3) := by decide +kernel
theorem d_C_event_76 : decode b_C_event 76 = .ok (.aload_n 0, 1) := by decide +kernel
theorem d_C_event_77 : decode b_C_event 77 = .ok (.getfield 33, 3) := by decide +kernel
theorem d_C_event_80 : decode b_C_event 80 = .ok (.getfield 120, 3) := by decide +kernel
theorem d_C_event_83 : decode b_C_event 83 = .ok (.iload_n 1, 1) := by decide +kernel
theorem d_C_event_84 : decode b_C_event 84 = .ok (.baload, 1) := by decide +kernel
theorem d_C_event_85 : decode b_C_event 85 = .ok (.ifCond .eq 7, 3) := by decide +kernel
theorem d_C_event_88 : decode b_C_event 88 = .ok (.iconst 1, 1) := by decide +kernel
theorem d_C_event_89 : decode b_C_event 89 = .ok (.goto 4, 3) := by decide +kernel
theorem d_C_event_92 : decode b_C_event 92 = .ok (.iconst 0, 1) := by decide +kernel
theorem d_C_event_93 : decode b_C_event 93 = .ok (.ireturn, 1) := by decide +kernel
theorem d_C_event_94 : decode b_C_event 94 = .ok (.iconst (-1), 1) := by decide +kernel
theorem d_C_event_95 : decode b_C_event 95 = .ok (.ireturn, 1) := by decide +kernel
abbrev b_C_actionAt : ByteArray := prog_1_method_18_code
theorem d_C_actionAt_0 : decode b_C_actionAt 0 = .ok (.iload_n 1, 1) := by decide +kernel
theorem d_C_actionAt_1 : decode b_C_actionAt 1 = .ok (.invokestatic 68, 3) := by decide +kernel
theorem d_C_actionAt_4 : decode b_C_actionAt 4 = .ok (.ifCond .eq 20, 3) := by decide +kernel
theorem d_C_actionAt_7 : decode b_C_actionAt 7 = .ok (.iload_n 2, 1) := by decide +kernel
theorem d_C_actionAt_8 : decode b_C_actionAt 8 = .ok (.ifCond .lt 16, 3) := by decide +kernel
theorem d_C_actionAt_11 : decode b_C_actionAt 11 = .ok (.iload_n 2, 1) := by decide +kernel
theorem d_C_actionAt_12 : decode b_C_actionAt 12 = .ok (.aload_n 0, 1) := by decide +kernel
theorem d_C_actionAt_13 : decode b_C_actionAt 13 = .ok (.getfield 33, 3) := by decide +kernel
theorem d_C_actionAt_16 : decode b_C_actionAt 16 = .ok (.getfield 117, 3) := by decide +kernel
theorem d_C_actionAt_19 : decode b_C_actionAt 19 = .ok (.iload_n 1, 1) := by decide +kernel
theorem d_C_actionAt_20 : decode b_C_actionAt 20 = .ok (.iaload, 1) := by decide +kernel
theorem d_C_actionAt_21 : decode b_C_actionAt 21 = .ok (.if_icmp .lt 7, 3) := by decide +kernel
theorem d_C_actionAt_24 : decode b_C_actionAt 24 = .ok (.iconst (-1), 1) := by decide +kernel
theorem d_C_actionAt_25 : decode b_C_actionAt 25 = .ok (.goto 18, 3) := by decide +kernel
theorem d_C_actionAt_28 : decode b_C_actionAt 28 = .ok (.aload_n 0, 1) := by decide +kernel
theorem d_C_actionAt_29 : decode b_C_actionAt 29 = .ok (.getfield 33, 3) := by decide +kernel
theorem d_C_actionAt_32 : decode b_C_actionAt 32 = .ok (.getfield 121, 3) := by decide +kernel
theorem d_C_actionAt_35 : decode b_C_actionAt 35 = .ok (.iload_n 1, 1) := by decide +kernel
theorem d_C_actionAt_36 : decode b_C_actionAt 36 = .ok (.aaload, 1) := by decide +kernel
theorem d_C_actionAt_37 : decode b_C_actionAt 37 = .ok (.iload_n 2, 1) := by decide +kernel
theorem d_C_actionAt_38 : decode b_C_actionAt 38 = .ok (.baload, 1) := by decide +kernel
theorem d_C_actionAt_39 : decode b_C_actionAt 39 = .ok (.sipush 255, 3) := by decide +kernel
theorem d_C_actionAt_42 : decode b_C_actionAt 42 = .ok (.iand, 1) := by decide +kernel
theorem d_C_actionAt_43 : decode b_C_actionAt 43 = .ok (.ireturn, 1) := by decide +kernel
abbrev b_C_count : ByteArray := prog_1_method_19_code
theorem d_C_count_0 : decode b_C_count 0 = .ok (.iload_n 1, 1) := by decide +kernel
theorem d_C_count_1 : decode b_C_count 1 = .ok (.tableswitch 75 0 4 #[35, 43, 51, 59, 67], 35) := by decide +kernel
theorem d_C_count_36 : decode b_C_count 36 = .ok (.aload_n 0, 1) := by decide +kernel
theorem d_C_count_37 : decode b_C_count 37 = .ok (.getfield 26, 3) := by decide +kernel
theorem d_C_count_40 : decode b_C_count 40 = .ok (.getfield 125, 3) := by decide +kernel
theorem d_C_count_43 : decode b_C_count 43 = .ok (.ireturn, 1) := by decide +kernel
theorem d_C_count_44 : decode b_C_count 44 = .ok (.aload_n 0, 1) := by decide +kernel
theorem d_C_count_45 : decode b_C_count 45 = .ok (.getfield 26, 3) := by decide +kernel
theorem d_C_count_48 : decode b_C_count 48 = .ok (.getfield 56, 3) := by decide +kernel
theorem d_C_count_51 : decode b_C_count 51 = .ok (.ireturn, 1) := by decide +kernel
theorem d_C_count_52 : decode b_C_count 52 = .ok (.aload_n 0, 1) := by decide +kernel
theorem d_C_count_53 : decode b_C_count 53 = .ok (.getfield 19, 3) := by decide +kernel
theorem d_C_count_56 : decode b_C_count 56 = .ok (.getfield 126, 3) := by decide +kernel
theorem d_C_count_59 : decode b_C_count 59 = .ok (.ireturn, 1) := by decide +kernel
theorem d_C_count_60 : decode b_C_count 60 = .ok (.aload_n 0, 1) := by decide +kernel
theorem d_C_count_61 : decode b_C_count 61 = .ok (.getfield 19, 3) := by decide +kernel
theorem d_C_count_64 : decode b_C_count 64 = .ok (.getfield 127, 3) := by decide +kernel
theorem d_C_count_67 : decode b_C_count 67 = .ok (.ireturn, 1) := by decide +kernel
theorem d_C_count_68 : decode b_C_count 68 = .ok (.aload_n 0, 1) := by decide +kernel
theorem d_C_count_69 : decode b_C_count 69 = .ok (.getfield 19, 3) := by decide +kernel
theorem d_C_count_72 : decode b_C_count 72 = .ok (.getfield 130, 3) := by decide +kernel
theorem d_C_count_75 : decode b_C_count 75 = .ok (.ireturn, 1) := by decide +kernel
theorem d_C_count_76 : decode b_C_count 76 = .ok (.iconst (-1), 1) := by decide +kernel
theorem d_C_count_77 : decode b_C_count 77 = .ok (.ireturn, 1) := by decide +kernel
abbrev b_A_init : ByteArray := prog_2_method_1_code
theorem d_A_init_0 : decode b_A_init 0 = .ok (.aload_n 0, 1) := by decide +kernel
theorem d_A_init_1 : decode b_A_init 1 = .ok (.invokespecial 3, 3) := by decide +kernel
theorem d_A_init_4 : decode b_A_init 4 = .ok (.aload_n 0, 1) := by decide +kernel
theorem d_A_init_5 : decode b_A_init 5 = .ok (.bipush 32, 2) := by decide +kernel
theorem d_A_init_7 : decode b_A_init 7 = .ok (.sipush 256, 3) := by decide +kernel
theorem d_A_init_10 : decode b_A_init 10 = .ok (.multianewarray 13 2, 4) := by decide +kernel
theorem d_A_init_14 : decode b_A_init 14 = .ok (.putfield 15, 3) := by decide +kernel
theorem d_A_init_17 : decode b_A_init 17 = .ok (.aload_n 0, 1) := by decide +kernel
theorem d_A_init_18 : decode b_A_init 18 = .ok (.bipush 32, 2) := by decide +kernel
theorem d_A_init_20 : decode b_A_init 20 = .ok (.newarray .int, 2) := by decide +kernel
theorem d_A_init_22 : decode b_A_init 22 = .ok (.putfield 18, 3) := by decide +kernel
theorem d_A_init_25 : decode b_A_init 25 = .ok (.aload_n 0, 1) := by decide +kernel
theorem d_A_init_26 : decode b_A_init 26 = .ok (.bipush 32, 2) := by decide +kernel
theorem d_A_init_28 : decode b_A_init 28 = .ok (.newarray .boolean, 2) := by decide +kernel
theorem d_A_init_30 : decode b_A_init 30 = .ok (.putfield 22, 3) := by decide +kernel
theorem d_A_init_33 : decode b_A_init 33 = .ok (.return_, 1) := by decide +kernel
abbrev b_A_add : ByteArray := prog_2_method_2_code
theorem d_A_add_0 : decode b_A_add 0 = .ok (.aload_n 0, 1) := by decide +kernel
theorem d_A_add_1 : decode b_A_add 1 = .ok (.getfield 18, 3) := by decide +kernel
theorem d_A_add_4 : decode b_A_add 4 = .ok (.iload_n 1, 1) := by decide +kernel
theorem d_A_add_5 : decode b_A_add 5 = .ok (.iaload, 1) := by decide +kernel
theorem d_A_add_6 : decode b_A_add 6 = .ok (.ifCond .le 6, 3) := by decide +kernel
theorem d_A_add_9 : decode b_A_add 9 = .ok (.bipush 29, 2) := by decide +kernel
theorem d_A_add_11 : decode b_A_add 11 = .ok (.ireturn, 1) := by decide +kernel
theorem d_A_add_12 : decode b_A_add 12 = .ok (.aload_n 2, 1) := by decide +kernel
theorem d_A_add_13 : decode b_A_add 13 = .ok (.iload_n 3, 1) := by decide +kernel
theorem d_A_add_14 : decode b_A_add 14 = .ok (.aload_n 0, 1) := by decide +kernel
theorem d_A_add_15 : decode b_A_add 15 = .ok (.getfield 15, 3) := by decide +kernel
theorem d_A_add_18 : decode b_A_add 18 = .ok (.iload_n 1, 1) := by decide +kernel
theorem d_A_add_19 : decode b_A_add 19 = .ok (.aaload, 1) := by decide +kernel
theorem d_A_add_20 : decode b_A_add 20 = .ok (.iconst 0, 1) := by decide +kernel
theorem d_A_add_21 : decode b_A_add 21 = .ok (.iload 4, 2) := by decide +kernel
theorem d_A_add_23 : decode b_A_add 23 = .ok (.invokestatic 26, 3) := by decide +kernel
theorem d_A_add_26 : decode b_A_add 26 = .ok (.aload_n 0, 1) := by decide +kernel
theorem d_A_add_27 : decode b_A_add 27 = .ok (.getfield 18, 3) := by decide +kernel
theorem d_A_add_30 : decode b_A_add 30 = .ok (.iload_n 1, 1) := by decide +kernel
theorem d_A_add_31 : decode b_A_add 31 = .ok (.iload 4, 2) := by decide +kernel
theorem d_A_add_33 : decode b_A_add 33 = .ok (.iastore, 1) := by decide +kernel
theorem d_A_add_34 : decode b_A_add 34 = .ok (.aload_n 0, 1) := by decide +kernel
theorem d_A_add_35 : decode b_A_add 35 = .ok (.getfield 22, 3) := by decide +kernel
theorem d_A_add_38 : decode b_A_add 38 = .ok (.iload_n 1, 1) := by decide +kernel
theorem d_A_add_39 : decode b_A_add 39 = .ok (.iconst 0, 1) := by decide +kernel
theorem d_A_add_40 : decode b_A_add 40 = .ok (.bastore, 1) := by decide +kernel
theorem d_A_add_41 : decode b_A_add 41 = .ok (.iconst 0, 1) := by decide +kernel
theorem d_A_add_42 : decode b_A_add 42 = .ok (.ireturn, 1) := by decide +kernel
abbrev b_A_drop : ByteArray := prog_2_method_3_code
theorem d_A_drop_0 : decode b_A_drop 0 = .ok (.aload_n 0, 1) := by decide +kernel
theorem d_A_drop_1 : decode b_A_drop 1 = .ok (.getfield 18, 3) := by decide +kernel
theorem d_A_drop_4 : decode b_A_drop 4 = .ok (.iload_n 1, 1) := by decide +kernel
theorem d_A_drop_5 : decode b_A_drop 5 = .ok (.iaload, 1) := by decide +kernel
theorem d_A_drop_6 : decode b_A_drop 6 = .ok (.ifCond .ne 6, 3) := by decide +kernel
theorem d_A_drop_9 : decode b_A_drop 9 = .ok (.bipush 30, 2) := by decide +kernel
theorem d_A_drop_11 : decode b_A_drop 11 = .ok (.ireturn, 1) := by decide +kernel
theorem d_A_drop_12 : decode b_A_drop 12 = .ok (.aload_n 0, 1) := by decide +kernel
theorem d_A_drop_13 : decode b_A_drop 13 = .ok (.getfield 22, 3) := by decide +kernel
theorem d_A_drop_16 : decode b_A_drop 16 = .ok (.iload_n 1, 1) := by decide +kernel
theorem d_A_drop_17 : decode b_A_drop 17 = .ok (.baload, 1) := by decide +kernel
theorem d_A_drop_18 : decode b_A_drop 18 = .ok (.ifCond .eq 6, 3) := by decide +kernel
theorem d_A_drop_21 : decode b_A_drop 21 = .ok (.bipush 15, 2) := by decide +kernel
theorem d_A_drop_23 : decode b_A_drop 23 = .ok (.ireturn, 1) := by decide +kernel
theorem d_A_drop_24 : decode b_A_drop 24 = .ok (.aload_n 0, 1) := by decide +kernel
theorem d_A_drop_25 : decode b_A_drop 25 = .ok (.getfield 18, 3) := by decide +kernel
theorem d_A_drop_28 : decode b_A_drop 28 = .ok (.iload_n 1, 1) := by decide +kernel
theorem d_A_drop_29 : decode b_A_drop 29 = .ok (.iconst 0, 1) := by decide +kernel
theorem d_A_drop_30 : decode b_A_drop 30 = .ok (.iastore, 1) := by decide +kernel
theorem d_A_drop_31 : decode b_A_drop 31 = .ok (.iconst 0, 1) := by decide +kernel
theorem d_A_drop_32 : decode b_A_drop 32 = .ok (.ireturn, 1) := by decide +kernel
abbrev b_A_arm : ByteArray := prog_2_method_4_code
theorem d_A_arm_0 : decode b_A_arm 0 = .ok (.aload_n 0, 1) := by decide +kernel
theorem d_A_arm_1 : decode b_A_arm 1 = .ok (.getfield 18, 3) := by decide +kernel
theorem d_A_arm_4 : decode b_A_arm 4 = .ok (.iload_n 1, 1) := by decide +kernel
theorem d_A_arm_5 : decode b_A_arm 5 = .ok (.iaload, 1) := by decide +kernel
theorem d_A_arm_6 : decode b_A_arm 6 = .ok (.ifCond .ne 6, 3) := by decide +kernel
theorem d_A_arm_9 : decode b_A_arm 9 = .ok (.bipush 30, 2) := by decide +kernel
theorem d_A_arm_11 : decode b_A_arm 11 = .ok (.ireturn, 1) := by decide +kernel
theorem d_A_arm_12 : decode b_A_arm 12 = .ok (.aload_n 0, 1) := by decide +kernel
theorem d_A_arm_13 : decode b_A_arm 13 = .ok (.getfield 22, 3) := by decide +kernel
theorem d_A_arm_16 : decode b_A_arm 16 = .ok (.iload_n 1, 1) := by decide +kernel
theorem d_A_arm_17 : decode b_A_arm 17 = .ok (.iload_n 2, 1) := by decide +kernel
theorem d_A_arm_18 : decode b_A_arm 18 = .ok (.bastore, 1) := by decide +kernel
theorem d_A_arm_19 : decode b_A_arm 19 = .ok (.iconst 0, 1) := by decide +kernel
theorem d_A_arm_20 : decode b_A_arm 20 = .ok (.ireturn, 1) := by decide +kernel
abbrev b_E_init : ByteArray := prog_3_method_1_code
theorem d_E_init_0 : decode b_E_init 0 = .ok (.aload_n 0, 1) := by decide +kernel
theorem d_E_init_1 : decode b_E_init 1 = .ok (.invokespecial 3, 3) := by decide +kernel
theorem d_E_init_4 : decode b_E_init 4 = .ok (.aload_n 0, 1) := by decide +kernel
theorem d_E_init_5 : decode b_E_init 5 = .ok (.bipush 64, 2) := by decide +kernel
theorem d_E_init_7 : decode b_E_init 7 = .ok (.newarray .int, 2) := by decide +kernel
theorem d_E_init_9 : decode b_E_init 9 = .ok (.putfield 11, 3) := by decide +kernel
theorem d_E_init_12 : decode b_E_init 12 = .ok (.aload_n 0, 1) := by decide +kernel
theorem d_E_init_13 : decode b_E_init 13 = .ok (.bipush 64, 2) := by decide +kernel
theorem d_E_init_15 : decode b_E_init 15 = .ok (.newarray .int, 2) := by decide +kernel
theorem d_E_init_17 : decode b_E_init 17 = .ok (.putfield 15, 3) := by decide +kernel
theorem d_E_init_20 : decode b_E_init 20 = .ok (.aload_n 0, 1) := by decide +kernel
theorem d_E_init_21 : decode b_E_init 21 = .ok (.bipush 32, 2) := by decide +kernel
theorem d_E_init_23 : decode b_E_init 23 = .ok (.newarray .boolean, 2) := by decide +kernel
theorem d_E_init_25 : decode b_E_init 25 = .ok (.putfield 18, 3) := by decide +kernel
theorem d_E_init_28 : decode b_E_init 28 = .ok (.return_, 1) := by decide +kernel
abbrev b_E_is : ByteArray := prog_3_method_2_code
theorem d_E_is_0 : decode b_E_is 0 = .ok (.iload_n 0, 1) := by decide +kernel
theorem d_E_is_1 : decode b_E_is 1 = .ok (.ifCond .lt 13, 3) := by decide +kernel
theorem d_E_is_4 : decode b_E_is 4 = .ok (.iload_n 0, 1) := by decide +kernel
theorem d_E_is_5 : decode b_E_is 5 = .ok (.bipush 32, 2) := by decide +kernel
theorem d_E_is_7 : decode b_E_is 7 = .ok (.if_icmp .ge 7, 3) := by decide +kernel
theorem d_E_is_10 : decode b_E_is 10 = .ok (.iconst 1, 1) := by decide +kernel
theorem d_E_is_11 : decode b_E_is 11 = .ok (.goto 4, 3) := by decide +kernel
theorem d_E_is_14 : decode b_E_is 14 = .ok (.iconst 0, 1) := by decide +kernel
theorem d_E_is_15 : decode b_E_is 15 = .ok (.ireturn, 1) := by decide +kernel
abbrev b_E_raise : ByteArray := prog_3_method_3_code
theorem d_E_raise_0 : decode b_E_raise 0 = .ok (.aload_n 0, 1) := by decide +kernel
theorem d_E_raise_1 : decode b_E_raise 1 = .ok (.getfield 22, 3) := by decide +kernel
theorem d_E_raise_4 : decode b_E_raise 4 = .ok (.bipush 64, 2) := by decide +kernel
theorem d_E_raise_6 : decode b_E_raise 6 = .ok (.if_icmp .ne 15, 3) := by decide +kernel
theorem d_E_raise_9 : decode b_E_raise 9 = .ok (.aload_n 0, 1) := by decide +kernel
theorem d_E_raise_10 : decode b_E_raise 10 = .ok (.dup, 1) := by decide +kernel
theorem d_E_raise_11 : decode b_E_raise 11 = .ok (.getfield 26, 3) := by decide +kernel
theorem d_E_raise_14 : decode b_E_raise 14 = .ok (.iconst 1, 1) := by decide +kernel
theorem d_E_raise_15 : decode b_E_raise 15 = .ok (.iadd, 1) := by decide +kernel
theorem d_E_raise_16 : decode b_E_raise 16 = .ok (.putfield 26, 3) := by decide +kernel
theorem d_E_raise_19 : decode b_E_raise 19 = .ok (.iconst 0, 1) := by decide +kernel
theorem d_E_raise_20 : decode b_E_raise 20 = .ok (.ireturn, 1) := by decide +kernel
theorem d_E_raise_21 : decode b_E_raise 21 = .ok (.aload_n 0, 1) := by decide +kernel
theorem d_E_raise_22 : decode b_E_raise 22 = .ok (.getfield 29, 3) := by decide +kernel
theorem d_E_raise_25 : decode b_E_raise 25 = .ok (.aload_n 0, 1) := by decide +kernel
theorem d_E_raise_26 : decode b_E_raise 26 = .ok (.getfield 22, 3) := by decide +kernel
theorem d_E_raise_29 : decode b_E_raise 29 = .ok (.iadd, 1) := by decide +kernel
theorem d_E_raise_30 : decode b_E_raise 30 = .ok (.bipush 64, 2) := by decide +kernel
theorem d_E_raise_32 : decode b_E_raise 32 = .ok (.irem, 1) := by decide +kernel
theorem d_E_raise_33 : decode b_E_raise 33 = .ok (.istore_n 3, 1) := by decide +kernel
theorem d_E_raise_34 : decode b_E_raise 34 = .ok (.aload_n 0, 1) := by decide +kernel
theorem d_E_raise_35 : decode b_E_raise 35 = .ok (.getfield 11, 3) := by decide +kernel
theorem d_E_raise_38 : decode b_E_raise 38 = .ok (.iload_n 3, 1) := by decide +kernel
theorem d_E_raise_39 : decode b_E_raise 39 = .ok (.iload_n 1, 1) := by decide +kernel
theorem d_E_raise_40 : decode b_E_raise 40 = .ok (.iastore, 1) := by decide +kernel
theorem d_E_raise_41 : decode b_E_raise 41 = .ok (.aload_n 0, 1) := by decide +kernel
theorem d_E_raise_42 : decode b_E_raise 42 = .ok (.getfield 15, 3) := by decide +kernel
theorem d_E_raise_45 : decode b_E_raise 45 = .ok (.iload_n 3, 1) := by decide +kernel
theorem d_E_raise_46 : decode b_E_raise 46 = .ok (.iload_n 2, 1) := by decide +kernel
theorem d_E_raise_47 : decode b_E_raise 47 = .ok (.iastore, 1) := by decide +kernel
theorem d_E_raise_48 : decode b_E_raise 48 = .ok (.aload_n 0, 1) := by decide +kernel
theorem d_E_raise_49 : decode b_E_raise 49 = .ok (.dup, 1) := by decide +kernel
theorem d_E_raise_50 : decode b_E_raise 50 = .ok (.getfield 22, 3) := by decide +kernel
theorem d_E_raise_53 : decode b_E_raise 53 = .ok (.iconst 1, 1) := by decide +kernel
theorem d_E_raise_54 : decode b_E_raise 54 = .ok (.iadd, 1) := by decide +kernel
theorem d_E_raise_55 : decode b_E_raise 55 = .ok (.putfield 22, 3) := by decide +kernel
theorem d_E_raise_58 : decode b_E_raise 58 = .ok (.iconst 1, 1) := by decide +kernel
theorem d_E_raise_59 : decode b_E_raise 59 = .ok (.ireturn, 1) := by decide +kernel
abbrev b_E_work : ByteArray := prog_3_method_4_code
theorem d_E_work_0 : decode b_E_work 0 = .ok (.aload_n 0, 1) := by decide +kernel
theorem d_E_work_1 : decode b_E_work 1 = .ok (.getfield 22, 3) := by decide +kernel
theorem d_E_work_4 : decode b_E_work 4 = .ok (.ifCond .ne 5, 3) := by decide +kernel
theorem d_E_work_7 : decode b_E_work 7 = .ok (.iconst (-1), 1) := by decide +kernel
theorem d_E_work_8 : decode b_E_work 8 = .ok (.ireturn, 1) := by decide +kernel
theorem d_E_work_9 : decode b_E_work 9 = .ok (.aload_n 0, 1) := by decide +kernel
theorem d_E_work_10 : decode b_E_work 10 = .ok (.getfield 11, 3) := by decide +kernel
theorem d_E_work_13 : decode b_E_work 13 = .ok (.aload_n 0, 1) := by decide +kernel
theorem d_E_work_14 : decode b_E_work 14 = .ok (.getfield 29, 3) := by decide +kernel
theorem d_E_work_17 : decode b_E_work 17 = .ok (.iaload, 1) := by decide +kernel
theorem d_E_work_18 : decode b_E_work 18 = .ok (.istore_n 1, 1) := by decide +kernel
theorem d_E_work_19 : decode b_E_work 19 = .ok (.aload_n 0, 1) := by decide +kernel
theorem d_E_work_20 : decode b_E_work 20 = .ok (.aload_n 0, 1) := by decide +kernel
theorem d_E_work_21 : decode b_E_work 21 = .ok (.getfield 15, 3) := by decide +kernel
theorem d_E_work_24 : decode b_E_work 24 = .ok (.aload_n 0, 1) := by decide +kernel
theorem d_E_work_25 : decode b_E_work 25 = .ok (.getfield 29, 3) := by decide +kernel
theorem d_E_work_28 : decode b_E_work 28 = .ok (.iaload, 1) := by decide +kernel
theorem d_E_work_29 : decode b_E_work 29 = .ok (.putfield 32, 3) := by decide +kernel
theorem d_E_work_32 : decode b_E_work 32 = .ok (.aload_n 0, 1) := by decide +kernel
theorem d_E_work_33 : decode b_E_work 33 = .ok (.aload_n 0, 1) := by decide +kernel
theorem d_E_work_34 : decode b_E_work 34 = .ok (.getfield 29, 3) := by decide +kernel
theorem d_E_work_37 : decode b_E_work 37 = .ok (.iconst 1, 1) := by decide +kernel
theorem d_E_work_38 : decode b_E_work 38 = .ok (.iadd, 1) := by decide +kernel
theorem d_E_work_39 : decode b_E_work 39 = .ok (.bipush 64, 2) := by decide +kernel
theorem d_E_work_41 : decode b_E_work 41 = .ok (.irem, 1) := by decide +kernel
theorem d_E_work_42 : decode b_E_work 42 = .ok (.putfield 29, 3) := by decide +kernel
theorem d_E_work_45 : decode b_E_work 45 = .ok (.aload_n 0, 1) := by decide +kernel
theorem d_E_work_46 : decode b_E_work 46 = .ok (.dup, 1) := by decide +kernel
theorem d_E_work_47 : decode b_E_work 47 = .ok (.getfield 22, 3) := by decide +kernel
theorem d_E_work_50 : decode b_E_work 50 = .ok (.iconst 1, 1) := by decide +kernel
theorem d_E_work_51 : decode b_E_work 51 = .ok (.isub, 1) := by decide +kernel
theorem d_E_work_52 : decode b_E_work 52 = .ok (.putfield 22, 3) := by decide +kernel
theorem d_E_work_55 : decode b_E_work 55 = .ok (.iload_n 1, 1) := by decide +kernel
theorem d_E_work_56 : decode b_E_work 56 = .ok (.ireturn, 1) := by decide +kernel
abbrev b_E_lose : ByteArray := prog_3_method_5_code
theorem d_E_lose_0 : decode b_E_lose 0 = .ok (.aload_n 0, 1) := by decide +kernel
theorem d_E_lose_1 : decode b_E_lose 1 = .ok (.getfield 22, 3) := by decide +kernel
theorem d_E_lose_4 : decode b_E_lose 4 = .ok (.istore_n 1, 1) := by decide +kernel
theorem d_E_lose_5 : decode b_E_lose 5 = .ok (.aload_n 0, 1) := by decide +kernel
theorem d_E_lose_6 : decode b_E_lose 6 = .ok (.dup, 1) := by decide +kernel
theorem d_E_lose_7 : decode b_E_lose 7 = .ok (.getfield 26, 3) := by decide +kernel
theorem d_E_lose_10 : decode b_E_lose 10 = .ok (.iload_n 1, 1) := by decide +kernel
theorem d_E_lose_11 : decode b_E_lose 11 = .ok (.iadd, 1) := by decide +kernel
theorem d_E_lose_12 : decode b_E_lose 12 = .ok (.putfield 26, 3) := by decide +kernel
theorem d_E_lose_15 : decode b_E_lose 15 = .ok (.aload_n 0, 1) := by decide +kernel
theorem d_E_lose_16 : decode b_E_lose 16 = .ok (.iconst 0, 1) := by decide +kernel
theorem d_E_lose_17 : decode b_E_lose 17 = .ok (.putfield 22, 3) := by decide +kernel
theorem d_E_lose_20 : decode b_E_lose 20 = .ok (.iload_n 1, 1) := by decide +kernel
theorem d_E_lose_21 : decode b_E_lose 21 = .ok (.ireturn, 1) := by decide +kernel
abbrev b_L_init : ByteArray := prog_4_method_1_code
theorem d_L_init_0 : decode b_L_init 0 = .ok (.aload_n 0, 1) := by decide +kernel
theorem d_L_init_1 : decode b_L_init 1 = .ok (.invokespecial 3, 3) := by decide +kernel
theorem d_L_init_4 : decode b_L_init 4 = .ok (.aload_n 0, 1) := by decide +kernel
theorem d_L_init_5 : decode b_L_init 5 = .ok (.sipush 256, 3) := by decide +kernel
theorem d_L_init_8 : decode b_L_init 8 = .ok (.newarray .boolean, 2) := by decide +kernel
theorem d_L_init_10 : decode b_L_init 10 = .ok (.putfield 11, 3) := by decide +kernel
theorem d_L_init_13 : decode b_L_init 13 = .ok (.aload_n 0, 1) := by decide +kernel
theorem d_L_init_14 : decode b_L_init 14 = .ok (.sipush 256, 3) := by decide +kernel
theorem d_L_init_17 : decode b_L_init 17 = .ok (.newarray .boolean, 2) := by decide +kernel
theorem d_L_init_19 : decode b_L_init 19 = .ok (.putfield 15, 3) := by decide +kernel
theorem d_L_init_22 : decode b_L_init 22 = .ok (.aload_n 0, 1) := by decide +kernel
theorem d_L_init_23 : decode b_L_init 23 = .ok (.sipush 256, 3) := by decide +kernel
theorem d_L_init_26 : decode b_L_init 26 = .ok (.newarray .boolean, 2) := by decide +kernel
theorem d_L_init_28 : decode b_L_init 28 = .ok (.putfield 18, 3) := by decide +kernel
theorem d_L_init_31 : decode b_L_init 31 = .ok (.aload_n 0, 1) := by decide +kernel
theorem d_L_init_32 : decode b_L_init 32 = .ok (.sipush 256, 3) := by decide +kernel
theorem d_L_init_35 : decode b_L_init 35 = .ok (.newarray .int, 2) := by decide +kernel
theorem d_L_init_37 : decode b_L_init 37 = .ok (.putfield 21, 3) := by decide +kernel
theorem d_L_init_40 : decode b_L_init 40 = .ok (.aload_n 0, 1) := by decide +kernel
theorem d_L_init_41 : decode b_L_init 41 = .ok (.sipush 256, 3) := by decide +kernel
theorem d_L_init_44 : decode b_L_init 44 = .ok (.newarray .int, 2) := by decide +kernel
theorem d_L_init_46 : decode b_L_init 46 = .ok (.putfield 25, 3) := by decide +kernel
theorem d_L_init_49 : decode b_L_init 49 = .ok (.aload_n 0, 1) := by decide +kernel
theorem d_L_init_50 : decode b_L_init 50 = .ok (.sipush 256, 3) := by decide +kernel
theorem d_L_init_53 : decode b_L_init 53 = .ok (.newarray .int, 2) := by decide +kernel
theorem d_L_init_55 : decode b_L_init 55 = .ok (.putfield 28, 3) := by decide +kernel
theorem d_L_init_58 : decode b_L_init 58 = .ok (.aload_n 0, 1) := by decide +kernel
theorem d_L_init_59 : decode b_L_init 59 = .ok (.sipush 256, 3) := by decide +kernel
theorem d_L_init_62 : decode b_L_init 62 = .ok (.newarray .int, 2) := by decide +kernel
theorem d_L_init_64 : decode b_L_init 64 = .ok (.putfield 31, 3) := by decide +kernel
theorem d_L_init_67 : decode b_L_init 67 = .ok (.aload_n 0, 1) := by decide +kernel
theorem d_L_init_68 : decode b_L_init 68 = .ok (.sipush 256, 3) := by decide +kernel
theorem d_L_init_71 : decode b_L_init 71 = .ok (.newarray .int, 2) := by decide +kernel
theorem d_L_init_73 : decode b_L_init 73 = .ok (.putfield 34, 3) := by decide +kernel
theorem d_L_init_76 : decode b_L_init 76 = .ok (.aload_n 0, 1) := by decide +kernel
theorem d_L_init_77 : decode b_L_init 77 = .ok (.sipush 256, 3) := by decide +kernel
theorem d_L_init_80 : decode b_L_init 80 = .ok (.newarray .int, 2) := by decide +kernel
theorem d_L_init_82 : decode b_L_init 82 = .ok (.putfield 37, 3) := by decide +kernel
theorem d_L_init_85 : decode b_L_init 85 = .ok (.return_, 1) := by decide +kernel
abbrev b_L_is : ByteArray := prog_4_method_2_code
theorem d_L_is_0 : decode b_L_is 0 = .ok (.iload_n 1, 1) := by decide +kernel
theorem d_L_is_1 : decode b_L_is 1 = .ok (.ifCond .lt 23, 3) := by decide +kernel
theorem d_L_is_4 : decode b_L_is 4 = .ok (.iload_n 1, 1) := by decide +kernel
theorem d_L_is_5 : decode b_L_is 5 = .ok (.sipush 256, 3) := by decide +kernel
theorem d_L_is_8 : decode b_L_is 8 = .ok (.if_icmp .ge 16, 3) := by decide +kernel
theorem d_L_is_11 : decode b_L_is 11 = .ok (.aload_n 0, 1) := by decide +kernel
theorem d_L_is_12 : decode b_L_is 12 = .ok (.getfield 11, 3) := by decide +kernel
theorem d_L_is_15 : decode b_L_is 15 = .ok (.iload_n 1, 1) := by decide +kernel
theorem d_L_is_16 : decode b_L_is 16 = .ok (.baload, 1) := by decide +kernel
theorem d_L_is_17 : decode b_L_is 17 = .ok (.ifCond .eq 7, 3) := by decide +kernel
theorem d_L_is_20 : decode b_L_is 20 = .ok (.iconst 1, 1) := by decide +kernel
theorem d_L_is_21 : decode b_L_is 21 = .ok (.goto 4, 3) := by decide +kernel
theorem d_L_is_24 : decode b_L_is 24 = .ok (.iconst 0, 1) := by decide +kernel
theorem d_L_is_25 : decode b_L_is 25 = .ok (.ireturn, 1) := by decide +kernel
abbrev b_L_add : ByteArray := prog_4_method_3_code
theorem d_L_add_0 : decode b_L_add 0 = .ok (.iload_n 3, 1) := by decide +kernel
theorem d_L_add_1 : decode b_L_add 1 = .ok (.iconst 1, 1) := by decide +kernel
theorem d_L_add_2 : decode b_L_add 2 = .ok (.if_icmp .lt 46, 3) := by decide +kernel
theorem d_L_add_5 : decode b_L_add 5 = .ok (.iload_n 3, 1) := by decide +kernel
theorem d_L_add_6 : decode b_L_add 6 = .ok (.sipush 255, 3) := by decide +kernel
theorem d_L_add_9 : decode b_L_add 9 = .ok (.if_icmp .gt 39, 3) := by decide +kernel
theorem d_L_add_12 : decode b_L_add 12 = .ok (.iload 4, 2) := by decide +kernel
theorem d_L_add_14 : decode b_L_add 14 = .ok (.iload 5, 2) := by decide +kernel
theorem d_L_add_16 : decode b_L_add 16 = .ok (.if_icmp .gt 32, 3) := by decide +kernel
theorem d_L_add_19 : decode b_L_add 19 = .ok (.iload_n 2, 1) := by decide +kernel
theorem d_L_add_20 : decode b_L_add 20 = .ok (.ifCond .lt 28, 3) := by decide +kernel
theorem d_L_add_23 : decode b_L_add 23 = .ok (.iload_n 2, 1) := by decide +kernel
theorem d_L_add_24 : decode b_L_add 24 = .ok (.bipush 32, 2) := by decide +kernel
theorem d_L_add_26 : decode b_L_add 26 = .ok (.if_icmp .ge 22, 3) := by decide +kernel
theorem d_L_add_29 : decode b_L_add 29 = .ok (.iload 6, 2) := by decide +kernel
theorem d_L_add_31 : decode b_L_add 31 = .ok (.invokestatic 40, 3) := by decide +kernel
theorem d_L_add_34 : decode b_L_add 34 = .ok (.ifCond .eq 14, 3) := by decide +kernel
theorem d_L_add_37 : decode b_L_add 37 = .ok (.iload_n 1, 1) := by decide +kernel
theorem d_L_add_38 : decode b_L_add 38 = .ok (.ifCond .lt 10, 3) := by decide +kernel
theorem d_L_add_41 : decode b_L_add 41 = .ok (.iload_n 1, 1) := by decide +kernel
theorem d_L_add_42 : decode b_L_add 42 = .ok (.sipush 256, 3) := by decide +kernel
theorem d_L_add_45 : decode b_L_add 45 = .ok (.if_icmp .lt 6, 3) := by decide +kernel
theorem d_L_add_48 : decode b_L_add 48 = .ok (.bipush 13, 2) := by decide +kernel
theorem d_L_add_50 : decode b_L_add 50 = .ok (.ireturn, 1) := by decide +kernel
theorem d_L_add_51 : decode b_L_add 51 = .ok (.aload_n 0, 1) := by decide +kernel
theorem d_L_add_52 : decode b_L_add 52 = .ok (.getfield 11, 3) := by decide +kernel
theorem d_L_add_55 : decode b_L_add 55 = .ok (.iload_n 1, 1) := by decide +kernel
theorem d_L_add_56 : decode b_L_add 56 = .ok (.baload, 1) := by decide +kernel
theorem d_L_add_57 : decode b_L_add 57 = .ok (.ifCond .eq 6, 3) := by decide +kernel
theorem d_L_add_60 : decode b_L_add 60 = .ok (.bipush 25, 2) := by decide +kernel
theorem d_L_add_62 : decode b_L_add 62 = .ok (.ireturn, 1) := by decide +kernel
theorem d_L_add_63 : decode b_L_add 63 = .ok (.aload_n 0, 1) := by decide +kernel
theorem d_L_add_64 : decode b_L_add 64 = .ok (.getfield 46, 3) := by decide +kernel
theorem d_L_add_67 : decode b_L_add 67 = .ok (.bipush 16, 2) := by decide +kernel
theorem d_L_add_69 : decode b_L_add 69 = .ok (.if_icmp .ne 6, 3) := by decide +kernel
theorem d_L_add_72 : decode b_L_add 72 = .ok (.bipush 26, 2) := by decide +kernel
theorem d_L_add_74 : decode b_L_add 74 = .ok (.ireturn, 1) := by decide +kernel
theorem d_L_add_75 : decode b_L_add 75 = .ok (.aload_n 0, 1) := by decide +kernel
theorem d_L_add_76 : decode b_L_add 76 = .ok (.getfield 11, 3) := by decide +kernel
theorem d_L_add_79 : decode b_L_add 79 = .ok (.iload_n 1, 1) := by decide +kernel
theorem d_L_add_80 : decode b_L_add 80 = .ok (.iconst 1, 1) := by decide +kernel
theorem d_L_add_81 : decode b_L_add 81 = .ok (.bastore, 1) := by decide +kernel
theorem d_L_add_82 : decode b_L_add 82 = .ok (.aload_n 0, 1) := by decide +kernel
theorem d_L_add_83 : decode b_L_add 83 = .ok (.getfield 15, 3) := by decide +kernel
theorem d_L_add_86 : decode b_L_add 86 = .ok (.iload_n 1, 1) := by decide +kernel
theorem d_L_add_87 : decode b_L_add 87 = .ok (.iconst 0, 1) := by decide +kernel
theorem d_L_add_88 : decode b_L_add 88 = .ok (.bastore, 1) := by decide +kernel
theorem d_L_add_89 : decode b_L_add 89 = .ok (.aload_n 0, 1) := by decide +kernel
theorem d_L_add_90 : decode b_L_add 90 = .ok (.getfield 18, 3) := by decide +kernel
theorem d_L_add_93 : decode b_L_add 93 = .ok (.iload_n 1, 1) := by decide +kernel
theorem d_L_add_94 : decode b_L_add 94 = .ok (.iload 7, 2) := by decide +kernel
theorem d_L_add_96 : decode b_L_add 96 = .ok (.bastore, 1) := by decide +kernel
theorem d_L_add_97 : decode b_L_add 97 = .ok (.aload_n 0, 1) := by decide +kernel
theorem d_L_add_98 : decode b_L_add 98 = .ok (.getfield 21, 3) := by decide +kernel
theorem d_L_add_101 : decode b_L_add 101 = .ok (.iload_n 1, 1) := by decide +kernel
theorem d_L_add_102 : decode b_L_add 102 = .ok (.iload_n 2, 1) := by decide +kernel
theorem d_L_add_103 : decode b_L_add 103 = .ok (.iastore, 1) := by decide +kernel
theorem d_L_add_104 : decode b_L_add 104 = .ok (.aload_n 0, 1) := by decide +kernel
theorem d_L_add_105 : decode b_L_add 105 = .ok (.getfield 25, 3) := by decide +kernel
theorem d_L_add_108 : decode b_L_add 108 = .ok (.iload_n 1, 1) := by decide +kernel
theorem d_L_add_109 : decode b_L_add 109 = .ok (.iload_n 3, 1) := by decide +kernel
theorem d_L_add_110 : decode b_L_add 110 = .ok (.iastore, 1) := by decide +kernel
theorem d_L_add_111 : decode b_L_add 111 = .ok (.aload_n 0, 1) := by decide +kernel
theorem d_L_add_112 : decode b_L_add 112 = .ok (.getfield 28, 3) := by decide +kernel
theorem d_L_add_115 : decode b_L_add 115 = .ok (.iload_n 1, 1) := by decide +kernel
theorem d_L_add_116 : decode b_L_add 116 = .ok (.iload 4, 2) := by decide +kernel
theorem d_L_add_118 : decode b_L_add 118 = .ok (.iastore, 1) := by decide +kernel
theorem d_L_add_119 : decode b_L_add 119 = .ok (.aload_n 0, 1) := by decide +kernel
theorem d_L_add_120 : decode b_L_add 120 = .ok (.getfield 31, 3) := by decide +kernel
theorem d_L_add_123 : decode b_L_add 123 = .ok (.iload_n 1, 1) := by decide +kernel
theorem d_L_add_124 : decode b_L_add 124 = .ok (.iload 5, 2) := by decide +kernel
theorem d_L_add_126 : decode b_L_add 126 = .ok (.iastore, 1) := by decide +kernel
theorem d_L_add_127 : decode b_L_add 127 = .ok (.aload_n 0, 1) := by decide +kernel
theorem d_L_add_128 : decode b_L_add 128 = .ok (.getfield 34, 3) := by decide +kernel
theorem d_L_add_131 : decode b_L_add 131 = .ok (.iload_n 1, 1) := by decide +kernel
theorem d_L_add_132 : decode b_L_add 132 = .ok (.iload 6, 2) := by decide +kernel
theorem d_L_add_134 : decode b_L_add 134 = .ok (.iastore, 1) := by decide +kernel
theorem d_L_add_135 : decode b_L_add 135 = .ok (.aload_n 0, 1) := by decide +kernel
theorem d_L_add_136 : decode b_L_add 136 = .ok (.getfield 37, 3) := by decide +kernel
theorem d_L_add_139 : decode b_L_add 139 = .ok (.iload_n 1, 1) := by decide +kernel
theorem d_L_add_140 : decode b_L_add 140 = .ok (.iconst 0, 1) := by decide +kernel
theorem d_L_add_141 : decode b_L_add 141 = .ok (.iastore, 1) := by decide +kernel
theorem d_L_add_142 : decode b_L_add 142 = .ok (.aload_n 0, 1) := by decide +kernel
theorem d_L_add_143 : decode b_L_add 143 = .ok (.dup, 1) := by decide +kernel
theorem d_L_add_144 : decode b_L_add 144 = .ok (.getfield 46, 3) := by decide +kernel
theorem d_L_add_147 : decode b_L_add 147 = .ok (.iconst 1, 1) := by decide +kernel
theorem d_L_add_148 : decode b_L_add 148 = .ok (.iadd, 1) := by decide +kernel
theorem d_L_add_149 : decode b_L_add 149 = .ok (.putfield 46, 3) := by decide +kernel
theorem d_L_add_152 : decode b_L_add 152 = .ok (.iconst 0, 1) := by decide +kernel
theorem d_L_add_153 : decode b_L_add 153 = .ok (.ireturn, 1) := by decide +kernel
abbrev b_L_remove : ByteArray := prog_4_method_4_code
theorem d_L_remove_0 : decode b_L_remove 0 = .ok (.aload_n 0, 1) := by decide +kernel
theorem d_L_remove_1 : decode b_L_remove 1 = .ok (.iload_n 1, 1) := by decide +kernel
theorem d_L_remove_2 : decode b_L_remove 2 = .ok (.invokevirtual 50, 3) := by decide +kernel
theorem d_L_remove_5 : decode b_L_remove 5 = .ok (.ifCond .ne 6, 3) := by decide +kernel
theorem d_L_remove_8 : decode b_L_remove 8 = .ok (.bipush 27, 2) := by decide +kernel
theorem d_L_remove_10 : decode b_L_remove 10 = .ok (.ireturn, 1) := by decide +kernel
theorem d_L_remove_11 : decode b_L_remove 11 = .ok (.aload_n 0, 1) := by decide +kernel
theorem d_L_remove_12 : decode b_L_remove 12 = .ok (.getfield 15, 3) := by decide +kernel
theorem d_L_remove_15 : decode b_L_remove 15 = .ok (.iload_n 1, 1) := by decide +kernel
theorem d_L_remove_16 : decode b_L_remove 16 = .ok (.baload, 1) := by decide +kernel
theorem d_L_remove_17 : decode b_L_remove 17 = .ok (.ifCond .eq 6, 3) := by decide +kernel
theorem d_L_remove_20 : decode b_L_remove 20 = .ok (.bipush 15, 2) := by decide +kernel
theorem d_L_remove_22 : decode b_L_remove 22 = .ok (.ireturn, 1) := by decide +kernel
theorem d_L_remove_23 : decode b_L_remove 23 = .ok (.aload_n 0, 1) := by decide +kernel
theorem d_L_remove_24 : decode b_L_remove 24 = .ok (.getfield 11, 3) := by decide +kernel
theorem d_L_remove_27 : decode b_L_remove 27 = .ok (.iload_n 1, 1) := by decide +kernel
theorem d_L_remove_28 : decode b_L_remove 28 = .ok (.iconst 0, 1) := by decide +kernel
theorem d_L_remove_29 : decode b_L_remove 29 = .ok (.bastore, 1) := by decide +kernel
theorem d_L_remove_30 : decode b_L_remove 30 = .ok (.aload_n 0, 1) := by decide +kernel
theorem d_L_remove_31 : decode b_L_remove 31 = .ok (.dup, 1) := by decide +kernel
theorem d_L_remove_32 : decode b_L_remove 32 = .ok (.getfield 46, 3) := by decide +kernel
theorem d_L_remove_35 : decode b_L_remove 35 = .ok (.iconst 1, 1) := by decide +kernel
theorem d_L_remove_36 : decode b_L_remove 36 = .ok (.isub, 1) := by decide +kernel
theorem d_L_remove_37 : decode b_L_remove 37 = .ok (.putfield 46, 3) := by decide +kernel
theorem d_L_remove_40 : decode b_L_remove 40 = .ok (.iconst 0, 1) := by decide +kernel
theorem d_L_remove_41 : decode b_L_remove 41 = .ok (.ireturn, 1) := by decide +kernel
abbrev b_L_enable : ByteArray := prog_4_method_5_code
theorem d_L_enable_0 : decode b_L_enable 0 = .ok (.aload_n 0, 1) := by decide +kernel
theorem d_L_enable_1 : decode b_L_enable 1 = .ok (.iload_n 1, 1) := by decide +kernel
theorem d_L_enable_2 : decode b_L_enable 2 = .ok (.invokevirtual 50, 3) := by decide +kernel
theorem d_L_enable_5 : decode b_L_enable 5 = .ok (.ifCond .ne 6, 3) := by decide +kernel
theorem d_L_enable_8 : decode b_L_enable 8 = .ok (.bipush 27, 2) := by decide +kernel
theorem d_L_enable_10 : decode b_L_enable 10 = .ok (.ireturn, 1) := by decide +kernel
theorem d_L_enable_11 : decode b_L_enable 11 = .ok (.aload_n 0, 1) := by decide +kernel
theorem d_L_enable_12 : decode b_L_enable 12 = .ok (.getfield 15, 3) := by decide +kernel
theorem d_L_enable_15 : decode b_L_enable 15 = .ok (.iload_n 1, 1) := by decide +kernel
theorem d_L_enable_16 : decode b_L_enable 16 = .ok (.iload_n 2, 1) := by decide +kernel
theorem d_L_enable_17 : decode b_L_enable 17 = .ok (.bastore, 1) := by decide +kernel
theorem d_L_enable_18 : decode b_L_enable 18 = .ok (.aload_n 0, 1) := by decide +kernel
theorem d_L_enable_19 : decode b_L_enable 19 = .ok (.getfield 37, 3) := by decide +kernel
theorem d_L_enable_22 : decode b_L_enable 22 = .ok (.iload_n 1, 1) := by decide +kernel
theorem d_L_enable_23 : decode b_L_enable 23 = .ok (.iconst 0, 1) := by decide +kernel
theorem d_L_enable_24 : decode b_L_enable 24 = .ok (.iastore, 1) := by decide +kernel
theorem d_L_enable_25 : decode b_L_enable 25 = .ok (.iconst 0, 1) := by decide +kernel
theorem d_L_enable_26 : decode b_L_enable 26 = .ok (.ireturn, 1) := by decide +kernel
abbrev b_L_watch : ByteArray := prog_4_method_6_code
theorem d_L_watch_0 : decode b_L_watch 0 = .ok (.iconst 0, 1) := by decide +kernel
theorem d_L_watch_1 : decode b_L_watch 1 = .ok (.istore_n 3, 1) := by decide +kernel
theorem d_L_watch_2 : decode b_L_watch 2 = .ok (.iconst 0, 1) := by decide +kernel
theorem d_L_watch_3 : decode b_L_watch 3 = .ok (.istore 4, 2) := by decide +kernel
theorem d_L_watch_5 : decode b_L_watch 5 = .ok (.iload 4, 2) := by decide +kernel
theorem d_L_watch_7 : decode b_L_watch 7 = .ok (.sipush 256, 3) := by decide +kernel
theorem d_L_watch_10 : decode b_L_watch 10 = .ok (.if_icmp .ge 143, 3) := by decide +kernel
theorem d_L_watch_13 : decode b_L_watch 13 = .ok (.aload_n 0, 1) := by decide +kernel
theorem d_L_watch_14 : decode b_L_watch 14 = .ok (.getfield 11, 3) := by decide +kernel
theorem d_L_watch_17 : decode b_L_watch 17 = .ok (.iload 4, 2) := by decide +kernel
theorem d_L_watch_19 : decode b_L_watch 19 = .ok (.baload, 1) := by decide +kernel
theorem d_L_watch_20 : decode b_L_watch 20 = .ok (.ifCond .eq 127, 3) := by decide +kernel
theorem d_L_watch_23 : decode b_L_watch 23 = .ok (.aload_n 0, 1) := by decide +kernel
theorem d_L_watch_24 : decode b_L_watch 24 = .ok (.getfield 15, 3) := by decide +kernel
theorem d_L_watch_27 : decode b_L_watch 27 = .ok (.iload 4, 2) := by decide +kernel
theorem d_L_watch_29 : decode b_L_watch 29 = .ok (.baload, 1) := by decide +kernel
theorem d_L_watch_30 : decode b_L_watch 30 = .ok (.ifCond .ne 6, 3) := by decide +kernel
theorem d_L_watch_33 : decode b_L_watch 33 = .ok (.goto 114, 3) := by decide +kernel
theorem d_L_watch_36 : decode b_L_watch 36 = .ok (.aload_n 1, 1) := by decide +kernel
theorem d_L_watch_37 : decode b_L_watch 37 = .ok (.aload_n 0, 1) := by decide +kernel
theorem d_L_watch_38 : decode b_L_watch 38 = .ok (.getfield 21, 3) := by decide +kernel
theorem d_L_watch_41 : decode b_L_watch 41 = .ok (.iload 4, 2) := by decide +kernel
theorem d_L_watch_43 : decode b_L_watch 43 = .ok (.iaload, 1) := by decide +kernel
theorem d_L_watch_44 : decode b_L_watch 44 = .ok (.invokeinterface 51 2, 5) := by decide +kernel
theorem d_L_watch_49 : decode b_L_watch 49 = .ok (.istore 5, 2) := by decide +kernel
theorem d_L_watch_51 : decode b_L_watch 51 = .ok (.aload_n 0, 1) := by decide +kernel
theorem d_L_watch_52 : decode b_L_watch 52 = .ok (.getfield 37, 3) := by decide +kernel
theorem d_L_watch_55 : decode b_L_watch 55 = .ok (.iload 4, 2) := by decide +kernel
theorem d_L_watch_57 : decode b_L_watch 57 = .ok (.iload 5, 2) := by decide +kernel
theorem d_L_watch_59 : decode b_L_watch 59 = .ok (.aload_n 0, 1) := by decide +kernel
theorem d_L_watch_60 : decode b_L_watch 60 = .ok (.getfield 28, 3) := by decide +kernel
theorem d_L_watch_63 : decode b_L_watch 63 = .ok (.iload 4, 2) := by decide +kernel
theorem d_L_watch_65 : decode b_L_watch 65 = .ok (.iaload, 1) := by decide +kernel
theorem d_L_watch_66 : decode b_L_watch 66 = .ok (.if_icmp .lt 19, 3) := by decide +kernel
theorem d_L_watch_69 : decode b_L_watch 69 = .ok (.iload 5, 2) := by decide +kernel
theorem d_L_watch_71 : decode b_L_watch 71 = .ok (.aload_n 0, 1) := by decide +kernel
theorem d_L_watch_72 : decode b_L_watch 72 = .ok (.getfield 31, 3) := by decide +kernel
theorem d_L_watch_75 : decode b_L_watch 75 = .ok (.iload 4, 2) := by decide +kernel
theorem d_L_watch_77 : decode b_L_watch 77 = .ok (.iaload, 1) := by decide +kernel
theorem d_L_watch_78 : decode b_L_watch 78 = .ok (.if_icmp .gt 7, 3) := by decide +kernel
theorem d_L_watch_81 : decode b_L_watch 81 = .ok (.iconst 0, 1) := by decide +kernel
theorem d_L_watch_82 : decode b_L_watch 82 = .ok (.goto 12, 3) := by decide +kernel
theorem d_L_watch_85 : decode b_L_watch 85 = .ok (.aload_n 0, 1) := by decide +kernel
theorem d_L_watch_86 : decode b_L_watch 86 = .ok (.getfield 37, 3) := by decide +kernel
theorem d_L_watch_89 : decode b_L_watch 89 = .ok (.iload 4, 2) := by decide +kernel
theorem d_L_watch_91 : decode b_L_watch 91 = .ok (.iaload, 1) := by decide +kernel
theorem d_L_watch_92 : decode b_L_watch 92 = .ok (.iconst 1, 1) := by decide +kernel
theorem d_L_watch_93 : decode b_L_watch 93 = .ok (.iadd, 1) := by decide +kernel
theorem d_L_watch_94 : decode b_L_watch 94 = .ok (.iastore, 1) := by decide +kernel
theorem d_L_watch_95 : decode b_L_watch 95 = .ok (.aload_n 0, 1) := by decide +kernel
theorem d_L_watch_96 : decode b_L_watch 96 = .ok (.getfield 37, 3) := by decide +kernel
theorem d_L_watch_99 : decode b_L_watch 99 = .ok (.iload 4, 2) := by decide +kernel
theorem d_L_watch_101 : decode b_L_watch 101 = .ok (.iaload, 1) := by decide +kernel
theorem d_L_watch_102 : decode b_L_watch 102 = .ok (.aload_n 0, 1) := by decide +kernel
theorem d_L_watch_103 : decode b_L_watch 103 = .ok (.getfield 25, 3) := by decide +kernel
theorem d_L_watch_106 : decode b_L_watch 106 = .ok (.iload 4, 2) := by decide +kernel
theorem d_L_watch_108 : decode b_L_watch 108 = .ok (.iaload, 1) := by decide +kernel
theorem d_L_watch_109 : decode b_L_watch 109 = .ok (.if_icmp .ne 38, 3) := by decide +kernel
theorem d_L_watch_112 : decode b_L_watch 112 = .ok (.aload_n 0, 1) := by decide +kernel
theorem d_L_watch_113 : decode b_L_watch 113 = .ok (.dup, 1) := by decide +kernel
theorem d_L_watch_114 : decode b_L_watch 114 = .ok (.getfield 57, 3) := by decide +kernel
theorem d_L_watch_117 : decode b_L_watch 117 = .ok (.iconst 1, 1) := by decide +kernel
theorem d_L_watch_118 : decode b_L_watch 118 = .ok (.iadd, 1) := by decide +kernel
theorem d_L_watch_119 : decode b_L_watch 119 = .ok (.putfield 57, 3) := by decide +kernel
theorem d_L_watch_122 : decode b_L_watch 122 = .ok (.aload_n 2, 1) := by decide +kernel
theorem d_L_watch_123 : decode b_L_watch 123 = .ok (.aload_n 0, 1) := by decide +kernel
theorem d_L_watch_124 : decode b_L_watch 124 = .ok (.getfield 34, 3) := by decide +kernel
theorem d_L_watch_127 : decode b_L_watch 127 = .ok (.iload 4, 2) := by decide +kernel
theorem d_L_watch_129 : decode b_L_watch 129 = .ok (.iaload, 1) := by decide +kernel
theorem d_L_watch_130 : decode b_L_watch 130 = .ok (.iload 5, 2) := by decide +kernel
theorem d_L_watch_132 : decode b_L_watch 132 = .ok (.invokevirtual 60, 3) := by decide +kernel
theorem d_L_watch_135 : decode b_L_watch 135 = .ok (.istore 6, 2) := by decide +kernel
theorem d_L_watch_137 : decode b_L_watch 137 = .ok (.iload_n 3, 1) := by decide +kernel
theorem d_L_watch_138 : decode b_L_watch 138 = .ok (.aload_n 0, 1) := by decide +kernel
theorem d_L_watch_139 : decode b_L_watch 139 = .ok (.getfield 18, 3) := by decide +kernel
theorem d_L_watch_142 : decode b_L_watch 142 = .ok (.iload 4, 2) := by decide +kernel
theorem d_L_watch_144 : decode b_L_watch 144 = .ok (.baload, 1) := by decide +kernel
theorem d_L_watch_145 : decode b_L_watch 145 = .ok (.ior, 1) := by decide +kernel
theorem d_L_watch_146 : decode b_L_watch 146 = .ok (.istore_n 3, 1) := by decide +kernel
theorem d_L_watch_147 : decode b_L_watch 147 = .ok (.iinc 4 1, 3) := by decide +kernel
theorem d_L_watch_150 : decode b_L_watch 150 = .ok (.goto (-145), 3) := by decide +kernel
theorem d_L_watch_153 : decode b_L_watch 153 = .ok (.iload_n 3, 1) := by decide +kernel
theorem d_L_watch_154 : decode b_L_watch 154 = .ok (.ireturn, 1) := by decide +kernel
abbrev b_N_init : ByteArray := prog_5_method_1_code
theorem d_N_init_0 : decode b_N_init 0 = .ok (.aload_n 0, 1) := by decide +kernel
theorem d_N_init_1 : decode b_N_init 1 = .ok (.invokespecial 3, 3) := by decide +kernel
theorem d_N_init_4 : decode b_N_init 4 = .ok (.aload_n 0, 1) := by decide +kernel
theorem d_N_init_5 : decode b_N_init 5 = .ok (.bipush 32, 2) := by decide +kernel
theorem d_N_init_7 : decode b_N_init 7 = .ok (.newarray .int, 2) := by decide +kernel
theorem d_N_init_9 : decode b_N_init 9 = .ok (.putfield 9, 3) := by decide +kernel
theorem d_N_init_12 : decode b_N_init 12 = .ok (.return_, 1) := by decide +kernel
abbrev b_N_value : ByteArray := prog_5_method_2_code
theorem d_N_value_0 : decode b_N_value 0 = .ok (.aload_n 0, 1) := by decide +kernel
theorem d_N_value_1 : decode b_N_value 1 = .ok (.getfield 9, 3) := by decide +kernel
theorem d_N_value_4 : decode b_N_value 4 = .ok (.iload_n 1, 1) := by decide +kernel
theorem d_N_value_5 : decode b_N_value 5 = .ok (.iaload, 1) := by decide +kernel
theorem d_N_value_6 : decode b_N_value 6 = .ok (.ireturn, 1) := by decide +kernel
end
section
-- ===== rows that decode the instructions =====
abbrev b_M_init : ByteArray := prog_8_method_1_code
theorem d_M_init_0 : decode b_M_init 0 = .ok (.aload_n 0, 1) := by decide +kernel
theorem d_M_init_1 : decode b_M_init 1 = .ok (.invokespecial 1, 3) := by decide +kernel
theorem d_M_init_4 : decode b_M_init 4 = .ok (.aload_n 0, 1) := by decide +kernel
theorem d_M_init_5 : decode b_M_init 5 = .ok (.bipush 32, 2) := by decide +kernel
theorem d_M_init_7 : decode b_M_init 7 = .ok (.newarray .int, 2) := by decide +kernel
theorem d_M_init_9 : decode b_M_init 9 = .ok (.putfield 7, 3) := by decide +kernel
theorem d_M_init_12 : decode b_M_init 12 = .ok (.aload_n 0, 1) := by decide +kernel
theorem d_M_init_13 : decode b_M_init 13 = .ok (.sipush 256, 3) := by decide +kernel
theorem d_M_init_16 : decode b_M_init 16 = .ok (.newarray .boolean, 2) := by decide +kernel
theorem d_M_init_18 : decode b_M_init 18 = .ok (.putfield 13, 3) := by decide +kernel
theorem d_M_init_21 : decode b_M_init 21 = .ok (.aload_n 0, 1) := by decide +kernel
theorem d_M_init_22 : decode b_M_init 22 = .ok (.sipush 256, 3) := by decide +kernel
theorem d_M_init_25 : decode b_M_init 25 = .ok (.newarray .boolean, 2) := by decide +kernel
theorem d_M_init_27 : decode b_M_init 27 = .ok (.putfield 17, 3) := by decide +kernel
theorem d_M_init_30 : decode b_M_init 30 = .ok (.aload_n 0, 1) := by decide +kernel
theorem d_M_init_31 : decode b_M_init 31 = .ok (.sipush 256, 3) := by decide +kernel
theorem d_M_init_34 : decode b_M_init 34 = .ok (.newarray .boolean, 2) := by decide +kernel
theorem d_M_init_36 : decode b_M_init 36 = .ok (.putfield 20, 3) := by decide +kernel
theorem d_M_init_39 : decode b_M_init 39 = .ok (.aload_n 0, 1) := by decide +kernel
theorem d_M_init_40 : decode b_M_init 40 = .ok (.sipush 256, 3) := by decide +kernel
theorem d_M_init_43 : decode b_M_init 43 = .ok (.newarray .int, 2) := by decide +kernel
theorem d_M_init_45 : decode b_M_init 45 = .ok (.putfield 23, 3) := by decide +kernel
theorem d_M_init_48 : decode b_M_init 48 = .ok (.aload_n 0, 1) := by decide +kernel
theorem d_M_init_49 : decode b_M_init 49 = .ok (.sipush 256, 3) := by decide +kernel
theorem d_M_init_52 : decode b_M_init 52 = .ok (.newarray .int, 2) := by decide +kernel
theorem d_M_init_54 : decode b_M_init 54 = .ok (.putfield 26, 3) := by decide +kernel
theorem d_M_init_57 : decode b_M_init 57 = .ok (.aload_n 0, 1) := by decide +kernel
theorem d_M_init_58 : decode b_M_init 58 = .ok (.sipush 256, 3) := by decide +kernel
theorem d_M_init_61 : decode b_M_init 61 = .ok (.newarray .int, 2) := by decide +kernel
theorem d_M_init_63 : decode b_M_init 63 = .ok (.putfield 29, 3) := by decide +kernel
theorem d_M_init_66 : decode b_M_init 66 = .ok (.aload_n 0, 1) := by decide +kernel
theorem d_M_init_67 : decode b_M_init 67 = .ok (.sipush 256, 3) := by decide +kernel
theorem d_M_init_70 : decode b_M_init 70 = .ok (.newarray .int, 2) := by decide +kernel
theorem d_M_init_72 : decode b_M_init 72 = .ok (.putfield 32, 3) := by decide +kernel
theorem d_M_init_75 : decode b_M_init 75 = .ok (.aload_n 0, 1) := by decide +kernel
theorem d_M_init_76 : decode b_M_init 76 = .ok (.sipush 256, 3) := by decide +kernel
theorem d_M_init_79 : decode b_M_init 79 = .ok (.newarray .int, 2) := by decide +kernel
theorem d_M_init_81 : decode b_M_init 81 = .ok (.putfield 35, 3) := by decide +kernel
theorem d_M_init_84 : decode b_M_init 84 = .ok (.aload_n 0, 1) := by decide +kernel
theorem d_M_init_85 : decode b_M_init 85 = .ok (.sipush 256, 3) := by decide +kernel
theorem d_M_init_88 : decode b_M_init 88 = .ok (.newarray .int, 2) := by decide +kernel
theorem d_M_init_90 : decode b_M_init 90 = .ok (.putfield 38, 3) := by decide +kernel
theorem d_M_init_93 : decode b_M_init 93 = .ok (.aload_n 0, 1) := by decide +kernel
theorem d_M_init_94 : decode b_M_init 94 = .ok (.bipush 64, 2) := by decide +kernel
theorem d_M_init_96 : decode b_M_init 96 = .ok (.newarray .int, 2) := by decide +kernel
theorem d_M_init_98 : decode b_M_init 98 = .ok (.putfield 41, 3) := by decide +kernel
theorem d_M_init_101 : decode b_M_init 101 = .ok (.aload_n 0, 1) := by decide +kernel
theorem d_M_init_102 : decode b_M_init 102 = .ok (.bipush 64, 2) := by decide +kernel
theorem d_M_init_104 : decode b_M_init 104 = .ok (.newarray .int, 2) := by decide +kernel
theorem d_M_init_106 : decode b_M_init 106 = .ok (.putfield 44, 3) := by decide +kernel
theorem d_M_init_109 : decode b_M_init 109 = .ok (.aload_n 0, 1) := by decide +kernel
theorem d_M_init_110 : decode b_M_init 110 = .ok (.bipush 32, 2) := by decide +kernel
theorem d_M_init_112 : decode b_M_init 112 = .ok (.newarray .boolean, 2) := by decide +kernel
theorem d_M_init_114 : decode b_M_init 114 = .ok (.putfield 47, 3) := by decide +kernel
theorem d_M_init_117 : decode b_M_init 117 = .ok (.aload_n 0, 1) := by decide +kernel
theorem d_M_init_118 : decode b_M_init 118 = .ok (.bipush 32, 2) := by decide +kernel
theorem d_M_init_120 : decode b_M_init 120 = .ok (.newarray .int, 2) := by decide +kernel
theorem d_M_init_122 : decode b_M_init 122 = .ok (.putfield 50, 3) := by decide +kernel
theorem d_M_init_125 : decode b_M_init 125 = .ok (.aload_n 0, 1) := by decide +kernel
theorem d_M_init_126 : decode b_M_init 126 = .ok (.bipush 32, 2) := by decide +kernel
theorem d_M_init_128 : decode b_M_init 128 = .ok (.newarray .boolean, 2) := by decide +kernel
theorem d_M_init_130 : decode b_M_init 130 = .ok (.putfield 53, 3) := by decide +kernel
theorem d_M_init_133 : decode b_M_init 133 = .ok (.aload_n 0, 1) := by decide +kernel
theorem d_M_init_134 : decode b_M_init 134 = .ok (.sipush 8192, 3) := by decide +kernel
theorem d_M_init_137 : decode b_M_init 137 = .ok (.newarray .byte, 2) := by decide +kernel
theorem d_M_init_139 : decode b_M_init 139 = .ok (.putfield 56, 3) := by decide +kernel
theorem d_M_init_142 : decode b_M_init 142 = .ok (.aload_n 0, 1) := by decide +kernel
theorem d_M_init_143 : decode b_M_init 143 = .ok (.sipush 256, 3) := by decide +kernel
theorem d_M_init_146 : decode b_M_init 146 = .ok (.newarray .byte, 2) := by decide +kernel
theorem d_M_init_148 : decode b_M_init 148 = .ok (.putfield 60, 3) := by decide +kernel
theorem d_M_init_151 : decode b_M_init 151 = .ok (.return_, 1) := by decide +kernel
abbrev b_M_set : ByteArray := prog_8_method_3_code
theorem d_M_set_0 : decode b_M_set 0 = .ok (.aload_n 0, 1) := by decide +kernel
theorem d_M_set_1 : decode b_M_set 1 = .ok (.iconst 0, 1) := by decide +kernel
theorem d_M_set_2 : decode b_M_set 2 = .ok (.putfield 63, 3) := by decide +kernel
theorem d_M_set_5 : decode b_M_set 5 = .ok (.iload_n 1, 1) := by decide +kernel
theorem d_M_set_6 : decode b_M_set 6 = .ok (.ifCond .lt 9, 3) := by decide +kernel
theorem d_M_set_9 : decode b_M_set 9 = .ok (.iload_n 1, 1) := by decide +kernel
theorem d_M_set_10 : decode b_M_set 10 = .ok (.bipush 31, 2) := by decide +kernel
theorem d_M_set_12 : decode b_M_set 12 = .ok (.if_icmp .le 5, 3) := by decide +kernel
theorem d_M_set_15 : decode b_M_set 15 = .ok (.iconst 0, 1) := by decide +kernel
theorem d_M_set_16 : decode b_M_set 16 = .ok (.ireturn, 1) := by decide +kernel
theorem d_M_set_17 : decode b_M_set 17 = .ok (.aload_n 0, 1) := by decide +kernel
theorem d_M_set_18 : decode b_M_set 18 = .ok (.getfield 7, 3) := by decide +kernel
theorem d_M_set_21 : decode b_M_set 21 = .ok (.iload_n 1, 1) := by decide +kernel
theorem d_M_set_22 : decode b_M_set 22 = .ok (.iload_n 2, 1) := by decide +kernel
theorem d_M_set_23 : decode b_M_set 23 = .ok (.iastore, 1) := by decide +kernel
theorem d_M_set_24 : decode b_M_set 24 = .ok (.iconst 1, 1) := by decide +kernel
theorem d_M_set_25 : decode b_M_set 25 = .ok (.ireturn, 1) := by decide +kernel
abbrev b_M_isThere : ByteArray := prog_8_method_4_code
theorem d_M_isThere_0 : decode b_M_isThere 0 = .ok (.iload_n 1, 1) := by decide +kernel
theorem d_M_isThere_1 : decode b_M_isThere 1 = .ok (.ifCond .lt 23, 3) := by decide +kernel
theorem d_M_isThere_4 : decode b_M_isThere 4 = .ok (.iload_n 1, 1) := by decide +kernel
theorem d_M_isThere_5 : decode b_M_isThere 5 = .ok (.sipush 256, 3) := by decide +kernel
theorem d_M_isThere_8 : decode b_M_isThere 8 = .ok (.if_icmp .ge 16, 3) := by decide +kernel
theorem d_M_isThere_11 : decode b_M_isThere 11 = .ok (.aload_n 0, 1) := by decide +kernel
theorem d_M_isThere_12 : decode b_M_isThere 12 = .ok (.getfield 13, 3) := by decide +kernel
theorem d_M_isThere_15 : decode b_M_isThere 15 = .ok (.iload_n 1, 1) := by decide +kernel
theorem d_M_isThere_16 : decode b_M_isThere 16 = .ok (.baload, 1) := by decide +kernel
theorem d_M_isThere_17 : decode b_M_isThere 17 = .ok (.ifCond .eq 7, 3) := by decide +kernel
theorem d_M_isThere_20 : decode b_M_isThere 20 = .ok (.iconst 1, 1) := by decide +kernel
theorem d_M_isThere_21 : decode b_M_isThere 21 = .ok (.goto 4, 3) := by decide +kernel
theorem d_M_isThere_24 : decode b_M_isThere 24 = .ok (.iconst 0, 1) := by decide +kernel
theorem d_M_isThere_25 : decode b_M_isThere 25 = .ok (.ireturn, 1) := by decide +kernel
abbrev b_M_limits : ByteArray := prog_8_method_5_code
theorem d_M_limits_0 : decode b_M_limits 0 = .ok (.iconst 0, 1) := by decide +kernel
theorem d_M_limits_1 : decode b_M_limits 1 = .ok (.istore_n 1, 1) := by decide +kernel
theorem d_M_limits_2 : decode b_M_limits 2 = .ok (.iconst 0, 1) := by decide +kernel
theorem d_M_limits_3 : decode b_M_limits 3 = .ok (.istore_n 2, 1) := by decide +kernel
theorem d_M_limits_4 : decode b_M_limits 4 = .ok (.iload_n 2, 1) := by decide +kernel
theorem d_M_limits_5 : decode b_M_limits 5 = .ok (.sipush 256, 3) := by decide +kernel
theorem d_M_limits_8 : decode b_M_limits 8 = .ok (.if_icmp .ge 26, 3) := by decide +kernel
theorem d_M_limits_11 : decode b_M_limits 11 = .ok (.iload_n 1, 1) := by decide +kernel
theorem d_M_limits_12 : decode b_M_limits 12 = .ok (.aload_n 0, 1) := by decide +kernel
theorem d_M_limits_13 : decode b_M_limits 13 = .ok (.getfield 13, 3) := by decide +kernel
theorem d_M_limits_16 : decode b_M_limits 16 = .ok (.iload_n 2, 1) := by decide +kernel
theorem d_M_limits_17 : decode b_M_limits 17 = .ok (.baload, 1) := by decide +kernel
theorem d_M_limits_18 : decode b_M_limits 18 = .ok (.ifCond .eq 7, 3) := by decide +kernel
theorem d_M_limits_21 : decode b_M_limits 21 = .ok (.iconst 1, 1) := by decide +kernel
theorem d_M_limits_22 : decode b_M_limits 22 = .ok (.goto 4, 3) := by decide +kernel
theorem d_M_limits_25 : decode b_M_limits 25 = .ok (.iconst 0, 1) := by decide +kernel
theorem d_M_limits_26 : decode b_M_limits 26 = .ok (.iadd, 1) := by decide +kernel
theorem d_M_limits_27 : decode b_M_limits 27 = .ok (.istore_n 1, 1) := by decide +kernel
theorem d_M_limits_28 : decode b_M_limits 28 = .ok (.iinc 2 1, 3) := by decide +kernel
theorem d_M_limits_31 : decode b_M_limits 31 = .ok (.goto (-27), 3) := by decide +kernel
theorem d_M_limits_34 : decode b_M_limits 34 = .ok (.iload_n 1, 1) := by decide +kernel
theorem d_M_limits_35 : decode b_M_limits 35 = .ok (.ireturn, 1) := by decide +kernel
abbrev b_M_isIn : ByteArray := prog_8_method_6_code
theorem d_M_isIn_0 : decode b_M_isIn 0 = .ok (.iload_n 0, 1) := by decide +kernel
theorem d_M_isIn_1 : decode b_M_isIn 1 = .ok (.iload_n 1, 1) := by decide +kernel
theorem d_M_isIn_2 : decode b_M_isIn 2 = .ok (.if_icmp .lt 12, 3) := by decide +kernel
theorem d_M_isIn_5 : decode b_M_isIn 5 = .ok (.iload_n 0, 1) := by decide +kernel
theorem d_M_isIn_6 : decode b_M_isIn 6 = .ok (.iload_n 2, 1) := by decide +kernel
theorem d_M_isIn_7 : decode b_M_isIn 7 = .ok (.if_icmp .gt 7, 3) := by decide +kernel
theorem d_M_isIn_10 : decode b_M_isIn 10 = .ok (.iconst 1, 1) := by decide +kernel
theorem d_M_isIn_11 : decode b_M_isIn 11 = .ok (.goto 4, 3) := by decide +kernel
theorem d_M_isIn_14 : decode b_M_isIn 14 = .ok (.iconst 0, 1) := by decide +kernel
theorem d_M_isIn_15 : decode b_M_isIn 15 = .ok (.ireturn, 1) := by decide +kernel
abbrev b_M_add : ByteArray := prog_8_method_7_code
theorem d_M_add_0 : decode b_M_add 0 = .ok (.aload_n 0, 1) := by decide +kernel
theorem d_M_add_1 : decode b_M_add 1 = .ok (.iconst 0, 1) := by decide +kernel
theorem d_M_add_2 : decode b_M_add 2 = .ok (.putfield 63, 3) := by decide +kernel
theorem d_M_add_5 : decode b_M_add 5 = .ok (.iload_n 3, 1) := by decide +kernel
theorem d_M_add_6 : decode b_M_add 6 = .ok (.iconst 1, 1) := by decide +kernel
theorem d_M_add_7 : decode b_M_add 7 = .ok (.sipush 255, 3) := by decide +kernel
theorem d_M_add_10 : decode b_M_add 10 = .ok (.invokestatic 67, 3) := by decide +kernel
theorem d_M_add_13 : decode b_M_add 13 = .ok (.ifCond .eq 42, 3) := by decide +kernel
theorem d_M_add_16 : decode b_M_add 16 = .ok (.iload 4, 2) := by decide +kernel
theorem d_M_add_18 : decode b_M_add 18 = .ok (.iload 5, 2) := by decide +kernel
theorem d_M_add_20 : decode b_M_add 20 = .ok (.if_icmp .gt 35, 3) := by decide +kernel
theorem d_M_add_23 : decode b_M_add 23 = .ok (.iload_n 2, 1) := by decide +kernel
theorem d_M_add_24 : decode b_M_add 24 = .ok (.iconst 0, 1) := by decide +kernel
theorem d_M_add_25 : decode b_M_add 25 = .ok (.bipush 31, 2) := by decide +kernel
theorem d_M_add_27 : decode b_M_add 27 = .ok (.invokestatic 67, 3) := by decide +kernel
theorem d_M_add_30 : decode b_M_add 30 = .ok (.ifCond .eq 25, 3) := by decide +kernel
theorem d_M_add_33 : decode b_M_add 33 = .ok (.iload 6, 2) := by decide +kernel
theorem d_M_add_35 : decode b_M_add 35 = .ok (.iconst 0, 1) := by decide +kernel
theorem d_M_add_36 : decode b_M_add 36 = .ok (.bipush 31, 2) := by decide +kernel
theorem d_M_add_38 : decode b_M_add 38 = .ok (.invokestatic 67, 3) := by decide +kernel
theorem d_M_add_41 : decode b_M_add 41 = .ok (.ifCond .eq 14, 3) := by decide +kernel
theorem d_M_add_44 : decode b_M_add 44 = .ok (.iload_n 1, 1) := by decide +kernel
theorem d_M_add_45 : decode b_M_add 45 = .ok (.iconst 0, 1) := by decide +kernel
theorem d_M_add_46 : decode b_M_add 46 = .ok (.sipush 255, 3) := by decide +kernel
theorem d_M_add_49 : decode b_M_add 49 = .ok (.invokestatic 67, 3) := by decide +kernel
theorem d_M_add_52 : decode b_M_add 52 = .ok (.ifCond .ne 6, 3) := by decide +kernel
theorem d_M_add_55 : decode b_M_add 55 = .ok (.bipush 13, 2) := by decide +kernel
theorem d_M_add_57 : decode b_M_add 57 = .ok (.ireturn, 1) := by decide +kernel
theorem d_M_add_58 : decode b_M_add 58 = .ok (.aload_n 0, 1) := by decide +kernel
theorem d_M_add_59 : decode b_M_add 59 = .ok (.getfield 13, 3) := by decide +kernel
theorem d_M_add_62 : decode b_M_add 62 = .ok (.iload_n 1, 1) := by decide +kernel
theorem d_M_add_63 : decode b_M_add 63 = .ok (.baload, 1) := by decide +kernel
theorem d_M_add_64 : decode b_M_add 64 = .ok (.ifCond .eq 6, 3) := by decide +kernel
theorem d_M_add_67 : decode b_M_add 67 = .ok (.bipush 25, 2) := by decide +kernel
theorem d_M_add_69 : decode b_M_add 69 = .ok (.ireturn, 1) := by decide +kernel
theorem d_M_add_70 : decode b_M_add 70 = .ok (.aload_n 0, 1) := by decide +kernel
theorem d_M_add_71 : decode b_M_add 71 = .ok (.invokevirtual 71, 3) := by decide +kernel
theorem d_M_add_74 : decode b_M_add 74 = .ok (.bipush 16, 2) := by decide +kernel
theorem d_M_add_76 : decode b_M_add 76 = .ok (.if_icmp .ne 6, 3) := by decide +kernel
theorem d_M_add_79 : decode b_M_add 79 = .ok (.bipush 26, 2) := by decide +kernel
theorem d_M_add_81 : decode b_M_add 81 = .ok (.ireturn, 1) := by decide +kernel
theorem d_M_add_82 : decode b_M_add 82 = .ok (.aload_n 0, 1) := by decide +kernel
theorem d_M_add_83 : decode b_M_add 83 = .ok (.getfield 13, 3) := by decide +kernel
theorem d_M_add_86 : decode b_M_add 86 = .ok (.iload_n 1, 1) := by decide +kernel
theorem d_M_add_87 : decode b_M_add 87 = .ok (.iconst 1, 1) := by decide +kernel
theorem d_M_add_88 : decode b_M_add 88 = .ok (.bastore, 1) := by decide +kernel
theorem d_M_add_89 : decode b_M_add 89 = .ok (.aload_n 0, 1) := by decide +kernel
theorem d_M_add_90 : decode b_M_add 90 = .ok (.getfield 17, 3) := by decide +kernel
theorem d_M_add_93 : decode b_M_add 93 = .ok (.iload_n 1, 1) := by decide +kernel
theorem d_M_add_94 : decode b_M_add 94 = .ok (.iconst 0, 1) := by decide +kernel
theorem d_M_add_95 : decode b_M_add 95 = .ok (.bastore, 1) := by decide +kernel
theorem d_M_add_96 : decode b_M_add 96 = .ok (.aload_n 0, 1) := by decide +kernel
theorem d_M_add_97 : decode b_M_add 97 = .ok (.getfield 20, 3) := by decide +kernel
theorem d_M_add_100 : decode b_M_add 100 = .ok (.iload_n 1, 1) := by decide +kernel
theorem d_M_add_101 : decode b_M_add 101 = .ok (.iload 7, 2) := by decide +kernel
theorem d_M_add_103 : decode b_M_add 103 = .ok (.bastore, 1) := by decide +kernel
theorem d_M_add_104 : decode b_M_add 104 = .ok (.aload_n 0, 1) := by decide +kernel
theorem d_M_add_105 : decode b_M_add 105 = .ok (.getfield 23, 3) := by decide +kernel
theorem d_M_add_108 : decode b_M_add 108 = .ok (.iload_n 1, 1) := by decide +kernel
theorem d_M_add_109 : decode b_M_add 109 = .ok (.iload_n 2, 1) := by decide +kernel
theorem d_M_add_110 : decode b_M_add 110 = .ok (.iastore, 1) := by decide +kernel
theorem d_M_add_111 : decode b_M_add 111 = .ok (.aload_n 0, 1) := by decide +kernel
theorem d_M_add_112 : decode b_M_add 112 = .ok (.getfield 26, 3) := by decide +kernel
theorem d_M_add_115 : decode b_M_add 115 = .ok (.iload_n 1, 1) := by decide +kernel
theorem d_M_add_116 : decode b_M_add 116 = .ok (.iload_n 3, 1) := by decide +kernel
theorem d_M_add_117 : decode b_M_add 117 = .ok (.iastore, 1) := by decide +kernel
theorem d_M_add_118 : decode b_M_add 118 = .ok (.aload_n 0, 1) := by decide +kernel
theorem d_M_add_119 : decode b_M_add 119 = .ok (.getfield 29, 3) := by decide +kernel
theorem d_M_add_122 : decode b_M_add 122 = .ok (.iload_n 1, 1) := by decide +kernel
theorem d_M_add_123 : decode b_M_add 123 = .ok (.iload 4, 2) := by decide +kernel
theorem d_M_add_125 : decode b_M_add 125 = .ok (.iastore, 1) := by decide +kernel
theorem d_M_add_126 : decode b_M_add 126 = .ok (.aload_n 0, 1) := by decide +kernel
theorem d_M_add_127 : decode b_M_add 127 = .ok (.getfield 32, 3) := by decide +kernel
theorem d_M_add_130 : decode b_M_add 130 = .ok (.iload_n 1, 1) := by decide +kernel
theorem d_M_add_131 : decode b_M_add 131 = .ok (.iload 5, 2) := by decide +kernel
theorem d_M_add_133 : decode b_M_add 133 = .ok (.iastore, 1) := by decide +kernel
theorem d_M_add_134 : decode b_M_add 134 = .ok (.aload_n 0, 1) := by decide +kernel
theorem d_M_add_135 : decode b_M_add 135 = .ok (.getfield 35, 3) := by decide +kernel
theorem d_M_add_138 : decode b_M_add 138 = .ok (.iload_n 1, 1) := by decide +kernel
theorem d_M_add_139 : decode b_M_add 139 = .ok (.iload 6, 2) := by decide +kernel
theorem d_M_add_141 : decode b_M_add 141 = .ok (.iastore, 1) := by decide +kernel
theorem d_M_add_142 : decode b_M_add 142 = .ok (.aload_n 0, 1) := by decide +kernel
theorem d_M_add_143 : decode b_M_add 143 = .ok (.getfield 38, 3) := by decide +kernel
theorem d_M_add_146 : decode b_M_add 146 = .ok (.iload_n 1, 1) := by decide +kernel
theorem d_M_add_147 : decode b_M_add 147 = .ok (.iconst 0, 1) := by decide +kernel
theorem d_M_add_148 : decode b_M_add 148 = .ok (.iastore, 1) := by decide +kernel
theorem d_M_add_149 : decode b_M_add 149 = .ok (.iconst 0, 1) := by decide +kernel
theorem d_M_add_150 : decode b_M_add 150 = .ok (.ireturn, 1) := by decide +kernel
abbrev b_M_remove : ByteArray := prog_8_method_8_code
theorem d_M_remove_0 : decode b_M_remove 0 = .ok (.aload_n 0, 1) := by decide +kernel
theorem d_M_remove_1 : decode b_M_remove 1 = .ok (.iconst 0, 1) := by decide +kernel
theorem d_M_remove_2 : decode b_M_remove 2 = .ok (.putfield 63, 3) := by decide +kernel
theorem d_M_remove_5 : decode b_M_remove 5 = .ok (.aload_n 0, 1) := by decide +kernel
theorem d_M_remove_6 : decode b_M_remove 6 = .ok (.iload_n 1, 1) := by decide +kernel
theorem d_M_remove_7 : decode b_M_remove 7 = .ok (.invokevirtual 75, 3) := by decide +kernel
theorem d_M_remove_10 : decode b_M_remove 10 = .ok (.ifCond .ne 6, 3) := by decide +kernel
theorem d_M_remove_13 : decode b_M_remove 13 = .ok (.bipush 27, 2) := by decide +kernel
theorem d_M_remove_15 : decode b_M_remove 15 = .ok (.ireturn, 1) := by decide +kernel
theorem d_M_remove_16 : decode b_M_remove 16 = .ok (.aload_n 0, 1) := by decide +kernel
theorem d_M_remove_17 : decode b_M_remove 17 = .ok (.getfield 13, 3) := by decide +kernel
theorem d_M_remove_20 : decode b_M_remove 20 = .ok (.iload_n 1, 1) := by decide +kernel
theorem d_M_remove_21 : decode b_M_remove 21 = .ok (.aload_n 0, 1) := by decide +kernel
theorem d_M_remove_22 : decode b_M_remove 22 = .ok (.getfield 17, 3) := by decide +kernel
theorem d_M_remove_25 : decode b_M_remove 25 = .ok (.iload_n 1, 1) := by decide +kernel
theorem d_M_remove_26 : decode b_M_remove 26 = .ok (.baload, 1) := by decide +kernel
theorem d_M_remove_27 : decode b_M_remove 27 = .ok (.bastore, 1) := by decide +kernel
theorem d_M_remove_28 : decode b_M_remove 28 = .ok (.aload_n 0, 1) := by decide +kernel
theorem d_M_remove_29 : decode b_M_remove 29 = .ok (.getfield 17, 3) := by decide +kernel
theorem d_M_remove_32 : decode b_M_remove 32 = .ok (.iload_n 1, 1) := by decide +kernel
theorem d_M_remove_33 : decode b_M_remove 33 = .ok (.baload, 1) := by decide +kernel
theorem d_M_remove_34 : decode b_M_remove 34 = .ok (.ifCond .eq 8, 3) := by decide +kernel
theorem d_M_remove_37 : decode b_M_remove 37 = .ok (.bipush 15, 2) := by decide +kernel
theorem d_M_remove_39 : decode b_M_remove 39 = .ok (.goto 4, 3) := by decide +kernel
theorem d_M_remove_42 : decode b_M_remove 42 = .ok (.iconst 0, 1) := by decide +kernel
theorem d_M_remove_43 : decode b_M_remove 43 = .ok (.ireturn, 1) := by decide +kernel
abbrev b_M_enable : ByteArray := prog_8_method_9_code
theorem d_M_enable_0 : decode b_M_enable 0 = .ok (.aload_n 0, 1) := by decide +kernel
theorem d_M_enable_1 : decode b_M_enable 1 = .ok (.iconst 0, 1) := by decide +kernel
theorem d_M_enable_2 : decode b_M_enable 2 = .ok (.putfield 63, 3) := by decide +kernel
theorem d_M_enable_5 : decode b_M_enable 5 = .ok (.aload_n 0, 1) := by decide +kernel
theorem d_M_enable_6 : decode b_M_enable 6 = .ok (.iload_n 1, 1) := by decide +kernel
theorem d_M_enable_7 : decode b_M_enable 7 = .ok (.invokevirtual 75, 3) := by decide +kernel
theorem d_M_enable_10 : decode b_M_enable 10 = .ok (.ifCond .ne 6, 3) := by decide +kernel
theorem d_M_enable_13 : decode b_M_enable 13 = .ok (.bipush 27, 2) := by decide +kernel
theorem d_M_enable_15 : decode b_M_enable 15 = .ok (.ireturn, 1) := by decide +kernel
theorem d_M_enable_16 : decode b_M_enable 16 = .ok (.aload_n 0, 1) := by decide +kernel
theorem d_M_enable_17 : decode b_M_enable 17 = .ok (.getfield 17, 3) := by decide +kernel
theorem d_M_enable_20 : decode b_M_enable 20 = .ok (.iload_n 1, 1) := by decide +kernel
theorem d_M_enable_21 : decode b_M_enable 21 = .ok (.iload_n 2, 1) := by decide +kernel
theorem d_M_enable_22 : decode b_M_enable 22 = .ok (.bastore, 1) := by decide +kernel
theorem d_M_enable_23 : decode b_M_enable 23 = .ok (.aload_n 0, 1) := by decide +kernel
theorem d_M_enable_24 : decode b_M_enable 24 = .ok (.getfield 38, 3) := by decide +kernel
theorem d_M_enable_27 : decode b_M_enable 27 = .ok (.iload_n 1, 1) := by decide +kernel
theorem d_M_enable_28 : decode b_M_enable 28 = .ok (.iconst 0, 1) := by decide +kernel
theorem d_M_enable_29 : decode b_M_enable 29 = .ok (.iastore, 1) := by decide +kernel
theorem d_M_enable_30 : decode b_M_enable 30 = .ok (.iconst 0, 1) := by decide +kernel
theorem d_M_enable_31 : decode b_M_enable 31 = .ok (.ireturn, 1) := by decide +kernel
abbrev b_M_waits : ByteArray := prog_8_method_10_code
theorem d_M_waits_0 : decode b_M_waits 0 = .ok (.aload_n 0, 1) := by decide +kernel
theorem d_M_waits_1 : decode b_M_waits 1 = .ok (.getfield 79, 3) := by decide +kernel
theorem d_M_waits_4 : decode b_M_waits 4 = .ok (.bipush 64, 2) := by decide +kernel
theorem d_M_waits_6 : decode b_M_waits 6 = .ok (.if_icmp .ne 15, 3) := by decide +kernel
theorem d_M_waits_9 : decode b_M_waits 9 = .ok (.aload_n 0, 1) := by decide +kernel
theorem d_M_waits_10 : decode b_M_waits 10 = .ok (.dup, 1) := by decide +kernel
theorem d_M_waits_11 : decode b_M_waits 11 = .ok (.getfield 82, 3) := by decide +kernel
theorem d_M_waits_14 : decode b_M_waits 14 = .ok (.iconst 1, 1) := by decide +kernel
theorem d_M_waits_15 : decode b_M_waits 15 = .ok (.iadd, 1) := by decide +kernel
theorem d_M_waits_16 : decode b_M_waits 16 = .ok (.putfield 82, 3) := by decide +kernel
theorem d_M_waits_19 : decode b_M_waits 19 = .ok (.iconst 0, 1) := by decide +kernel
theorem d_M_waits_20 : decode b_M_waits 20 = .ok (.ireturn, 1) := by decide +kernel
theorem d_M_waits_21 : decode b_M_waits 21 = .ok (.aload_n 0, 1) := by decide +kernel
theorem d_M_waits_22 : decode b_M_waits 22 = .ok (.getfield 41, 3) := by decide +kernel
theorem d_M_waits_25 : decode b_M_waits 25 = .ok (.aload_n 0, 1) := by decide +kernel
theorem d_M_waits_26 : decode b_M_waits 26 = .ok (.getfield 79, 3) := by decide +kernel
theorem d_M_waits_29 : decode b_M_waits 29 = .ok (.iload_n 1, 1) := by decide +kernel
theorem d_M_waits_30 : decode b_M_waits 30 = .ok (.iastore, 1) := by decide +kernel
theorem d_M_waits_31 : decode b_M_waits 31 = .ok (.aload_n 0, 1) := by decide +kernel
theorem d_M_waits_32 : decode b_M_waits 32 = .ok (.getfield 44, 3) := by decide +kernel
theorem d_M_waits_35 : decode b_M_waits 35 = .ok (.aload_n 0, 1) := by decide +kernel
theorem d_M_waits_36 : decode b_M_waits 36 = .ok (.getfield 79, 3) := by decide +kernel
theorem d_M_waits_39 : decode b_M_waits 39 = .ok (.iload_n 2, 1) := by decide +kernel
theorem d_M_waits_40 : decode b_M_waits 40 = .ok (.iastore, 1) := by decide +kernel
theorem d_M_waits_41 : decode b_M_waits 41 = .ok (.aload_n 0, 1) := by decide +kernel
theorem d_M_waits_42 : decode b_M_waits 42 = .ok (.dup, 1) := by decide +kernel
theorem d_M_waits_43 : decode b_M_waits 43 = .ok (.getfield 79, 3) := by decide +kernel
theorem d_M_waits_46 : decode b_M_waits 46 = .ok (.iconst 1, 1) := by decide +kernel
theorem d_M_waits_47 : decode b_M_waits 47 = .ok (.iadd, 1) := by decide +kernel
theorem d_M_waits_48 : decode b_M_waits 48 = .ok (.putfield 79, 3) := by decide +kernel
theorem d_M_waits_51 : decode b_M_waits 51 = .ok (.iconst 1, 1) := by decide +kernel
theorem d_M_waits_52 : decode b_M_waits 52 = .ok (.ireturn, 1) := by decide +kernel
abbrev b_M_watch : ByteArray := prog_8_method_11_code
theorem d_M_watch_0 : decode b_M_watch 0 = .ok (.aload_n 0, 1) := by decide +kernel
theorem d_M_watch_1 : decode b_M_watch 1 = .ok (.iconst 0, 1) := by decide +kernel
theorem d_M_watch_2 : decode b_M_watch 2 = .ok (.putfield 63, 3) := by decide +kernel
theorem d_M_watch_5 : decode b_M_watch 5 = .ok (.iconst 0, 1) := by decide +kernel
theorem d_M_watch_6 : decode b_M_watch 6 = .ok (.istore_n 1, 1) := by decide +kernel
theorem d_M_watch_7 : decode b_M_watch 7 = .ok (.aload_n 0, 1) := by decide +kernel
theorem d_M_watch_8 : decode b_M_watch 8 = .ok (.iconst 0, 1) := by decide +kernel
theorem d_M_watch_9 : decode b_M_watch 9 = .ok (.putfield 85, 3) := by decide +kernel
theorem d_M_watch_12 : decode b_M_watch 12 = .ok (.iconst 0, 1) := by decide +kernel
theorem d_M_watch_13 : decode b_M_watch 13 = .ok (.istore_n 2, 1) := by decide +kernel
theorem d_M_watch_14 : decode b_M_watch 14 = .ok (.iload_n 2, 1) := by decide +kernel
theorem d_M_watch_15 : decode b_M_watch 15 = .ok (.sipush 256, 3) := by decide +kernel
theorem d_M_watch_18 : decode b_M_watch 18 = .ok (.if_icmp .ge 132, 3) := by decide +kernel
theorem d_M_watch_21 : decode b_M_watch 21 = .ok (.aload_n 0, 1) := by decide +kernel
theorem d_M_watch_22 : decode b_M_watch 22 = .ok (.getfield 7, 3) := by decide +kernel
theorem d_M_watch_25 : decode b_M_watch 25 = .ok (.aload_n 0, 1) := by decide +kernel
theorem d_M_watch_26 : decode b_M_watch 26 = .ok (.getfield 23, 3) := by decide +kernel
theorem d_M_watch_29 : decode b_M_watch 29 = .ok (.iload_n 2, 1) := by decide +kernel
theorem d_M_watch_30 : decode b_M_watch 30 = .ok (.iaload, 1) := by decide +kernel
theorem d_M_watch_31 : decode b_M_watch 31 = .ok (.iaload, 1) := by decide +kernel
theorem d_M_watch_32 : decode b_M_watch 32 = .ok (.istore_n 3, 1) := by decide +kernel
theorem d_M_watch_33 : decode b_M_watch 33 = .ok (.aload_n 0, 1) := by decide +kernel
theorem d_M_watch_34 : decode b_M_watch 34 = .ok (.getfield 13, 3) := by decide +kernel
theorem d_M_watch_37 : decode b_M_watch 37 = .ok (.iload_n 2, 1) := by decide +kernel
theorem d_M_watch_38 : decode b_M_watch 38 = .ok (.baload, 1) := by decide +kernel
theorem d_M_watch_39 : decode b_M_watch 39 = .ok (.ifCond .eq 105, 3) := by decide +kernel
theorem d_M_watch_42 : decode b_M_watch 42 = .ok (.aload_n 0, 1) := by decide +kernel
theorem d_M_watch_43 : decode b_M_watch 43 = .ok (.getfield 17, 3) := by decide +kernel
theorem d_M_watch_46 : decode b_M_watch 46 = .ok (.iload_n 2, 1) := by decide +kernel
theorem d_M_watch_47 : decode b_M_watch 47 = .ok (.baload, 1) := by decide +kernel
theorem d_M_watch_48 : decode b_M_watch 48 = .ok (.ifCond .eq 96, 3) := by decide +kernel
theorem d_M_watch_51 : decode b_M_watch 51 = .ok (.aload_n 0, 1) := by decide +kernel
theorem d_M_watch_52 : decode b_M_watch 52 = .ok (.getfield 38, 3) := by decide +kernel
theorem d_M_watch_55 : decode b_M_watch 55 = .ok (.iload_n 2, 1) := by decide +kernel
theorem d_M_watch_56 : decode b_M_watch 56 = .ok (.iload_n 3, 1) := by decide +kernel
theorem d_M_watch_57 : decode b_M_watch 57 = .ok (.aload_n 0, 1) := by decide +kernel
theorem d_M_watch_58 : decode b_M_watch 58 = .ok (.getfield 29, 3) := by decide +kernel
theorem d_M_watch_61 : decode b_M_watch 61 = .ok (.iload_n 2, 1) := by decide +kernel
theorem d_M_watch_62 : decode b_M_watch 62 = .ok (.iaload, 1) := by decide +kernel
theorem d_M_watch_63 : decode b_M_watch 63 = .ok (.aload_n 0, 1) := by decide +kernel
theorem d_M_watch_64 : decode b_M_watch 64 = .ok (.getfield 32, 3) := by decide +kernel
theorem d_M_watch_67 : decode b_M_watch 67 = .ok (.iload_n 2, 1) := by decide +kernel
theorem d_M_watch_68 : decode b_M_watch 68 = .ok (.iaload, 1) := by decide +kernel
theorem d_M_watch_69 : decode b_M_watch 69 = .ok (.invokestatic 67, 3) := by decide +kernel
theorem d_M_watch_72 : decode b_M_watch 72 = .ok (.ifCond .eq 7, 3) := by decide +kernel
theorem d_M_watch_75 : decode b_M_watch 75 = .ok (.iconst 0, 1) := by decide +kernel
theorem d_M_watch_76 : decode b_M_watch 76 = .ok (.goto 11, 3) := by decide +kernel
theorem d_M_watch_79 : decode b_M_watch 79 = .ok (.aload_n 0, 1) := by decide +kernel
theorem d_M_watch_80 : decode b_M_watch 80 = .ok (.getfield 38, 3) := by decide +kernel
theorem d_M_watch_83 : decode b_M_watch 83 = .ok (.iload_n 2, 1) := by decide +kernel
theorem d_M_watch_84 : decode b_M_watch 84 = .ok (.iaload, 1) := by decide +kernel
theorem d_M_watch_85 : decode b_M_watch 85 = .ok (.iconst 1, 1) := by decide +kernel
theorem d_M_watch_86 : decode b_M_watch 86 = .ok (.iadd, 1) := by decide +kernel
theorem d_M_watch_87 : decode b_M_watch 87 = .ok (.iastore, 1) := by decide +kernel
theorem d_M_watch_88 : decode b_M_watch 88 = .ok (.aload_n 0, 1) := by decide +kernel
theorem d_M_watch_89 : decode b_M_watch 89 = .ok (.getfield 38, 3) := by decide +kernel
theorem d_M_watch_92 : decode b_M_watch 92 = .ok (.iload_n 2, 1) := by decide +kernel
theorem d_M_watch_93 : decode b_M_watch 93 = .ok (.iaload, 1) := by decide +kernel
theorem d_M_watch_94 : decode b_M_watch 94 = .ok (.aload_n 0, 1) := by decide +kernel
theorem d_M_watch_95 : decode b_M_watch 95 = .ok (.getfield 26, 3) := by decide +kernel
theorem d_M_watch_98 : decode b_M_watch 98 = .ok (.iload_n 2, 1) := by decide +kernel
theorem d_M_watch_99 : decode b_M_watch 99 = .ok (.iaload, 1) := by decide +kernel
theorem d_M_watch_100 : decode b_M_watch 100 = .ok (.if_icmp .ne 44, 3) := by decide +kernel
theorem d_M_watch_103 : decode b_M_watch 103 = .ok (.aload_n 0, 1) := by decide +kernel
theorem d_M_watch_104 : decode b_M_watch 104 = .ok (.aload_n 0, 1) := by decide +kernel
theorem d_M_watch_105 : decode b_M_watch 105 = .ok (.getfield 35, 3) := by decide +kernel
theorem d_M_watch_108 : decode b_M_watch 108 = .ok (.iload_n 2, 1) := by decide +kernel
theorem d_M_watch_109 : decode b_M_watch 109 = .ok (.iaload, 1) := by decide +kernel
theorem d_M_watch_110 : decode b_M_watch 110 = .ok (.iload_n 3, 1) := by decide +kernel
theorem d_M_watch_111 : decode b_M_watch 111 = .ok (.invokevirtual 89, 3) := by decide +kernel
theorem d_M_watch_114 : decode b_M_watch 114 = .ok (.istore 4, 2) := by decide +kernel
theorem d_M_watch_116 : decode b_M_watch 116 = .ok (.aload_n 0, 1) := by decide +kernel
theorem d_M_watch_117 : decode b_M_watch 117 = .ok (.aload_n 0, 1) := by decide +kernel
theorem d_M_watch_118 : decode b_M_watch 118 = .ok (.getfield 85, 3) := by decide +kernel
theorem d_M_watch_121 : decode b_M_watch 121 = .ok (.ifCond .ne 12, 3) := by decide +kernel
theorem d_M_watch_124 : decode b_M_watch 124 = .ok (.aload_n 0, 1) := by decide +kernel
theorem d_M_watch_125 : decode b_M_watch 125 = .ok (.getfield 20, 3) := by decide +kernel
theorem d_M_watch_128 : decode b_M_watch 128 = .ok (.iload_n 2, 1) := by decide +kernel
theorem d_M_watch_129 : decode b_M_watch 129 = .ok (.baload, 1) := by decide +kernel
theorem d_M_watch_130 : decode b_M_watch 130 = .ok (.ifCond .eq 7, 3) := by decide +kernel
theorem d_M_watch_133 : decode b_M_watch 133 = .ok (.iconst 1, 1) := by decide +kernel
theorem d_M_watch_134 : decode b_M_watch 134 = .ok (.goto 4, 3) := by decide +kernel
theorem d_M_watch_137 : decode b_M_watch 137 = .ok (.iconst 0, 1) := by decide +kernel
theorem d_M_watch_138 : decode b_M_watch 138 = .ok (.putfield 85, 3) := by decide +kernel
theorem d_M_watch_141 : decode b_M_watch 141 = .ok (.iinc 1 1, 3) := by decide +kernel
theorem d_M_watch_144 : decode b_M_watch 144 = .ok (.iinc 2 1, 3) := by decide +kernel
theorem d_M_watch_147 : decode b_M_watch 147 = .ok (.goto (-133), 3) := by decide +kernel
theorem d_M_watch_150 : decode b_M_watch 150 = .ok (.aload_n 0, 1) := by decide +kernel
theorem d_M_watch_151 : decode b_M_watch 151 = .ok (.dup, 1) := by decide +kernel
theorem d_M_watch_152 : decode b_M_watch 152 = .ok (.getfield 93, 3) := by decide +kernel
theorem d_M_watch_155 : decode b_M_watch 155 = .ok (.iload_n 1, 1) := by decide +kernel
theorem d_M_watch_156 : decode b_M_watch 156 = .ok (.iadd, 1) := by decide +kernel
theorem d_M_watch_157 : decode b_M_watch 157 = .ok (.putfield 93, 3) := by decide +kernel
theorem d_M_watch_160 : decode b_M_watch 160 = .ok (.iload_n 1, 1) := by decide +kernel
theorem d_M_watch_161 : decode b_M_watch 161 = .ok (.ireturn, 1) := by decide +kernel
abbrev b_M_linked : ByteArray := prog_8_method_12_code
theorem d_M_linked_0 : decode b_M_linked 0 = .ok (.aload_n 0, 1) := by decide +kernel
theorem d_M_linked_1 : decode b_M_linked 1 = .ok (.iconst 0, 1) := by decide +kernel
theorem d_M_linked_2 : decode b_M_linked 2 = .ok (.putfield 63, 3) := by decide +kernel
theorem d_M_linked_5 : decode b_M_linked 5 = .ok (.aload_n 0, 1) := by decide +kernel
theorem d_M_linked_6 : decode b_M_linked 6 = .ok (.getfield 85, 3) := by decide +kernel
theorem d_M_linked_9 : decode b_M_linked 9 = .ok (.ireturn, 1) := by decide +kernel
abbrev b_M_isEvent : ByteArray := prog_8_method_13_code
theorem d_M_isEvent_0 : decode b_M_isEvent 0 = .ok (.iload_n 0, 1) := by decide +kernel
theorem d_M_isEvent_1 : decode b_M_isEvent 1 = .ok (.iconst 0, 1) := by decide +kernel
theorem d_M_isEvent_2 : decode b_M_isEvent 2 = .ok (.bipush 31, 2) := by decide +kernel
theorem d_M_isEvent_4 : decode b_M_isEvent 4 = .ok (.invokestatic 67, 3) := by decide +kernel
theorem d_M_isEvent_7 : decode b_M_isEvent 7 = .ok (.ireturn, 1) := by decide +kernel
abbrev b_M_raise : ByteArray := prog_8_method_14_code
theorem d_M_raise_0 : decode b_M_raise 0 = .ok (.aload_n 0, 1) := by decide +kernel
theorem d_M_raise_1 : decode b_M_raise 1 = .ok (.iconst 0, 1) := by decide +kernel
theorem d_M_raise_2 : decode b_M_raise 2 = .ok (.putfield 63, 3) := by decide +kernel
theorem d_M_raise_5 : decode b_M_raise 5 = .ok (.iload_n 1, 1) := by decide +kernel
theorem d_M_raise_6 : decode b_M_raise 6 = .ok (.invokestatic 96, 3) := by decide +kernel
theorem d_M_raise_9 : decode b_M_raise 9 = .ok (.ifCond .eq 16, 3) := by decide +kernel
theorem d_M_raise_12 : decode b_M_raise 12 = .ok (.aload_n 0, 1) := by decide +kernel
theorem d_M_raise_13 : decode b_M_raise 13 = .ok (.iload_n 1, 1) := by decide +kernel
theorem d_M_raise_14 : decode b_M_raise 14 = .ok (.iload_n 2, 1) := by decide +kernel
theorem d_M_raise_15 : decode b_M_raise 15 = .ok (.invokevirtual 89, 3) := by decide +kernel
theorem d_M_raise_18 : decode b_M_raise 18 = .ok (.ifCond .eq 7, 3) := by decide +kernel
theorem d_M_raise_21 : decode b_M_raise 21 = .ok (.iconst 1, 1) := by decide +kernel
theorem d_M_raise_22 : decode b_M_raise 22 = .ok (.goto 4, 3) := by decide +kernel
theorem d_M_raise_25 : decode b_M_raise 25 = .ok (.iconst 0, 1) := by decide +kernel
theorem d_M_raise_26 : decode b_M_raise 26 = .ok (.ireturn, 1) := by decide +kernel
abbrev b_M_work : ByteArray := prog_8_method_15_code
theorem d_M_work_0 : decode b_M_work 0 = .ok (.aload_n 0, 1) := by decide +kernel
theorem d_M_work_1 : decode b_M_work 1 = .ok (.iconst 0, 1) := by decide +kernel
theorem d_M_work_2 : decode b_M_work 2 = .ok (.putfield 63, 3) := by decide +kernel
theorem d_M_work_5 : decode b_M_work 5 = .ok (.aload_n 0, 1) := by decide +kernel
theorem d_M_work_6 : decode b_M_work 6 = .ok (.getfield 79, 3) := by decide +kernel
theorem d_M_work_9 : decode b_M_work 9 = .ok (.ifCond .ne 5, 3) := by decide +kernel
theorem d_M_work_12 : decode b_M_work 12 = .ok (.iconst (-1), 1) := by decide +kernel
theorem d_M_work_13 : decode b_M_work 13 = .ok (.ireturn, 1) := by decide +kernel
theorem d_M_work_14 : decode b_M_work 14 = .ok (.aload_n 0, 1) := by decide +kernel
theorem d_M_work_15 : decode b_M_work 15 = .ok (.getfield 41, 3) := by decide +kernel
theorem d_M_work_18 : decode b_M_work 18 = .ok (.iconst 0, 1) := by decide +kernel
theorem d_M_work_19 : decode b_M_work 19 = .ok (.iaload, 1) := by decide +kernel
theorem d_M_work_20 : decode b_M_work 20 = .ok (.istore_n 1, 1) := by decide +kernel
theorem d_M_work_21 : decode b_M_work 21 = .ok (.aload_n 0, 1) := by decide +kernel
theorem d_M_work_22 : decode b_M_work 22 = .ok (.aload_n 0, 1) := by decide +kernel
theorem d_M_work_23 : decode b_M_work 23 = .ok (.getfield 44, 3) := by decide +kernel
theorem d_M_work_26 : decode b_M_work 26 = .ok (.iconst 0, 1) := by decide +kernel
theorem d_M_work_27 : decode b_M_work 27 = .ok (.iaload, 1) := by decide +kernel
theorem d_M_work_28 : decode b_M_work 28 = .ok (.putfield 99, 3) := by decide +kernel
theorem d_M_work_31 : decode b_M_work 31 = .ok (.aload_n 0, 1) := by decide +kernel
theorem d_M_work_32 : decode b_M_work 32 = .ok (.dup, 1) := by decide +kernel
theorem d_M_work_33 : decode b_M_work 33 = .ok (.getfield 79, 3) := by decide +kernel
theorem d_M_work_36 : decode b_M_work 36 = .ok (.iconst 1, 1) := by decide +kernel
theorem d_M_work_37 : decode b_M_work 37 = .ok (.isub, 1) := by decide +kernel
theorem d_M_work_38 : decode b_M_work 38 = .ok (.putfield 79, 3) := by decide +kernel
theorem d_M_work_41 : decode b_M_work 41 = .ok (.iconst 0, 1) := by decide +kernel
theorem d_M_work_42 : decode b_M_work 42 = .ok (.istore_n 2, 1) := by decide +kernel
theorem d_M_work_43 : decode b_M_work 43 = .ok (.iload_n 2, 1) := by decide +kernel
theorem d_M_work_44 : decode b_M_work 44 = .ok (.aload_n 0, 1) := by decide +kernel
theorem d_M_work_45 : decode b_M_work 45 = .ok (.getfield 79, 3) := by decide +kernel
theorem d_M_work_48 : decode b_M_work 48 = .ok (.if_icmp .ge 37, 3) := by decide +kernel
theorem d_M_work_51 : decode b_M_work 51 = .ok (.aload_n 0, 1) := by decide +kernel
theorem d_M_work_52 : decode b_M_work 52 = .ok (.getfield 41, 3) := by decide +kernel
theorem d_M_work_55 : decode b_M_work 55 = .ok (.iload_n 2, 1) := by decide +kernel
theorem d_M_work_56 : decode b_M_work 56 = .ok (.aload_n 0, 1) := by decide +kernel
theorem d_M_work_57 : decode b_M_work 57 = .ok (.getfield 41, 3) := by decide +kernel
theorem d_M_work_60 : decode b_M_work 60 = .ok (.iload_n 2, 1) := by decide +kernel
theorem d_M_work_61 : decode b_M_work 61 = .ok (.iconst 1, 1) := by decide +kernel
theorem d_M_work_62 : decode b_M_work 62 = .ok (.iadd, 1) := by decide +kernel
theorem d_M_work_63 : decode b_M_work 63 = .ok (.iaload, 1) := by decide +kernel
theorem d_M_work_64 : decode b_M_work 64 = .ok (.iastore, 1) := by decide +kernel
theorem d_M_work_65 : decode b_M_work 65 = .ok (.aload_n 0, 1) := by decide +kernel
theorem d_M_work_66 : decode b_M_work 66 = .ok (.getfield 44, 3) := by decide +kernel
theorem d_M_work_69 : decode b_M_work 69 = .ok (.iload_n 2, 1) := by decide +kernel
theorem d_M_work_70 : decode b_M_work 70 = .ok (.aload_n 0, 1) := by decide +kernel
theorem d_M_work_71 : decode b_M_work 71 = .ok (.getfield 44, 3) := by decide +kernel
theorem d_M_work_74 : decode b_M_work 74 = .ok (.iload_n 2, 1) := by decide +kernel
theorem d_M_work_75 : decode b_M_work 75 = .ok (.iconst 1, 1) := by decide +kernel
theorem d_M_work_76 : decode b_M_work 76 = .ok (.iadd, 1) := by decide +kernel
theorem d_M_work_77 : decode b_M_work 77 = .ok (.iaload, 1) := by decide +kernel
theorem d_M_work_78 : decode b_M_work 78 = .ok (.iastore, 1) := by decide +kernel
theorem d_M_work_79 : decode b_M_work 79 = .ok (.iinc 2 1, 3) := by decide +kernel
theorem d_M_work_82 : decode b_M_work 82 = .ok (.goto (-39), 3) := by decide +kernel
theorem d_M_work_85 : decode b_M_work 85 = .ok (.iload_n 1, 1) := by decide +kernel
theorem d_M_work_86 : decode b_M_work 86 = .ok (.ireturn, 1) := by decide +kernel
abbrev b_M_lose : ByteArray := prog_8_method_16_code
theorem d_M_lose_0 : decode b_M_lose 0 = .ok (.aload_n 0, 1) := by decide +kernel
theorem d_M_lose_1 : decode b_M_lose 1 = .ok (.iconst 0, 1) := by decide +kernel
theorem d_M_lose_2 : decode b_M_lose 2 = .ok (.putfield 63, 3) := by decide +kernel
theorem d_M_lose_5 : decode b_M_lose 5 = .ok (.aload_n 0, 1) := by decide +kernel
theorem d_M_lose_6 : decode b_M_lose 6 = .ok (.getfield 79, 3) := by decide +kernel
theorem d_M_lose_9 : decode b_M_lose 9 = .ok (.istore_n 1, 1) := by decide +kernel
theorem d_M_lose_10 : decode b_M_lose 10 = .ok (.aload_n 0, 1) := by decide +kernel
theorem d_M_lose_11 : decode b_M_lose 11 = .ok (.iconst 0, 1) := by decide +kernel
theorem d_M_lose_12 : decode b_M_lose 12 = .ok (.putfield 79, 3) := by decide +kernel
theorem d_M_lose_15 : decode b_M_lose 15 = .ok (.aload_n 0, 1) := by decide +kernel
theorem d_M_lose_16 : decode b_M_lose 16 = .ok (.dup, 1) := by decide +kernel
theorem d_M_lose_17 : decode b_M_lose 17 = .ok (.getfield 82, 3) := by decide +kernel
theorem d_M_lose_20 : decode b_M_lose 20 = .ok (.iload_n 1, 1) := by decide +kernel
theorem d_M_lose_21 : decode b_M_lose 21 = .ok (.iadd, 1) := by decide +kernel
theorem d_M_lose_22 : decode b_M_lose 22 = .ok (.putfield 82, 3) := by decide +kernel
theorem d_M_lose_25 : decode b_M_lose 25 = .ok (.iload_n 1, 1) := by decide +kernel
theorem d_M_lose_26 : decode b_M_lose 26 = .ok (.ireturn, 1) := by decide +kernel
abbrev b_M_tell : ByteArray := prog_8_method_17_code
theorem d_M_tell_0 : decode b_M_tell 0 = .ok (.aload_n 0, 1) := by decide +kernel
theorem d_M_tell_1 : decode b_M_tell 1 = .ok (.iconst 0, 1) := by decide +kernel
theorem d_M_tell_2 : decode b_M_tell 2 = .ok (.putfield 63, 3) := by decide +kernel
theorem d_M_tell_5 : decode b_M_tell 5 = .ok (.iload_n 1, 1) := by decide +kernel
theorem d_M_tell_6 : decode b_M_tell 6 = .ok (.invokestatic 96, 3) := by decide +kernel
theorem d_M_tell_9 : decode b_M_tell 9 = .ok (.ifCond .ne 6, 3) := by decide +kernel
theorem d_M_tell_12 : decode b_M_tell 12 = .ok (.bipush 16, 2) := by decide +kernel
theorem d_M_tell_14 : decode b_M_tell 14 = .ok (.ireturn, 1) := by decide +kernel
theorem d_M_tell_15 : decode b_M_tell 15 = .ok (.aload_n 0, 1) := by decide +kernel
theorem d_M_tell_16 : decode b_M_tell 16 = .ok (.getfield 47, 3) := by decide +kernel
theorem d_M_tell_19 : decode b_M_tell 19 = .ok (.iload_n 1, 1) := by decide +kernel
theorem d_M_tell_20 : decode b_M_tell 20 = .ok (.iload_n 2, 1) := by decide +kernel
theorem d_M_tell_21 : decode b_M_tell 21 = .ok (.ifCond .ne 7, 3) := by decide +kernel
theorem d_M_tell_24 : decode b_M_tell 24 = .ok (.iconst 1, 1) := by decide +kernel
theorem d_M_tell_25 : decode b_M_tell 25 = .ok (.goto 4, 3) := by decide +kernel
theorem d_M_tell_28 : decode b_M_tell 28 = .ok (.iconst 0, 1) := by decide +kernel
theorem d_M_tell_29 : decode b_M_tell 29 = .ok (.bastore, 1) := by decide +kernel
theorem d_M_tell_30 : decode b_M_tell 30 = .ok (.iconst 0, 1) := by decide +kernel
theorem d_M_tell_31 : decode b_M_tell 31 = .ok (.ireturn, 1) := by decide +kernel
abbrev b_M_put : ByteArray := prog_8_method_18_code
theorem d_M_put_0 : decode b_M_put 0 = .ok (.aload_n 0, 1) := by decide +kernel
theorem d_M_put_1 : decode b_M_put 1 = .ok (.iconst 0, 1) := by decide +kernel
theorem d_M_put_2 : decode b_M_put 2 = .ok (.putfield 63, 3) := by decide +kernel
theorem d_M_put_5 : decode b_M_put 5 = .ok (.aload_n 0, 1) := by decide +kernel
theorem d_M_put_6 : decode b_M_put 6 = .ok (.getfield 102, 3) := by decide +kernel
theorem d_M_put_9 : decode b_M_put 9 = .ok (.sipush 256, 3) := by decide +kernel
theorem d_M_put_12 : decode b_M_put 12 = .ok (.if_icmp .ne 5, 3) := by decide +kernel
theorem d_M_put_15 : decode b_M_put 15 = .ok (.iconst (-1), 1) := by decide +kernel
theorem d_M_put_16 : decode b_M_put 16 = .ok (.ireturn, 1) := by decide +kernel
theorem d_M_put_17 : decode b_M_put 17 = .ok (.aload_n 0, 1) := by decide +kernel
theorem d_M_put_18 : decode b_M_put 18 = .ok (.getfield 60, 3) := by decide +kernel
theorem d_M_put_21 : decode b_M_put 21 = .ok (.aload_n 0, 1) := by decide +kernel
theorem d_M_put_22 : decode b_M_put 22 = .ok (.getfield 102, 3) := by decide +kernel
theorem d_M_put_25 : decode b_M_put 25 = .ok (.iload_n 1, 1) := by decide +kernel
theorem d_M_put_26 : decode b_M_put 26 = .ok (.i2b, 1) := by decide +kernel
theorem d_M_put_27 : decode b_M_put 27 = .ok (.bastore, 1) := by decide +kernel
theorem d_M_put_28 : decode b_M_put 28 = .ok (.aload_n 0, 1) := by decide +kernel
theorem d_M_put_29 : decode b_M_put 29 = .ok (.dup, 1) := by decide +kernel
theorem d_M_put_30 : decode b_M_put 30 = .ok (.getfield 102, 3) := by decide +kernel
theorem d_M_put_33 : decode b_M_put 33 = .ok (.iconst 1, 1) := by decide +kernel
theorem d_M_put_34 : decode b_M_put 34 = .ok (.iadd, 1) := by decide +kernel
theorem d_M_put_35 : decode b_M_put 35 = .ok (.putfield 102, 3) := by decide +kernel
theorem d_M_put_38 : decode b_M_put 38 = .ok (.aload_n 0, 1) := by decide +kernel
theorem d_M_put_39 : decode b_M_put 39 = .ok (.getfield 102, 3) := by decide +kernel
theorem d_M_put_42 : decode b_M_put 42 = .ok (.ireturn, 1) := by decide +kernel
abbrev b_M_act : ByteArray := prog_8_method_19_code
theorem d_M_act_0 : decode b_M_act 0 = .ok (.aload_n 0, 1) := by decide +kernel
theorem d_M_act_1 : decode b_M_act 1 = .ok (.iconst 0, 1) := by decide +kernel
theorem d_M_act_2 : decode b_M_act 2 = .ok (.putfield 63, 3) := by decide +kernel
theorem d_M_act_5 : decode b_M_act 5 = .ok (.aload_n 0, 1) := by decide +kernel
theorem d_M_act_6 : decode b_M_act 6 = .ok (.getfield 102, 3) := by decide +kernel
theorem d_M_act_9 : decode b_M_act 9 = .ok (.istore_n 2, 1) := by decide +kernel
theorem d_M_act_10 : decode b_M_act 10 = .ok (.aload_n 0, 1) := by decide +kernel
theorem d_M_act_11 : decode b_M_act 11 = .ok (.iconst 0, 1) := by decide +kernel
theorem d_M_act_12 : decode b_M_act 12 = .ok (.putfield 102, 3) := by decide +kernel
theorem d_M_act_15 : decode b_M_act 15 = .ok (.iload_n 1, 1) := by decide +kernel
theorem d_M_act_16 : decode b_M_act 16 = .ok (.invokestatic 96, 3) := by decide +kernel
theorem d_M_act_19 : decode b_M_act 19 = .ok (.ifCond .eq 16, 3) := by decide +kernel
theorem d_M_act_22 : decode b_M_act 22 = .ok (.iload_n 2, 1) := by decide +kernel
theorem d_M_act_23 : decode b_M_act 23 = .ok (.ifCond .eq 12, 3) := by decide +kernel
theorem d_M_act_26 : decode b_M_act 26 = .ok (.aload_n 0, 1) := by decide +kernel
theorem d_M_act_27 : decode b_M_act 27 = .ok (.getfield 50, 3) := by decide +kernel
theorem d_M_act_30 : decode b_M_act 30 = .ok (.iload_n 1, 1) := by decide +kernel
theorem d_M_act_31 : decode b_M_act 31 = .ok (.iaload, 1) := by decide +kernel
theorem d_M_act_32 : decode b_M_act 32 = .ok (.ifCond .le 27, 3) := by decide +kernel
theorem d_M_act_35 : decode b_M_act 35 = .ok (.iload_n 1, 1) := by decide +kernel
theorem d_M_act_36 : decode b_M_act 36 = .ok (.invokestatic 96, 3) := by decide +kernel
theorem d_M_act_39 : decode b_M_act 39 = .ok (.ifCond .ne 8, 3) := by decide +kernel
theorem d_M_act_42 : decode b_M_act 42 = .ok (.bipush 16, 2) := by decide +kernel
theorem d_M_act_44 : decode b_M_act 44 = .ok (.goto 14, 3) := by decide +kernel
theorem d_M_act_47 : decode b_M_act 47 = .ok (.iload_n 2, 1) := by decide +kernel
theorem d_M_act_48 : decode b_M_act 48 = .ok (.ifCond .ne 8, 3) := by decide +kernel
theorem d_M_act_51 : decode b_M_act 51 = .ok (.bipush 22, 2) := by decide +kernel
theorem d_M_act_53 : decode b_M_act 53 = .ok (.goto 5, 3) := by decide +kernel
theorem d_M_act_56 : decode b_M_act 56 = .ok (.bipush 29, 2) := by decide +kernel
theorem d_M_act_58 : decode b_M_act 58 = .ok (.ireturn, 1) := by decide +kernel
theorem d_M_act_59 : decode b_M_act 59 = .ok (.aload_n 0, 1) := by decide +kernel
theorem d_M_act_60 : decode b_M_act 60 = .ok (.getfield 50, 3) := by decide +kernel
theorem d_M_act_63 : decode b_M_act 63 = .ok (.iload_n 1, 1) := by decide +kernel
theorem d_M_act_64 : decode b_M_act 64 = .ok (.iload_n 2, 1) := by decide +kernel
theorem d_M_act_65 : decode b_M_act 65 = .ok (.iastore, 1) := by decide +kernel
theorem d_M_act_66 : decode b_M_act 66 = .ok (.aload_n 0, 1) := by decide +kernel
theorem d_M_act_67 : decode b_M_act 67 = .ok (.getfield 53, 3) := by decide +kernel
theorem d_M_act_70 : decode b_M_act 70 = .ok (.iload_n 1, 1) := by decide +kernel
theorem d_M_act_71 : decode b_M_act 71 = .ok (.iconst 0, 1) := by decide +kernel
theorem d_M_act_72 : decode b_M_act 72 = .ok (.bastore, 1) := by decide +kernel
theorem d_M_act_73 : decode b_M_act 73 = .ok (.iconst 0, 1) := by decide +kernel
theorem d_M_act_74 : decode b_M_act 74 = .ok (.istore_n 3, 1) := by decide +kernel
theorem d_M_act_75 : decode b_M_act 75 = .ok (.iload_n 3, 1) := by decide +kernel
theorem d_M_act_76 : decode b_M_act 76 = .ok (.iload_n 2, 1) := by decide +kernel
theorem d_M_act_77 : decode b_M_act 77 = .ok (.if_icmp .ge 27, 3) := by decide +kernel
theorem d_M_act_80 : decode b_M_act 80 = .ok (.aload_n 0, 1) := by decide +kernel
theorem d_M_act_81 : decode b_M_act 81 = .ok (.getfield 56, 3) := by decide +kernel
theorem d_M_act_84 : decode b_M_act 84 = .ok (.sipush 256, 3) := by decide +kernel
theorem d_M_act_87 : decode b_M_act 87 = .ok (.iload_n 1, 1) := by decide +kernel
theorem d_M_act_88 : decode b_M_act 88 = .ok (.imul, 1) := by decide +kernel
theorem d_M_act_89 : decode b_M_act 89 = .ok (.iload_n 3, 1) := by decide +kernel
theorem d_M_act_90 : decode b_M_act 90 = .ok (.iadd, 1) := by decide +kernel
theorem d_M_act_91 : decode b_M_act 91 = .ok (.aload_n 0, 1) := by decide +kernel
theorem d_M_act_92 : decode b_M_act 92 = .ok (.getfield 60, 3) := by decide +kernel
theorem d_M_act_95 : decode b_M_act 95 = .ok (.iload_n 3, 1) := by decide +kernel
theorem d_M_act_96 : decode b_M_act 96 = .ok (.baload, 1) := by decide +kernel
theorem d_M_act_97 : decode b_M_act 97 = .ok (.bastore, 1) := by decide +kernel
theorem d_M_act_98 : decode b_M_act 98 = .ok (.iinc 3 1, 3) := by decide +kernel
theorem d_M_act_101 : decode b_M_act 101 = .ok (.goto (-26), 3) := by decide +kernel
theorem d_M_act_104 : decode b_M_act 104 = .ok (.iconst 0, 1) := by decide +kernel
theorem d_M_act_105 : decode b_M_act 105 = .ok (.ireturn, 1) := by decide +kernel
abbrev b_M_drop : ByteArray := prog_8_method_20_code
theorem d_M_drop_0 : decode b_M_drop 0 = .ok (.aload_n 0, 1) := by decide +kernel
theorem d_M_drop_1 : decode b_M_drop 1 = .ok (.iconst 0, 1) := by decide +kernel
theorem d_M_drop_2 : decode b_M_drop 2 = .ok (.putfield 63, 3) := by decide +kernel
theorem d_M_drop_5 : decode b_M_drop 5 = .ok (.iload_n 1, 1) := by decide +kernel
theorem d_M_drop_6 : decode b_M_drop 6 = .ok (.invokestatic 96, 3) := by decide +kernel
theorem d_M_drop_9 : decode b_M_drop 9 = .ok (.ifCond .eq 21, 3) := by decide +kernel
theorem d_M_drop_12 : decode b_M_drop 12 = .ok (.aload_n 0, 1) := by decide +kernel
theorem d_M_drop_13 : decode b_M_drop 13 = .ok (.getfield 50, 3) := by decide +kernel
theorem d_M_drop_16 : decode b_M_drop 16 = .ok (.iload_n 1, 1) := by decide +kernel
theorem d_M_drop_17 : decode b_M_drop 17 = .ok (.iaload, 1) := by decide +kernel
theorem d_M_drop_18 : decode b_M_drop 18 = .ok (.ifCond .eq 12, 3) := by decide +kernel
theorem d_M_drop_21 : decode b_M_drop 21 = .ok (.aload_n 0, 1) := by decide +kernel
theorem d_M_drop_22 : decode b_M_drop 22 = .ok (.getfield 53, 3) := by decide +kernel
theorem d_M_drop_25 : decode b_M_drop 25 = .ok (.iload_n 1, 1) := by decide +kernel
theorem d_M_drop_26 : decode b_M_drop 26 = .ok (.baload, 1) := by decide +kernel
theorem d_M_drop_27 : decode b_M_drop 27 = .ok (.ifCond .eq 32, 3) := by decide +kernel
theorem d_M_drop_30 : decode b_M_drop 30 = .ok (.iload_n 1, 1) := by decide +kernel
theorem d_M_drop_31 : decode b_M_drop 31 = .ok (.invokestatic 96, 3) := by decide +kernel
theorem d_M_drop_34 : decode b_M_drop 34 = .ok (.ifCond .ne 8, 3) := by decide +kernel
theorem d_M_drop_37 : decode b_M_drop 37 = .ok (.bipush 16, 2) := by decide +kernel
theorem d_M_drop_39 : decode b_M_drop 39 = .ok (.goto 19, 3) := by decide +kernel
theorem d_M_drop_42 : decode b_M_drop 42 = .ok (.aload_n 0, 1) := by decide +kernel
theorem d_M_drop_43 : decode b_M_drop 43 = .ok (.getfield 50, 3) := by decide +kernel
theorem d_M_drop_46 : decode b_M_drop 46 = .ok (.iload_n 1, 1) := by decide +kernel
theorem d_M_drop_47 : decode b_M_drop 47 = .ok (.iaload, 1) := by decide +kernel
theorem d_M_drop_48 : decode b_M_drop 48 = .ok (.ifCond .ne 8, 3) := by decide +kernel
theorem d_M_drop_51 : decode b_M_drop 51 = .ok (.bipush 30, 2) := by decide +kernel
theorem d_M_drop_53 : decode b_M_drop 53 = .ok (.goto 5, 3) := by decide +kernel
theorem d_M_drop_56 : decode b_M_drop 56 = .ok (.bipush 15, 2) := by decide +kernel
theorem d_M_drop_58 : decode b_M_drop 58 = .ok (.ireturn, 1) := by decide +kernel
theorem d_M_drop_59 : decode b_M_drop 59 = .ok (.aload_n 0, 1) := by decide +kernel
theorem d_M_drop_60 : decode b_M_drop 60 = .ok (.getfield 50, 3) := by decide +kernel
theorem d_M_drop_63 : decode b_M_drop 63 = .ok (.iload_n 1, 1) := by decide +kernel
theorem d_M_drop_64 : decode b_M_drop 64 = .ok (.iconst 0, 1) := by decide +kernel
theorem d_M_drop_65 : decode b_M_drop 65 = .ok (.iastore, 1) := by decide +kernel
theorem d_M_drop_66 : decode b_M_drop 66 = .ok (.iconst 0, 1) := by decide +kernel
theorem d_M_drop_67 : decode b_M_drop 67 = .ok (.ireturn, 1) := by decide +kernel
abbrev b_M_arm : ByteArray := prog_8_method_21_code
theorem d_M_arm_0 : decode b_M_arm 0 = .ok (.aload_n 0, 1) := by decide +kernel
theorem d_M_arm_1 : decode b_M_arm 1 = .ok (.iconst 0, 1) := by decide +kernel
theorem d_M_arm_2 : decode b_M_arm 2 = .ok (.putfield 63, 3) := by decide +kernel
theorem d_M_arm_5 : decode b_M_arm 5 = .ok (.iload_n 1, 1) := by decide +kernel
theorem d_M_arm_6 : decode b_M_arm 6 = .ok (.invokestatic 96, 3) := by decide +kernel
theorem d_M_arm_9 : decode b_M_arm 9 = .ok (.ifCond .eq 12, 3) := by decide +kernel
theorem d_M_arm_12 : decode b_M_arm 12 = .ok (.aload_n 0, 1) := by decide +kernel
theorem d_M_arm_13 : decode b_M_arm 13 = .ok (.getfield 50, 3) := by decide +kernel
theorem d_M_arm_16 : decode b_M_arm 16 = .ok (.iload_n 1, 1) := by decide +kernel
theorem d_M_arm_17 : decode b_M_arm 17 = .ok (.iaload, 1) := by decide +kernel
theorem d_M_arm_18 : decode b_M_arm 18 = .ok (.ifCond .ne 18, 3) := by decide +kernel
theorem d_M_arm_21 : decode b_M_arm 21 = .ok (.iload_n 1, 1) := by decide +kernel
theorem d_M_arm_22 : decode b_M_arm 22 = .ok (.invokestatic 96, 3) := by decide +kernel
theorem d_M_arm_25 : decode b_M_arm 25 = .ok (.ifCond .ne 8, 3) := by decide +kernel
theorem d_M_arm_28 : decode b_M_arm 28 = .ok (.bipush 16, 2) := by decide +kernel
theorem d_M_arm_30 : decode b_M_arm 30 = .ok (.goto 5, 3) := by decide +kernel
theorem d_M_arm_33 : decode b_M_arm 33 = .ok (.bipush 30, 2) := by decide +kernel
theorem d_M_arm_35 : decode b_M_arm 35 = .ok (.ireturn, 1) := by decide +kernel
theorem d_M_arm_36 : decode b_M_arm 36 = .ok (.aload_n 0, 1) := by decide +kernel
theorem d_M_arm_37 : decode b_M_arm 37 = .ok (.getfield 53, 3) := by decide +kernel
theorem d_M_arm_40 : decode b_M_arm 40 = .ok (.iload_n 1, 1) := by decide +kernel
theorem d_M_arm_41 : decode b_M_arm 41 = .ok (.iload_n 2, 1) := by decide +kernel
theorem d_M_arm_42 : decode b_M_arm 42 = .ok (.bastore, 1) := by decide +kernel
theorem d_M_arm_43 : decode b_M_arm 43 = .ok (.iconst 0, 1) := by decide +kernel
theorem d_M_arm_44 : decode b_M_arm 44 = .ok (.ireturn, 1) := by decide +kernel
abbrev b_M_limit : ByteArray := prog_8_method_22_code
theorem d_M_limit_0 : decode b_M_limit 0 = .ok (.aload_n 0, 1) := by decide +kernel
theorem d_M_limit_1 : decode b_M_limit 1 = .ok (.iconst 0, 1) := by decide +kernel
theorem d_M_limit_2 : decode b_M_limit 2 = .ok (.putfield 63, 3) := by decide +kernel
theorem d_M_limit_5 : decode b_M_limit 5 = .ok (.aload_n 0, 1) := by decide +kernel
theorem d_M_limit_6 : decode b_M_limit 6 = .ok (.iload_n 1, 1) := by decide +kernel
theorem d_M_limit_7 : decode b_M_limit 7 = .ok (.invokevirtual 75, 3) := by decide +kernel
theorem d_M_limit_10 : decode b_M_limit 10 = .ok (.ifCond .ne 5, 3) := by decide +kernel
theorem d_M_limit_13 : decode b_M_limit 13 = .ok (.iconst (-1), 1) := by decide +kernel
theorem d_M_limit_14 : decode b_M_limit 14 = .ok (.ireturn, 1) := by decide +kernel
theorem d_M_limit_15 : decode b_M_limit 15 = .ok (.iload_n 2, 1) := by decide +kernel
theorem d_M_limit_16 : decode b_M_limit 16 = .ok (.tableswitch 98 0 5 #[40, 55, 62, 69, 76, 83], 40) := by decide +kernel
theorem d_M_limit_56 : decode b_M_limit 56 = .ok (.aload_n 0, 1) := by decide +kernel
theorem d_M_limit_57 : decode b_M_limit 57 = .ok (.getfield 17, 3) := by decide +kernel
theorem d_M_limit_60 : decode b_M_limit 60 = .ok (.iload_n 1, 1) := by decide +kernel
theorem d_M_limit_61 : decode b_M_limit 61 = .ok (.baload, 1) := by decide +kernel
theorem d_M_limit_62 : decode b_M_limit 62 = .ok (.ifCond .eq 7, 3) := by decide +kernel
theorem d_M_limit_65 : decode b_M_limit 65 = .ok (.iconst 1, 1) := by decide +kernel
theorem d_M_limit_66 : decode b_M_limit 66 = .ok (.goto 4, 3) := by decide +kernel
theorem d_M_limit_69 : decode b_M_limit 69 = .ok (.iconst 0, 1) := by decide +kernel
theorem d_M_limit_70 : decode b_M_limit 70 = .ok (.ireturn, 1) := by decide +kernel
theorem d_M_limit_71 : decode b_M_limit 71 = .ok (.aload_n 0, 1) := by decide +kernel
theorem d_M_limit_72 : decode b_M_limit 72 = .ok (.getfield 38, 3) := by decide +kernel
theorem d_M_limit_75 : decode b_M_limit 75 = .ok (.iload_n 1, 1) := by decide +kernel
theorem d_M_limit_76 : decode b_M_limit 76 = .ok (.iaload, 1) := by decide +kernel
theorem d_M_limit_77 : decode b_M_limit 77 = .ok (.ireturn, 1) := by decide +kernel
theorem d_M_limit_78 : decode b_M_limit 78 = .ok (.aload_n 0, 1) := by decide +kernel
theorem d_M_limit_79 : decode b_M_limit 79 = .ok (.getfield 23, 3) := by decide +kernel
theorem d_M_limit_82 : decode b_M_limit 82 = .ok (.iload_n 1, 1) := by decide +kernel
theorem d_M_limit_83 : decode b_M_limit 83 = .ok (.iaload, 1) := by decide +kernel
theorem d_M_limit_84 : decode b_M_limit 84 = .ok (.ireturn, 1) := by decide +kernel
theorem d_M_limit_85 : decode b_M_limit 85 = .ok (.aload_n 0, 1) := by decide +kernel
theorem d_M_limit_86 : decode b_M_limit 86 = .ok (.getfield 26, 3) := by decide +kernel
theorem d_M_limit_89 : decode b_M_limit 89 = .ok (.iload_n 1, 1) := by decide +kernel
theorem d_M_limit_90 : decode b_M_limit 90 = .ok (.iaload, 1) := by decide +kernel
theorem d_M_limit_91 : decode b_M_limit 91 = .ok (.ireturn, 1) := by decide +kernel
theorem d_M_limit_92 : decode b_M_limit 92 = .ok (.aload_n 0, 1) := by decide +kernel
theorem d_M_limit_93 : decode b_M_limit 93 = .ok (.getfield 35, 3) := by decide +kernel
theorem d_M_limit_96 : decode b_M_limit 96 = .ok (.iload_n 1, 1) := by decide +kernel
theorem d_M_limit_97 : decode b_M_limit 97 = .ok (.iaload, 1) := by decide +kernel
theorem d_M_limit_98 : decode b_M_limit 98 = .ok (.ireturn, 1) := by decide +kernel
theorem d_M_limit_99 : decode b_M_limit 99 = .ok (.aload_n 0, 1) := by decide +kernel
theorem d_M_limit_100 : decode b_M_limit 100 = .ok (.getfield 20, 3) := by decide +kernel
theorem d_M_limit_103 : decode b_M_limit 103 = .ok (.iload_n 1, 1) := by decide +kernel
theorem d_M_limit_104 : decode b_M_limit 104 = .ok (.baload, 1) := by decide +kernel
theorem d_M_limit_105 : decode b_M_limit 105 = .ok (.ifCond .eq 7, 3) := by decide +kernel
theorem d_M_limit_108 : decode b_M_limit 108 = .ok (.iconst 1, 1) := by decide +kernel
theorem d_M_limit_109 : decode b_M_limit 109 = .ok (.goto 4, 3) := by decide +kernel
theorem d_M_limit_112 : decode b_M_limit 112 = .ok (.iconst 0, 1) := by decide +kernel
theorem d_M_limit_113 : decode b_M_limit 113 = .ok (.ireturn, 1) := by decide +kernel
theorem d_M_limit_114 : decode b_M_limit 114 = .ok (.iconst (-1), 1) := by decide +kernel
theorem d_M_limit_115 : decode b_M_limit 115 = .ok (.ireturn, 1) := by decide +kernel
abbrev b_M_event : ByteArray := prog_8_method_23_code
theorem d_M_event_0 : decode b_M_event 0 = .ok (.aload_n 0, 1) := by decide +kernel
theorem d_M_event_1 : decode b_M_event 1 = .ok (.iconst 0, 1) := by decide +kernel
theorem d_M_event_2 : decode b_M_event 2 = .ok (.putfield 63, 3) := by decide +kernel
theorem d_M_event_5 : decode b_M_event 5 = .ok (.iload_n 1, 1) := by decide +kernel
theorem d_M_event_6 : decode b_M_event 6 = .ok (.invokestatic 96, 3) := by decide +kernel
theorem d_M_event_9 : decode b_M_event 9 = .ok (.ifCond .ne 5, 3) := by decide +kernel
theorem d_M_event_12 : decode b_M_event 12 = .ok (.iconst (-1), 1) := by decide +kernel
theorem d_M_event_13 : decode b_M_event 13 = .ok (.ireturn, 1) := by decide +kernel
theorem d_M_event_14 : decode b_M_event 14 = .ok (.iload_n 2, 1) := by decide +kernel
theorem d_M_event_15 : decode b_M_event 15 = .ok (.ifCond .ne 20, 3) := by decide +kernel
theorem d_M_event_18 : decode b_M_event 18 = .ok (.aload_n 0, 1) := by decide +kernel
theorem d_M_event_19 : decode b_M_event 19 = .ok (.getfield 47, 3) := by decide +kernel
theorem d_M_event_22 : decode b_M_event 22 = .ok (.iload_n 1, 1) := by decide +kernel
theorem d_M_event_23 : decode b_M_event 23 = .ok (.baload, 1) := by decide +kernel
theorem d_M_event_24 : decode b_M_event 24 = .ok (.ifCond .eq 7, 3) := by decide +kernel
theorem d_M_event_27 : decode b_M_event 27 = .ok (.iconst 0, 1) := by decide +kernel
theorem d_M_event_28 : decode b_M_event 28 = .ok (.goto 53, 3) := by decide +kernel
theorem d_M_event_31 : decode b_M_event 31 = .ok (.iconst 1, 1) := by decide +kernel
theorem d_M_event_32 : decode b_M_event 32 = .ok (.goto 49, 3) := by decide +kernel
theorem d_M_event_35 : decode b_M_event 35 = .ok (.iload_n 2, 1) := by decide +kernel
theorem d_M_event_36 : decode b_M_event 36 = .ok (.iconst 1, 1) := by decide +kernel
theorem d_M_event_37 : decode b_M_event 37 = .ok (.if_icmp .ne 12, 3) := by decide +kernel
theorem d_M_event_40 : decode b_M_event 40 = .ok (.aload_n 0, 1) := by decide +kernel
theorem d_M_event_41 : decode b_M_event 41 = .ok (.getfield 50, 3) := by decide +kernel
theorem d_M_event_44 : decode b_M_event 44 = .ok (.iload_n 1, 1) := by decide +kernel
theorem d_M_event_45 : decode b_M_event 45 = .ok (.iaload, 1) := by decide +kernel
theorem d_M_event_46 : decode b_M_event 46 = .ok (.goto 35, 3) := by decide +kernel
theorem d_M_event_49 : decode b_M_event 49 = .ok (.iload_n 2, 1) := by decide +kernel
theorem d_M_event_50 : decode b_M_event 50 = .ok (.iconst 2, 1) := by decide +kernel
theorem d_M_event_51 : decode b_M_event 51 = .ok (.if_icmp .ne 29, 3) := by decide +kernel
theorem d_M_event_54 : decode b_M_event 54 = .ok (.aload_n 0, 1) := by decide +kernel
theorem d_M_event_55 : decode b_M_event 55 = .ok (.getfield 50, 3) := by decide +kernel
theorem d_M_event_58 : decode b_M_event 58 = .ok (.iload_n 1, 1) := by decide +kernel
theorem d_M_event_59 : decode b_M_event 59 = .ok (.iaload, 1) := by decide +kernel
theorem d_M_event_60 : decode b_M_event 60 = .ok (.ifCond .le 16, 3) := by decide +kernel
theorem d_M_event_63 : decode b_M_event 63 = .ok (.aload_n 0, 1) := by decide +kernel
theorem d_M_event_64 : decode b_M_event 64 = .ok (.getfield 53, 3) := by decide +kernel
theorem d_M_event_67 : decode b_M_event 67 = .ok (.iload_n 1, 1) := by decide +kernel
theorem d_M_event_68 : decode b_M_event 68 = .ok (.baload, 1) := by decide +kernel
theorem d_M_event_69 : decode b_M_event 69 = .ok (.ifCond .eq 7, 3) := by decide +kernel
theorem d_M_event_72 : decode b_M_event 72 = .ok (.iconst 1, 1) := by decide +kernel
theorem d_M_event_73 : decode b_M_event 73 = .ok (.goto 8, 3) := by decide +kernel
theorem d_M_event_76 : decode b_M_event 76 = .ok (.iconst 0, 1) := by decide +kernel
theorem d_M_event_77 : decode b_M_event 77 = .ok (.goto 4, 3) := by decide +kernel
theorem d_M_event_80 : decode b_M_event 80 = .ok (.iconst (-1), 1) := by decide +kernel
theorem d_M_event_81 : decode b_M_event 81 = .ok (.ireturn, 1) := by decide +kernel
abbrev b_M_actionAt : ByteArray := prog_8_method_24_code
theorem d_M_actionAt_0 : decode b_M_actionAt 0 = .ok (.aload_n 0, 1) := by decide +kernel
theorem d_M_actionAt_1 : decode b_M_actionAt 1 = .ok (.iconst 0, 1) := by decide +kernel
theorem d_M_actionAt_2 : decode b_M_actionAt 2 = .ok (.putfield 63, 3) := by decide +kernel
theorem d_M_actionAt_5 : decode b_M_actionAt 5 = .ok (.iload_n 1, 1) := by decide +kernel
theorem d_M_actionAt_6 : decode b_M_actionAt 6 = .ok (.invokestatic 96, 3) := by decide +kernel
theorem d_M_actionAt_9 : decode b_M_actionAt 9 = .ok (.ifCond .eq 36, 3) := by decide +kernel
theorem d_M_actionAt_12 : decode b_M_actionAt 12 = .ok (.iload_n 2, 1) := by decide +kernel
theorem d_M_actionAt_13 : decode b_M_actionAt 13 = .ok (.ifCond .lt 32, 3) := by decide +kernel
theorem d_M_actionAt_16 : decode b_M_actionAt 16 = .ok (.iload_n 2, 1) := by decide +kernel
theorem d_M_actionAt_17 : decode b_M_actionAt 17 = .ok (.aload_n 0, 1) := by decide +kernel
theorem d_M_actionAt_18 : decode b_M_actionAt 18 = .ok (.getfield 50, 3) := by decide +kernel
theorem d_M_actionAt_21 : decode b_M_actionAt 21 = .ok (.iload_n 1, 1) := by decide +kernel
theorem d_M_actionAt_22 : decode b_M_actionAt 22 = .ok (.iaload, 1) := by decide +kernel
theorem d_M_actionAt_23 : decode b_M_actionAt 23 = .ok (.if_icmp .ge 22, 3) := by decide +kernel
theorem d_M_actionAt_26 : decode b_M_actionAt 26 = .ok (.aload_n 0, 1) := by decide +kernel
theorem d_M_actionAt_27 : decode b_M_actionAt 27 = .ok (.getfield 56, 3) := by decide +kernel
theorem d_M_actionAt_30 : decode b_M_actionAt 30 = .ok (.sipush 256, 3) := by decide +kernel
theorem d_M_actionAt_33 : decode b_M_actionAt 33 = .ok (.iload_n 1, 1) := by decide +kernel
theorem d_M_actionAt_34 : decode b_M_actionAt 34 = .ok (.imul, 1) := by decide +kernel
theorem d_M_actionAt_35 : decode b_M_actionAt 35 = .ok (.iload_n 2, 1) := by decide +kernel
theorem d_M_actionAt_36 : decode b_M_actionAt 36 = .ok (.iadd, 1) := by decide +kernel
theorem d_M_actionAt_37 : decode b_M_actionAt 37 = .ok (.baload, 1) := by decide +kernel
theorem d_M_actionAt_38 : decode b_M_actionAt 38 = .ok (.sipush 255, 3) := by decide +kernel
theorem d_M_actionAt_41 : decode b_M_actionAt 41 = .ok (.iand, 1) := by decide +kernel
theorem d_M_actionAt_42 : decode b_M_actionAt 42 = .ok (.goto 4, 3) := by decide +kernel
theorem d_M_actionAt_45 : decode b_M_actionAt 45 = .ok (.iconst (-1), 1) := by decide +kernel
theorem d_M_actionAt_46 : decode b_M_actionAt 46 = .ok (.ireturn, 1) := by decide +kernel
abbrev b_M_count : ByteArray := prog_8_method_25_code
theorem d_M_count_0 : decode b_M_count 0 = .ok (.aload_n 0, 1) := by decide +kernel
theorem d_M_count_1 : decode b_M_count 1 = .ok (.iconst 0, 1) := by decide +kernel
theorem d_M_count_2 : decode b_M_count 2 = .ok (.putfield 63, 3) := by decide +kernel
theorem d_M_count_5 : decode b_M_count 5 = .ok (.iload_n 1, 1) := by decide +kernel
theorem d_M_count_6 : decode b_M_count 6 = .ok (.ifCond .ne 10, 3) := by decide +kernel
theorem d_M_count_9 : decode b_M_count 9 = .ok (.aload_n 0, 1) := by decide +kernel
theorem d_M_count_10 : decode b_M_count 10 = .ok (.invokevirtual 71, 3) := by decide +kernel
theorem d_M_count_13 : decode b_M_count 13 = .ok (.goto 52, 3) := by decide +kernel
theorem d_M_count_16 : decode b_M_count 16 = .ok (.iload_n 1, 1) := by decide +kernel
theorem d_M_count_17 : decode b_M_count 17 = .ok (.iconst 1, 1) := by decide +kernel
theorem d_M_count_18 : decode b_M_count 18 = .ok (.if_icmp .ne 10, 3) := by decide +kernel
theorem d_M_count_21 : decode b_M_count 21 = .ok (.aload_n 0, 1) := by decide +kernel
theorem d_M_count_22 : decode b_M_count 22 = .ok (.getfield 93, 3) := by decide +kernel
theorem d_M_count_25 : decode b_M_count 25 = .ok (.goto 40, 3) := by decide +kernel
theorem d_M_count_28 : decode b_M_count 28 = .ok (.iload_n 1, 1) := by decide +kernel
theorem d_M_count_29 : decode b_M_count 29 = .ok (.iconst 2, 1) := by decide +kernel
theorem d_M_count_30 : decode b_M_count 30 = .ok (.if_icmp .ne 10, 3) := by decide +kernel
theorem d_M_count_33 : decode b_M_count 33 = .ok (.aload_n 0, 1) := by decide +kernel
theorem d_M_count_34 : decode b_M_count 34 = .ok (.getfield 79, 3) := by decide +kernel
theorem d_M_count_37 : decode b_M_count 37 = .ok (.goto 28, 3) := by decide +kernel
theorem d_M_count_40 : decode b_M_count 40 = .ok (.iload_n 1, 1) := by decide +kernel
theorem d_M_count_41 : decode b_M_count 41 = .ok (.iconst 3, 1) := by decide +kernel
theorem d_M_count_42 : decode b_M_count 42 = .ok (.if_icmp .ne 10, 3) := by decide +kernel
theorem d_M_count_45 : decode b_M_count 45 = .ok (.aload_n 0, 1) := by decide +kernel
theorem d_M_count_46 : decode b_M_count 46 = .ok (.getfield 82, 3) := by decide +kernel
theorem d_M_count_49 : decode b_M_count 49 = .ok (.goto 16, 3) := by decide +kernel
theorem d_M_count_52 : decode b_M_count 52 = .ok (.iload_n 1, 1) := by decide +kernel
theorem d_M_count_53 : decode b_M_count 53 = .ok (.iconst 4, 1) := by decide +kernel
theorem d_M_count_54 : decode b_M_count 54 = .ok (.if_icmp .ne 10, 3) := by decide +kernel
theorem d_M_count_57 : decode b_M_count 57 = .ok (.aload_n 0, 1) := by decide +kernel
theorem d_M_count_58 : decode b_M_count 58 = .ok (.getfield 99, 3) := by decide +kernel
theorem d_M_count_61 : decode b_M_count 61 = .ok (.goto 4, 3) := by decide +kernel
theorem d_M_count_64 : decode b_M_count 64 = .ok (.iconst (-1), 1) := by decide +kernel
theorem d_M_count_65 : decode b_M_count 65 = .ok (.ireturn, 1) := by decide +kernel
end
section
-- ===== rows that decode the law =====
theorem d_law_law_0 : decode code 0 = .ok (.new 7, 3) := by decide +kernel
theorem d_law_law_3 : decode code 3 = .ok (.dup, 1) := by decide +kernel
theorem d_law_law_4 : decode code 4 = .ok (.invokespecial 9, 3) := by decide +kernel
theorem d_law_law_7 : decode code 7 = .ok (.astore_n 1, 1) := by decide +kernel
theorem d_law_law_8 : decode code 8 = .ok (.new 10, 3) := by decide +kernel
theorem d_law_law_11 : decode code 11 = .ok (.dup, 1) := by decide +kernel
theorem d_law_law_12 : decode code 12 = .ok (.invokespecial 12, 3) := by decide +kernel
theorem d_law_law_15 : decode code 15 = .ok (.astore_n 2, 1) := by decide +kernel
theorem d_law_law_16 : decode code 16 = .ok (.iconst 0, 1) := by decide +kernel
theorem d_law_law_17 : decode code 17 = .ok (.istore_n 3, 1) := by decide +kernel
theorem d_law_law_18 : decode code 18 = .ok (.iload_n 3, 1) := by decide +kernel
theorem d_law_law_19 : decode code 19 = .ok (.aload_n 0, 1) := by decide +kernel
theorem d_law_law_20 : decode code 20 = .ok (.arraylength, 1) := by decide +kernel
theorem d_law_law_21 : decode code 21 = .ok (.bipush 8, 2) := by decide +kernel
theorem d_law_law_23 : decode code 23 = .ok (.isub, 1) := by decide +kernel
theorem d_law_law_24 : decode code 24 = .ok (.if_icmp .gt 684, 3) := by decide +kernel
theorem d_law_law_27 : decode code 27 = .ok (.aload_n 0, 1) := by decide +kernel
theorem d_law_law_28 : decode code 28 = .ok (.iload_n 3, 1) := by decide +kernel
theorem d_law_law_29 : decode code 29 = .ok (.iaload, 1) := by decide +kernel
theorem d_law_law_30 : decode code 30 = .ok (.bipush 31, 2) := by decide +kernel
theorem d_law_law_32 : decode code 32 = .ok (.iand, 1) := by decide +kernel
theorem d_law_law_33 : decode code 33 = .ok (.tableswitch 669 0 17 #[87, 120, 223, 246, 295, 308, 321, 354, 367, 380, 429, 452, 475, 498, 547, 580, 613, 646], 87) := by decide +kernel
theorem d_law_law_120 : decode code 120 = .ok (.aload_n 1, 1) := by decide +kernel
theorem d_law_law_121 : decode code 121 = .ok (.aload_n 0, 1) := by decide +kernel
theorem d_law_law_122 : decode code 122 = .ok (.iload_n 3, 1) := by decide +kernel
theorem d_law_law_123 : decode code 123 = .ok (.iconst 1, 1) := by decide +kernel
theorem d_law_law_124 : decode code 124 = .ok (.iadd, 1) := by decide +kernel
theorem d_law_law_125 : decode code 125 = .ok (.iaload, 1) := by decide +kernel
theorem d_law_law_126 : decode code 126 = .ok (.aload_n 0, 1) := by decide +kernel
theorem d_law_law_127 : decode code 127 = .ok (.iload_n 3, 1) := by decide +kernel
theorem d_law_law_128 : decode code 128 = .ok (.iconst 2, 1) := by decide +kernel
theorem d_law_law_129 : decode code 129 = .ok (.iadd, 1) := by decide +kernel
theorem d_law_law_130 : decode code 130 = .ok (.iaload, 1) := by decide +kernel
theorem d_law_law_131 : decode code 131 = .ok (.invokevirtual 13, 3) := by decide +kernel
theorem d_law_law_134 : decode code 134 = .ok (.aload_n 2, 1) := by decide +kernel
theorem d_law_law_135 : decode code 135 = .ok (.aload_n 0, 1) := by decide +kernel
theorem d_law_law_136 : decode code 136 = .ok (.iload_n 3, 1) := by decide +kernel
theorem d_law_law_137 : decode code 137 = .ok (.iconst 1, 1) := by decide +kernel
theorem d_law_law_138 : decode code 138 = .ok (.iadd, 1) := by decide +kernel
theorem d_law_law_139 : decode code 139 = .ok (.iaload, 1) := by decide +kernel
theorem d_law_law_140 : decode code 140 = .ok (.aload_n 0, 1) := by decide +kernel
theorem d_law_law_141 : decode code 141 = .ok (.iload_n 3, 1) := by decide +kernel
theorem d_law_law_142 : decode code 142 = .ok (.iconst 2, 1) := by decide +kernel
theorem d_law_law_143 : decode code 143 = .ok (.iadd, 1) := by decide +kernel
theorem d_law_law_144 : decode code 144 = .ok (.iaload, 1) := by decide +kernel
theorem d_law_law_145 : decode code 145 = .ok (.invokevirtual 17, 3) := by decide +kernel
theorem d_law_law_148 : decode code 148 = .ok (.if_icmp .eq 554, 3) := by decide +kernel
theorem d_law_law_151 : decode code 151 = .ok (.iconst 0, 1) := by decide +kernel
theorem d_law_law_152 : decode code 152 = .ok (.ireturn, 1) := by decide +kernel
theorem d_law_law_153 : decode code 153 = .ok (.aload_n 1, 1) := by decide +kernel
theorem d_law_law_154 : decode code 154 = .ok (.aload_n 0, 1) := by decide +kernel
theorem d_law_law_155 : decode code 155 = .ok (.iload_n 3, 1) := by decide +kernel
theorem d_law_law_156 : decode code 156 = .ok (.iconst 1, 1) := by decide +kernel
theorem d_law_law_157 : decode code 157 = .ok (.iadd, 1) := by decide +kernel
theorem d_law_law_158 : decode code 158 = .ok (.iaload, 1) := by decide +kernel
theorem d_law_law_159 : decode code 159 = .ok (.aload_n 0, 1) := by decide +kernel
theorem d_law_law_160 : decode code 160 = .ok (.iload_n 3, 1) := by decide +kernel
theorem d_law_law_161 : decode code 161 = .ok (.iconst 2, 1) := by decide +kernel
theorem d_law_law_162 : decode code 162 = .ok (.iadd, 1) := by decide +kernel
theorem d_law_law_163 : decode code 163 = .ok (.iaload, 1) := by decide +kernel
theorem d_law_law_164 : decode code 164 = .ok (.aload_n 0, 1) := by decide +kernel
theorem d_law_law_165 : decode code 165 = .ok (.iload_n 3, 1) := by decide +kernel
theorem d_law_law_166 : decode code 166 = .ok (.iconst 3, 1) := by decide +kernel
theorem d_law_law_167 : decode code 167 = .ok (.iadd, 1) := by decide +kernel
theorem d_law_law_168 : decode code 168 = .ok (.iaload, 1) := by decide +kernel
theorem d_law_law_169 : decode code 169 = .ok (.aload_n 0, 1) := by decide +kernel
theorem d_law_law_170 : decode code 170 = .ok (.iload_n 3, 1) := by decide +kernel
theorem d_law_law_171 : decode code 171 = .ok (.iconst 4, 1) := by decide +kernel
theorem d_law_law_172 : decode code 172 = .ok (.iadd, 1) := by decide +kernel
theorem d_law_law_173 : decode code 173 = .ok (.iaload, 1) := by decide +kernel
theorem d_law_law_174 : decode code 174 = .ok (.aload_n 0, 1) := by decide +kernel
theorem d_law_law_175 : decode code 175 = .ok (.iload_n 3, 1) := by decide +kernel
theorem d_law_law_176 : decode code 176 = .ok (.iconst 5, 1) := by decide +kernel
theorem d_law_law_177 : decode code 177 = .ok (.iadd, 1) := by decide +kernel
theorem d_law_law_178 : decode code 178 = .ok (.iaload, 1) := by decide +kernel
theorem d_law_law_179 : decode code 179 = .ok (.aload_n 0, 1) := by decide +kernel
theorem d_law_law_180 : decode code 180 = .ok (.iload_n 3, 1) := by decide +kernel
theorem d_law_law_181 : decode code 181 = .ok (.bipush 6, 2) := by decide +kernel
theorem d_law_law_183 : decode code 183 = .ok (.iadd, 1) := by decide +kernel
theorem d_law_law_184 : decode code 184 = .ok (.iaload, 1) := by decide +kernel
theorem d_law_law_185 : decode code 185 = .ok (.aload_n 0, 1) := by decide +kernel
theorem d_law_law_186 : decode code 186 = .ok (.iload_n 3, 1) := by decide +kernel
theorem d_law_law_187 : decode code 187 = .ok (.bipush 7, 2) := by decide +kernel
theorem d_law_law_189 : decode code 189 = .ok (.iadd, 1) := by decide +kernel
theorem d_law_law_190 : decode code 190 = .ok (.iaload, 1) := by decide +kernel
theorem d_law_law_191 : decode code 191 = .ok (.ifCond .eq 7, 3) := by decide +kernel
theorem d_law_law_194 : decode code 194 = .ok (.iconst 1, 1) := by decide +kernel
theorem d_law_law_195 : decode code 195 = .ok (.goto 4, 3) := by decide +kernel
theorem d_law_law_198 : decode code 198 = .ok (.iconst 0, 1) := by decide +kernel
theorem d_law_law_199 : decode code 199 = .ok (.invokevirtual 18, 3) := by decide +kernel
theorem d_law_law_202 : decode code 202 = .ok (.aload_n 2, 1) := by decide +kernel
theorem d_law_law_203 : decode code 203 = .ok (.aload_n 0, 1) := by decide +kernel
theorem d_law_law_204 : decode code 204 = .ok (.iload_n 3, 1) := by decide +kernel
theorem d_law_law_205 : decode code 205 = .ok (.iconst 1, 1) := by decide +kernel
theorem d_law_law_206 : decode code 206 = .ok (.iadd, 1) := by decide +kernel
theorem d_law_law_207 : decode code 207 = .ok (.iaload, 1) := by decide +kernel
theorem d_law_law_208 : decode code 208 = .ok (.aload_n 0, 1) := by decide +kernel
theorem d_law_law_209 : decode code 209 = .ok (.iload_n 3, 1) := by decide +kernel
theorem d_law_law_210 : decode code 210 = .ok (.iconst 2, 1) := by decide +kernel
theorem d_law_law_211 : decode code 211 = .ok (.iadd, 1) := by decide +kernel
theorem d_law_law_212 : decode code 212 = .ok (.iaload, 1) := by decide +kernel
theorem d_law_law_213 : decode code 213 = .ok (.aload_n 0, 1) := by decide +kernel
theorem d_law_law_214 : decode code 214 = .ok (.iload_n 3, 1) := by decide +kernel
theorem d_law_law_215 : decode code 215 = .ok (.iconst 3, 1) := by decide +kernel
theorem d_law_law_216 : decode code 216 = .ok (.iadd, 1) := by decide +kernel
theorem d_law_law_217 : decode code 217 = .ok (.iaload, 1) := by decide +kernel
theorem d_law_law_218 : decode code 218 = .ok (.aload_n 0, 1) := by decide +kernel
theorem d_law_law_219 : decode code 219 = .ok (.iload_n 3, 1) := by decide +kernel
theorem d_law_law_220 : decode code 220 = .ok (.iconst 4, 1) := by decide +kernel
theorem d_law_law_221 : decode code 221 = .ok (.iadd, 1) := by decide +kernel
theorem d_law_law_222 : decode code 222 = .ok (.iaload, 1) := by decide +kernel
theorem d_law_law_223 : decode code 223 = .ok (.aload_n 0, 1) := by decide +kernel
theorem d_law_law_224 : decode code 224 = .ok (.iload_n 3, 1) := by decide +kernel
theorem d_law_law_225 : decode code 225 = .ok (.iconst 5, 1) := by decide +kernel
theorem d_law_law_226 : decode code 226 = .ok (.iadd, 1) := by decide +kernel
theorem d_law_law_227 : decode code 227 = .ok (.iaload, 1) := by decide +kernel
theorem d_law_law_228 : decode code 228 = .ok (.aload_n 0, 1) := by decide +kernel
theorem d_law_law_229 : decode code 229 = .ok (.iload_n 3, 1) := by decide +kernel
theorem d_law_law_230 : decode code 230 = .ok (.bipush 6, 2) := by decide +kernel
theorem d_law_law_232 : decode code 232 = .ok (.iadd, 1) := by decide +kernel
end
section
-- ===== rows that decode the law =====
theorem d_law_law_233 : decode code 233 = .ok (.iaload, 1) := by decide +kernel
theorem d_law_law_234 : decode code 234 = .ok (.aload_n 0, 1) := by decide +kernel
theorem d_law_law_235 : decode code 235 = .ok (.iload_n 3, 1) := by decide +kernel
theorem d_law_law_236 : decode code 236 = .ok (.bipush 7, 2) := by decide +kernel
theorem d_law_law_238 : decode code 238 = .ok (.iadd, 1) := by decide +kernel
theorem d_law_law_239 : decode code 239 = .ok (.iaload, 1) := by decide +kernel
theorem d_law_law_240 : decode code 240 = .ok (.ifCond .eq 7, 3) := by decide +kernel
theorem d_law_law_243 : decode code 243 = .ok (.iconst 1, 1) := by decide +kernel
theorem d_law_law_244 : decode code 244 = .ok (.goto 4, 3) := by decide +kernel
theorem d_law_law_247 : decode code 247 = .ok (.iconst 0, 1) := by decide +kernel
theorem d_law_law_248 : decode code 248 = .ok (.invokevirtual 22, 3) := by decide +kernel
theorem d_law_law_251 : decode code 251 = .ok (.if_icmp .eq 451, 3) := by decide +kernel
theorem d_law_law_254 : decode code 254 = .ok (.iconst 0, 1) := by decide +kernel
theorem d_law_law_255 : decode code 255 = .ok (.ireturn, 1) := by decide +kernel
theorem d_law_law_256 : decode code 256 = .ok (.aload_n 1, 1) := by decide +kernel
theorem d_law_law_257 : decode code 257 = .ok (.aload_n 0, 1) := by decide +kernel
theorem d_law_law_258 : decode code 258 = .ok (.iload_n 3, 1) := by decide +kernel
theorem d_law_law_259 : decode code 259 = .ok (.iconst 1, 1) := by decide +kernel
theorem d_law_law_260 : decode code 260 = .ok (.iadd, 1) := by decide +kernel
theorem d_law_law_261 : decode code 261 = .ok (.iaload, 1) := by decide +kernel
theorem d_law_law_262 : decode code 262 = .ok (.invokevirtual 23, 3) := by decide +kernel
theorem d_law_law_265 : decode code 265 = .ok (.aload_n 2, 1) := by decide +kernel
theorem d_law_law_266 : decode code 266 = .ok (.aload_n 0, 1) := by decide +kernel
theorem d_law_law_267 : decode code 267 = .ok (.iload_n 3, 1) := by decide +kernel
theorem d_law_law_268 : decode code 268 = .ok (.iconst 1, 1) := by decide +kernel
theorem d_law_law_269 : decode code 269 = .ok (.iadd, 1) := by decide +kernel
theorem d_law_law_270 : decode code 270 = .ok (.iaload, 1) := by decide +kernel
theorem d_law_law_271 : decode code 271 = .ok (.invokevirtual 27, 3) := by decide +kernel
theorem d_law_law_274 : decode code 274 = .ok (.if_icmp .eq 428, 3) := by decide +kernel
theorem d_law_law_277 : decode code 277 = .ok (.iconst 0, 1) := by decide +kernel
theorem d_law_law_278 : decode code 278 = .ok (.ireturn, 1) := by decide +kernel
theorem d_law_law_279 : decode code 279 = .ok (.aload_n 1, 1) := by decide +kernel
theorem d_law_law_280 : decode code 280 = .ok (.aload_n 0, 1) := by decide +kernel
theorem d_law_law_281 : decode code 281 = .ok (.iload_n 3, 1) := by decide +kernel
theorem d_law_law_282 : decode code 282 = .ok (.iconst 1, 1) := by decide +kernel
theorem d_law_law_283 : decode code 283 = .ok (.iadd, 1) := by decide +kernel
theorem d_law_law_284 : decode code 284 = .ok (.iaload, 1) := by decide +kernel
theorem d_law_law_285 : decode code 285 = .ok (.aload_n 0, 1) := by decide +kernel
theorem d_law_law_286 : decode code 286 = .ok (.iload_n 3, 1) := by decide +kernel
theorem d_law_law_287 : decode code 287 = .ok (.iconst 2, 1) := by decide +kernel
theorem d_law_law_288 : decode code 288 = .ok (.iadd, 1) := by decide +kernel
theorem d_law_law_289 : decode code 289 = .ok (.iaload, 1) := by decide +kernel
theorem d_law_law_290 : decode code 290 = .ok (.ifCond .eq 7, 3) := by decide +kernel
theorem d_law_law_293 : decode code 293 = .ok (.iconst 1, 1) := by decide +kernel
theorem d_law_law_294 : decode code 294 = .ok (.goto 4, 3) := by decide +kernel
theorem d_law_law_297 : decode code 297 = .ok (.iconst 0, 1) := by decide +kernel
theorem d_law_law_298 : decode code 298 = .ok (.invokevirtual 28, 3) := by decide +kernel
theorem d_law_law_301 : decode code 301 = .ok (.aload_n 2, 1) := by decide +kernel
theorem d_law_law_302 : decode code 302 = .ok (.aload_n 0, 1) := by decide +kernel
theorem d_law_law_303 : decode code 303 = .ok (.iload_n 3, 1) := by decide +kernel
theorem d_law_law_304 : decode code 304 = .ok (.iconst 1, 1) := by decide +kernel
theorem d_law_law_305 : decode code 305 = .ok (.iadd, 1) := by decide +kernel
theorem d_law_law_306 : decode code 306 = .ok (.iaload, 1) := by decide +kernel
theorem d_law_law_307 : decode code 307 = .ok (.aload_n 0, 1) := by decide +kernel
theorem d_law_law_308 : decode code 308 = .ok (.iload_n 3, 1) := by decide +kernel
theorem d_law_law_309 : decode code 309 = .ok (.iconst 2, 1) := by decide +kernel
theorem d_law_law_310 : decode code 310 = .ok (.iadd, 1) := by decide +kernel
theorem d_law_law_311 : decode code 311 = .ok (.iaload, 1) := by decide +kernel
theorem d_law_law_312 : decode code 312 = .ok (.ifCond .eq 7, 3) := by decide +kernel
theorem d_law_law_315 : decode code 315 = .ok (.iconst 1, 1) := by decide +kernel
theorem d_law_law_316 : decode code 316 = .ok (.goto 4, 3) := by decide +kernel
theorem d_law_law_319 : decode code 319 = .ok (.iconst 0, 1) := by decide +kernel
theorem d_law_law_320 : decode code 320 = .ok (.invokevirtual 32, 3) := by decide +kernel
theorem d_law_law_323 : decode code 323 = .ok (.if_icmp .eq 379, 3) := by decide +kernel
theorem d_law_law_326 : decode code 326 = .ok (.iconst 0, 1) := by decide +kernel
theorem d_law_law_327 : decode code 327 = .ok (.ireturn, 1) := by decide +kernel
theorem d_law_law_328 : decode code 328 = .ok (.aload_n 1, 1) := by decide +kernel
theorem d_law_law_329 : decode code 329 = .ok (.invokevirtual 33, 3) := by decide +kernel
theorem d_law_law_332 : decode code 332 = .ok (.aload_n 2, 1) := by decide +kernel
theorem d_law_law_333 : decode code 333 = .ok (.invokevirtual 37, 3) := by decide +kernel
theorem d_law_law_336 : decode code 336 = .ok (.if_icmp .eq 366, 3) := by decide +kernel
theorem d_law_law_339 : decode code 339 = .ok (.iconst 0, 1) := by decide +kernel
theorem d_law_law_340 : decode code 340 = .ok (.ireturn, 1) := by decide +kernel
theorem d_law_law_341 : decode code 341 = .ok (.aload_n 1, 1) := by decide +kernel
theorem d_law_law_342 : decode code 342 = .ok (.invokevirtual 38, 3) := by decide +kernel
theorem d_law_law_345 : decode code 345 = .ok (.aload_n 2, 1) := by decide +kernel
theorem d_law_law_346 : decode code 346 = .ok (.invokevirtual 42, 3) := by decide +kernel
theorem d_law_law_349 : decode code 349 = .ok (.if_icmp .eq 353, 3) := by decide +kernel
theorem d_law_law_352 : decode code 352 = .ok (.iconst 0, 1) := by decide +kernel
theorem d_law_law_353 : decode code 353 = .ok (.ireturn, 1) := by decide +kernel
theorem d_law_law_354 : decode code 354 = .ok (.aload_n 1, 1) := by decide +kernel
theorem d_law_law_355 : decode code 355 = .ok (.aload_n 0, 1) := by decide +kernel
theorem d_law_law_356 : decode code 356 = .ok (.iload_n 3, 1) := by decide +kernel
theorem d_law_law_357 : decode code 357 = .ok (.iconst 1, 1) := by decide +kernel
theorem d_law_law_358 : decode code 358 = .ok (.iadd, 1) := by decide +kernel
theorem d_law_law_359 : decode code 359 = .ok (.iaload, 1) := by decide +kernel
theorem d_law_law_360 : decode code 360 = .ok (.aload_n 0, 1) := by decide +kernel
theorem d_law_law_361 : decode code 361 = .ok (.iload_n 3, 1) := by decide +kernel
theorem d_law_law_362 : decode code 362 = .ok (.iconst 2, 1) := by decide +kernel
theorem d_law_law_363 : decode code 363 = .ok (.iadd, 1) := by decide +kernel
theorem d_law_law_364 : decode code 364 = .ok (.iaload, 1) := by decide +kernel
theorem d_law_law_365 : decode code 365 = .ok (.invokevirtual 43, 3) := by decide +kernel
theorem d_law_law_368 : decode code 368 = .ok (.aload_n 2, 1) := by decide +kernel
theorem d_law_law_369 : decode code 369 = .ok (.aload_n 0, 1) := by decide +kernel
theorem d_law_law_370 : decode code 370 = .ok (.iload_n 3, 1) := by decide +kernel
theorem d_law_law_371 : decode code 371 = .ok (.iconst 1, 1) := by decide +kernel
theorem d_law_law_372 : decode code 372 = .ok (.iadd, 1) := by decide +kernel
theorem d_law_law_373 : decode code 373 = .ok (.iaload, 1) := by decide +kernel
theorem d_law_law_374 : decode code 374 = .ok (.aload_n 0, 1) := by decide +kernel
theorem d_law_law_375 : decode code 375 = .ok (.iload_n 3, 1) := by decide +kernel
theorem d_law_law_376 : decode code 376 = .ok (.iconst 2, 1) := by decide +kernel
theorem d_law_law_377 : decode code 377 = .ok (.iadd, 1) := by decide +kernel
theorem d_law_law_378 : decode code 378 = .ok (.iaload, 1) := by decide +kernel
theorem d_law_law_379 : decode code 379 = .ok (.invokevirtual 46, 3) := by decide +kernel
theorem d_law_law_382 : decode code 382 = .ok (.if_icmp .eq 320, 3) := by decide +kernel
theorem d_law_law_385 : decode code 385 = .ok (.iconst 0, 1) := by decide +kernel
theorem d_law_law_386 : decode code 386 = .ok (.ireturn, 1) := by decide +kernel
theorem d_law_law_387 : decode code 387 = .ok (.aload_n 1, 1) := by decide +kernel
theorem d_law_law_388 : decode code 388 = .ok (.invokevirtual 47, 3) := by decide +kernel
theorem d_law_law_391 : decode code 391 = .ok (.aload_n 2, 1) := by decide +kernel
theorem d_law_law_392 : decode code 392 = .ok (.invokevirtual 50, 3) := by decide +kernel
theorem d_law_law_395 : decode code 395 = .ok (.if_icmp .eq 307, 3) := by decide +kernel
theorem d_law_law_398 : decode code 398 = .ok (.iconst 0, 1) := by decide +kernel
theorem d_law_law_399 : decode code 399 = .ok (.ireturn, 1) := by decide +kernel
theorem d_law_law_400 : decode code 400 = .ok (.aload_n 1, 1) := by decide +kernel
theorem d_law_law_401 : decode code 401 = .ok (.invokevirtual 51, 3) := by decide +kernel
theorem d_law_law_404 : decode code 404 = .ok (.aload_n 2, 1) := by decide +kernel
theorem d_law_law_405 : decode code 405 = .ok (.invokevirtual 54, 3) := by decide +kernel
theorem d_law_law_408 : decode code 408 = .ok (.if_icmp .eq 294, 3) := by decide +kernel
theorem d_law_law_411 : decode code 411 = .ok (.iconst 0, 1) := by decide +kernel
end
section
-- ===== rows that decode the law =====
theorem d_law_law_412 : decode code 412 = .ok (.ireturn, 1) := by decide +kernel
theorem d_law_law_413 : decode code 413 = .ok (.aload_n 1, 1) := by decide +kernel
theorem d_law_law_414 : decode code 414 = .ok (.aload_n 0, 1) := by decide +kernel
theorem d_law_law_415 : decode code 415 = .ok (.iload_n 3, 1) := by decide +kernel
theorem d_law_law_416 : decode code 416 = .ok (.iconst 1, 1) := by decide +kernel
theorem d_law_law_417 : decode code 417 = .ok (.iadd, 1) := by decide +kernel
theorem d_law_law_418 : decode code 418 = .ok (.iaload, 1) := by decide +kernel
theorem d_law_law_419 : decode code 419 = .ok (.aload_n 0, 1) := by decide +kernel
theorem d_law_law_420 : decode code 420 = .ok (.iload_n 3, 1) := by decide +kernel
theorem d_law_law_421 : decode code 421 = .ok (.iconst 2, 1) := by decide +kernel
theorem d_law_law_422 : decode code 422 = .ok (.iadd, 1) := by decide +kernel
theorem d_law_law_423 : decode code 423 = .ok (.iaload, 1) := by decide +kernel
theorem d_law_law_424 : decode code 424 = .ok (.ifCond .eq 7, 3) := by decide +kernel
theorem d_law_law_427 : decode code 427 = .ok (.iconst 1, 1) := by decide +kernel
theorem d_law_law_428 : decode code 428 = .ok (.goto 4, 3) := by decide +kernel
theorem d_law_law_431 : decode code 431 = .ok (.iconst 0, 1) := by decide +kernel
theorem d_law_law_432 : decode code 432 = .ok (.invokevirtual 55, 3) := by decide +kernel
theorem d_law_law_435 : decode code 435 = .ok (.aload_n 2, 1) := by decide +kernel
theorem d_law_law_436 : decode code 436 = .ok (.aload_n 0, 1) := by decide +kernel
theorem d_law_law_437 : decode code 437 = .ok (.iload_n 3, 1) := by decide +kernel
theorem d_law_law_438 : decode code 438 = .ok (.iconst 1, 1) := by decide +kernel
theorem d_law_law_439 : decode code 439 = .ok (.iadd, 1) := by decide +kernel
theorem d_law_law_440 : decode code 440 = .ok (.iaload, 1) := by decide +kernel
theorem d_law_law_441 : decode code 441 = .ok (.aload_n 0, 1) := by decide +kernel
theorem d_law_law_442 : decode code 442 = .ok (.iload_n 3, 1) := by decide +kernel
theorem d_law_law_443 : decode code 443 = .ok (.iconst 2, 1) := by decide +kernel
theorem d_law_law_444 : decode code 444 = .ok (.iadd, 1) := by decide +kernel
theorem d_law_law_445 : decode code 445 = .ok (.iaload, 1) := by decide +kernel
theorem d_law_law_446 : decode code 446 = .ok (.ifCond .eq 7, 3) := by decide +kernel
theorem d_law_law_449 : decode code 449 = .ok (.iconst 1, 1) := by decide +kernel
theorem d_law_law_450 : decode code 450 = .ok (.goto 4, 3) := by decide +kernel
theorem d_law_law_453 : decode code 453 = .ok (.iconst 0, 1) := by decide +kernel
theorem d_law_law_454 : decode code 454 = .ok (.invokevirtual 58, 3) := by decide +kernel
theorem d_law_law_457 : decode code 457 = .ok (.if_icmp .eq 245, 3) := by decide +kernel
theorem d_law_law_460 : decode code 460 = .ok (.iconst 0, 1) := by decide +kernel
theorem d_law_law_461 : decode code 461 = .ok (.ireturn, 1) := by decide +kernel
theorem d_law_law_462 : decode code 462 = .ok (.aload_n 1, 1) := by decide +kernel
theorem d_law_law_463 : decode code 463 = .ok (.aload_n 0, 1) := by decide +kernel
theorem d_law_law_464 : decode code 464 = .ok (.iload_n 3, 1) := by decide +kernel
theorem d_law_law_465 : decode code 465 = .ok (.iconst 1, 1) := by decide +kernel
theorem d_law_law_466 : decode code 466 = .ok (.iadd, 1) := by decide +kernel
theorem d_law_law_467 : decode code 467 = .ok (.iaload, 1) := by decide +kernel
theorem d_law_law_468 : decode code 468 = .ok (.invokevirtual 59, 3) := by decide +kernel
theorem d_law_law_471 : decode code 471 = .ok (.aload_n 2, 1) := by decide +kernel
theorem d_law_law_472 : decode code 472 = .ok (.aload_n 0, 1) := by decide +kernel
theorem d_law_law_473 : decode code 473 = .ok (.iload_n 3, 1) := by decide +kernel
theorem d_law_law_474 : decode code 474 = .ok (.iconst 1, 1) := by decide +kernel
theorem d_law_law_475 : decode code 475 = .ok (.iadd, 1) := by decide +kernel
theorem d_law_law_476 : decode code 476 = .ok (.iaload, 1) := by decide +kernel
theorem d_law_law_477 : decode code 477 = .ok (.invokevirtual 62, 3) := by decide +kernel
theorem d_law_law_480 : decode code 480 = .ok (.if_icmp .eq 222, 3) := by decide +kernel
theorem d_law_law_483 : decode code 483 = .ok (.iconst 0, 1) := by decide +kernel
theorem d_law_law_484 : decode code 484 = .ok (.ireturn, 1) := by decide +kernel
theorem d_law_law_485 : decode code 485 = .ok (.aload_n 1, 1) := by decide +kernel
theorem d_law_law_486 : decode code 486 = .ok (.aload_n 0, 1) := by decide +kernel
theorem d_law_law_487 : decode code 487 = .ok (.iload_n 3, 1) := by decide +kernel
theorem d_law_law_488 : decode code 488 = .ok (.iconst 1, 1) := by decide +kernel
theorem d_law_law_489 : decode code 489 = .ok (.iadd, 1) := by decide +kernel
theorem d_law_law_490 : decode code 490 = .ok (.iaload, 1) := by decide +kernel
theorem d_law_law_491 : decode code 491 = .ok (.invokevirtual 63, 3) := by decide +kernel
theorem d_law_law_494 : decode code 494 = .ok (.aload_n 2, 1) := by decide +kernel
theorem d_law_law_495 : decode code 495 = .ok (.aload_n 0, 1) := by decide +kernel
theorem d_law_law_496 : decode code 496 = .ok (.iload_n 3, 1) := by decide +kernel
theorem d_law_law_497 : decode code 497 = .ok (.iconst 1, 1) := by decide +kernel
theorem d_law_law_498 : decode code 498 = .ok (.iadd, 1) := by decide +kernel
theorem d_law_law_499 : decode code 499 = .ok (.iaload, 1) := by decide +kernel
theorem d_law_law_500 : decode code 500 = .ok (.invokevirtual 66, 3) := by decide +kernel
theorem d_law_law_503 : decode code 503 = .ok (.if_icmp .eq 199, 3) := by decide +kernel
theorem d_law_law_506 : decode code 506 = .ok (.iconst 0, 1) := by decide +kernel
theorem d_law_law_507 : decode code 507 = .ok (.ireturn, 1) := by decide +kernel
theorem d_law_law_508 : decode code 508 = .ok (.aload_n 1, 1) := by decide +kernel
theorem d_law_law_509 : decode code 509 = .ok (.aload_n 0, 1) := by decide +kernel
theorem d_law_law_510 : decode code 510 = .ok (.iload_n 3, 1) := by decide +kernel
theorem d_law_law_511 : decode code 511 = .ok (.iconst 1, 1) := by decide +kernel
theorem d_law_law_512 : decode code 512 = .ok (.iadd, 1) := by decide +kernel
theorem d_law_law_513 : decode code 513 = .ok (.iaload, 1) := by decide +kernel
theorem d_law_law_514 : decode code 514 = .ok (.invokevirtual 67, 3) := by decide +kernel
theorem d_law_law_517 : decode code 517 = .ok (.aload_n 2, 1) := by decide +kernel
theorem d_law_law_518 : decode code 518 = .ok (.aload_n 0, 1) := by decide +kernel
theorem d_law_law_519 : decode code 519 = .ok (.iload_n 3, 1) := by decide +kernel
theorem d_law_law_520 : decode code 520 = .ok (.iconst 1, 1) := by decide +kernel
theorem d_law_law_521 : decode code 521 = .ok (.iadd, 1) := by decide +kernel
theorem d_law_law_522 : decode code 522 = .ok (.iaload, 1) := by decide +kernel
theorem d_law_law_523 : decode code 523 = .ok (.invokevirtual 70, 3) := by decide +kernel
theorem d_law_law_526 : decode code 526 = .ok (.if_icmp .eq 176, 3) := by decide +kernel
theorem d_law_law_529 : decode code 529 = .ok (.iconst 0, 1) := by decide +kernel
theorem d_law_law_530 : decode code 530 = .ok (.ireturn, 1) := by decide +kernel
theorem d_law_law_531 : decode code 531 = .ok (.aload_n 1, 1) := by decide +kernel
theorem d_law_law_532 : decode code 532 = .ok (.aload_n 0, 1) := by decide +kernel
theorem d_law_law_533 : decode code 533 = .ok (.iload_n 3, 1) := by decide +kernel
theorem d_law_law_534 : decode code 534 = .ok (.iconst 1, 1) := by decide +kernel
theorem d_law_law_535 : decode code 535 = .ok (.iadd, 1) := by decide +kernel
theorem d_law_law_536 : decode code 536 = .ok (.iaload, 1) := by decide +kernel
theorem d_law_law_537 : decode code 537 = .ok (.aload_n 0, 1) := by decide +kernel
theorem d_law_law_538 : decode code 538 = .ok (.iload_n 3, 1) := by decide +kernel
theorem d_law_law_539 : decode code 539 = .ok (.iconst 2, 1) := by decide +kernel
theorem d_law_law_540 : decode code 540 = .ok (.iadd, 1) := by decide +kernel
theorem d_law_law_541 : decode code 541 = .ok (.iaload, 1) := by decide +kernel
theorem d_law_law_542 : decode code 542 = .ok (.ifCond .eq 7, 3) := by decide +kernel
theorem d_law_law_545 : decode code 545 = .ok (.iconst 1, 1) := by decide +kernel
theorem d_law_law_546 : decode code 546 = .ok (.goto 4, 3) := by decide +kernel
theorem d_law_law_549 : decode code 549 = .ok (.iconst 0, 1) := by decide +kernel
theorem d_law_law_550 : decode code 550 = .ok (.invokevirtual 71, 3) := by decide +kernel
theorem d_law_law_553 : decode code 553 = .ok (.aload_n 2, 1) := by decide +kernel
theorem d_law_law_554 : decode code 554 = .ok (.aload_n 0, 1) := by decide +kernel
theorem d_law_law_555 : decode code 555 = .ok (.iload_n 3, 1) := by decide +kernel
theorem d_law_law_556 : decode code 556 = .ok (.iconst 1, 1) := by decide +kernel
theorem d_law_law_557 : decode code 557 = .ok (.iadd, 1) := by decide +kernel
theorem d_law_law_558 : decode code 558 = .ok (.iaload, 1) := by decide +kernel
theorem d_law_law_559 : decode code 559 = .ok (.aload_n 0, 1) := by decide +kernel
theorem d_law_law_560 : decode code 560 = .ok (.iload_n 3, 1) := by decide +kernel
theorem d_law_law_561 : decode code 561 = .ok (.iconst 2, 1) := by decide +kernel
theorem d_law_law_562 : decode code 562 = .ok (.iadd, 1) := by decide +kernel
theorem d_law_law_563 : decode code 563 = .ok (.iaload, 1) := by decide +kernel
theorem d_law_law_564 : decode code 564 = .ok (.ifCond .eq 7, 3) := by decide +kernel
theorem d_law_law_567 : decode code 567 = .ok (.iconst 1, 1) := by decide +kernel
theorem d_law_law_568 : decode code 568 = .ok (.goto 4, 3) := by decide +kernel
theorem d_law_law_571 : decode code 571 = .ok (.iconst 0, 1) := by decide +kernel
theorem d_law_law_572 : decode code 572 = .ok (.invokevirtual 74, 3) := by decide +kernel
theorem d_law_law_575 : decode code 575 = .ok (.if_icmp .eq 127, 3) := by decide +kernel
end
section
-- ===== rows that decode the law =====
theorem d_law_law_578 : decode code 578 = .ok (.iconst 0, 1) := by decide +kernel
theorem d_law_law_579 : decode code 579 = .ok (.ireturn, 1) := by decide +kernel
theorem d_law_law_580 : decode code 580 = .ok (.aload_n 1, 1) := by decide +kernel
theorem d_law_law_581 : decode code 581 = .ok (.aload_n 0, 1) := by decide +kernel
theorem d_law_law_582 : decode code 582 = .ok (.iload_n 3, 1) := by decide +kernel
theorem d_law_law_583 : decode code 583 = .ok (.iconst 1, 1) := by decide +kernel
theorem d_law_law_584 : decode code 584 = .ok (.iadd, 1) := by decide +kernel
theorem d_law_law_585 : decode code 585 = .ok (.iaload, 1) := by decide +kernel
theorem d_law_law_586 : decode code 586 = .ok (.aload_n 0, 1) := by decide +kernel
theorem d_law_law_587 : decode code 587 = .ok (.iload_n 3, 1) := by decide +kernel
theorem d_law_law_588 : decode code 588 = .ok (.iconst 2, 1) := by decide +kernel
theorem d_law_law_589 : decode code 589 = .ok (.iadd, 1) := by decide +kernel
theorem d_law_law_590 : decode code 590 = .ok (.iaload, 1) := by decide +kernel
theorem d_law_law_591 : decode code 591 = .ok (.invokevirtual 75, 3) := by decide +kernel
theorem d_law_law_594 : decode code 594 = .ok (.aload_n 2, 1) := by decide +kernel
theorem d_law_law_595 : decode code 595 = .ok (.aload_n 0, 1) := by decide +kernel
theorem d_law_law_596 : decode code 596 = .ok (.iload_n 3, 1) := by decide +kernel
theorem d_law_law_597 : decode code 597 = .ok (.iconst 1, 1) := by decide +kernel
theorem d_law_law_598 : decode code 598 = .ok (.iadd, 1) := by decide +kernel
theorem d_law_law_599 : decode code 599 = .ok (.iaload, 1) := by decide +kernel
theorem d_law_law_600 : decode code 600 = .ok (.aload_n 0, 1) := by decide +kernel
theorem d_law_law_601 : decode code 601 = .ok (.iload_n 3, 1) := by decide +kernel
theorem d_law_law_602 : decode code 602 = .ok (.iconst 2, 1) := by decide +kernel
theorem d_law_law_603 : decode code 603 = .ok (.iadd, 1) := by decide +kernel
theorem d_law_law_604 : decode code 604 = .ok (.iaload, 1) := by decide +kernel
theorem d_law_law_605 : decode code 605 = .ok (.invokevirtual 79, 3) := by decide +kernel
theorem d_law_law_608 : decode code 608 = .ok (.if_icmp .eq 94, 3) := by decide +kernel
theorem d_law_law_611 : decode code 611 = .ok (.iconst 0, 1) := by decide +kernel
theorem d_law_law_612 : decode code 612 = .ok (.ireturn, 1) := by decide +kernel
theorem d_law_law_613 : decode code 613 = .ok (.aload_n 1, 1) := by decide +kernel
theorem d_law_law_614 : decode code 614 = .ok (.aload_n 0, 1) := by decide +kernel
theorem d_law_law_615 : decode code 615 = .ok (.iload_n 3, 1) := by decide +kernel
theorem d_law_law_616 : decode code 616 = .ok (.iconst 1, 1) := by decide +kernel
theorem d_law_law_617 : decode code 617 = .ok (.iadd, 1) := by decide +kernel
theorem d_law_law_618 : decode code 618 = .ok (.iaload, 1) := by decide +kernel
theorem d_law_law_619 : decode code 619 = .ok (.aload_n 0, 1) := by decide +kernel
theorem d_law_law_620 : decode code 620 = .ok (.iload_n 3, 1) := by decide +kernel
theorem d_law_law_621 : decode code 621 = .ok (.iconst 2, 1) := by decide +kernel
theorem d_law_law_622 : decode code 622 = .ok (.iadd, 1) := by decide +kernel
theorem d_law_law_623 : decode code 623 = .ok (.iaload, 1) := by decide +kernel
theorem d_law_law_624 : decode code 624 = .ok (.invokevirtual 80, 3) := by decide +kernel
theorem d_law_law_627 : decode code 627 = .ok (.aload_n 2, 1) := by decide +kernel
theorem d_law_law_628 : decode code 628 = .ok (.aload_n 0, 1) := by decide +kernel
theorem d_law_law_629 : decode code 629 = .ok (.iload_n 3, 1) := by decide +kernel
theorem d_law_law_630 : decode code 630 = .ok (.iconst 1, 1) := by decide +kernel
theorem d_law_law_631 : decode code 631 = .ok (.iadd, 1) := by decide +kernel
theorem d_law_law_632 : decode code 632 = .ok (.iaload, 1) := by decide +kernel
theorem d_law_law_633 : decode code 633 = .ok (.aload_n 0, 1) := by decide +kernel
theorem d_law_law_634 : decode code 634 = .ok (.iload_n 3, 1) := by decide +kernel
theorem d_law_law_635 : decode code 635 = .ok (.iconst 2, 1) := by decide +kernel
theorem d_law_law_636 : decode code 636 = .ok (.iadd, 1) := by decide +kernel
theorem d_law_law_637 : decode code 637 = .ok (.iaload, 1) := by decide +kernel
theorem d_law_law_638 : decode code 638 = .ok (.invokevirtual 83, 3) := by decide +kernel
theorem d_law_law_641 : decode code 641 = .ok (.if_icmp .eq 61, 3) := by decide +kernel
theorem d_law_law_644 : decode code 644 = .ok (.iconst 0, 1) := by decide +kernel
theorem d_law_law_645 : decode code 645 = .ok (.ireturn, 1) := by decide +kernel
theorem d_law_law_646 : decode code 646 = .ok (.aload_n 1, 1) := by decide +kernel
theorem d_law_law_647 : decode code 647 = .ok (.aload_n 0, 1) := by decide +kernel
theorem d_law_law_648 : decode code 648 = .ok (.iload_n 3, 1) := by decide +kernel
theorem d_law_law_649 : decode code 649 = .ok (.iconst 1, 1) := by decide +kernel
theorem d_law_law_650 : decode code 650 = .ok (.iadd, 1) := by decide +kernel
theorem d_law_law_651 : decode code 651 = .ok (.iaload, 1) := by decide +kernel
theorem d_law_law_652 : decode code 652 = .ok (.aload_n 0, 1) := by decide +kernel
theorem d_law_law_653 : decode code 653 = .ok (.iload_n 3, 1) := by decide +kernel
theorem d_law_law_654 : decode code 654 = .ok (.iconst 2, 1) := by decide +kernel
theorem d_law_law_655 : decode code 655 = .ok (.iadd, 1) := by decide +kernel
theorem d_law_law_656 : decode code 656 = .ok (.iaload, 1) := by decide +kernel
theorem d_law_law_657 : decode code 657 = .ok (.invokevirtual 84, 3) := by decide +kernel
theorem d_law_law_660 : decode code 660 = .ok (.aload_n 2, 1) := by decide +kernel
theorem d_law_law_661 : decode code 661 = .ok (.aload_n 0, 1) := by decide +kernel
theorem d_law_law_662 : decode code 662 = .ok (.iload_n 3, 1) := by decide +kernel
theorem d_law_law_663 : decode code 663 = .ok (.iconst 1, 1) := by decide +kernel
theorem d_law_law_664 : decode code 664 = .ok (.iadd, 1) := by decide +kernel
theorem d_law_law_665 : decode code 665 = .ok (.iaload, 1) := by decide +kernel
theorem d_law_law_666 : decode code 666 = .ok (.aload_n 0, 1) := by decide +kernel
theorem d_law_law_667 : decode code 667 = .ok (.iload_n 3, 1) := by decide +kernel
theorem d_law_law_668 : decode code 668 = .ok (.iconst 2, 1) := by decide +kernel
theorem d_law_law_669 : decode code 669 = .ok (.iadd, 1) := by decide +kernel
theorem d_law_law_670 : decode code 670 = .ok (.iaload, 1) := by decide +kernel
theorem d_law_law_671 : decode code 671 = .ok (.invokevirtual 87, 3) := by decide +kernel
theorem d_law_law_674 : decode code 674 = .ok (.if_icmp .eq 28, 3) := by decide +kernel
theorem d_law_law_677 : decode code 677 = .ok (.iconst 0, 1) := by decide +kernel
theorem d_law_law_678 : decode code 678 = .ok (.ireturn, 1) := by decide +kernel
theorem d_law_law_679 : decode code 679 = .ok (.aload_n 1, 1) := by decide +kernel
theorem d_law_law_680 : decode code 680 = .ok (.aload_n 0, 1) := by decide +kernel
theorem d_law_law_681 : decode code 681 = .ok (.iload_n 3, 1) := by decide +kernel
theorem d_law_law_682 : decode code 682 = .ok (.iconst 1, 1) := by decide +kernel
theorem d_law_law_683 : decode code 683 = .ok (.iadd, 1) := by decide +kernel
theorem d_law_law_684 : decode code 684 = .ok (.iaload, 1) := by decide +kernel
theorem d_law_law_685 : decode code 685 = .ok (.invokevirtual 88, 3) := by decide +kernel
theorem d_law_law_688 : decode code 688 = .ok (.aload_n 2, 1) := by decide +kernel
theorem d_law_law_689 : decode code 689 = .ok (.aload_n 0, 1) := by decide +kernel
theorem d_law_law_690 : decode code 690 = .ok (.iload_n 3, 1) := by decide +kernel
theorem d_law_law_691 : decode code 691 = .ok (.iconst 1, 1) := by decide +kernel
theorem d_law_law_692 : decode code 692 = .ok (.iadd, 1) := by decide +kernel
theorem d_law_law_693 : decode code 693 = .ok (.iaload, 1) := by decide +kernel
theorem d_law_law_694 : decode code 694 = .ok (.invokevirtual 91, 3) := by decide +kernel
theorem d_law_law_697 : decode code 697 = .ok (.if_icmp .eq 5, 3) := by decide +kernel
theorem d_law_law_700 : decode code 700 = .ok (.iconst 0, 1) := by decide +kernel
theorem d_law_law_701 : decode code 701 = .ok (.ireturn, 1) := by decide +kernel
theorem d_law_law_702 : decode code 702 = .ok (.iinc 3 8, 3) := by decide +kernel
theorem d_law_law_705 : decode code 705 = .ok (.goto (-687), 3) := by decide +kernel
theorem d_law_law_708 : decode code 708 = .ok (.iconst 1, 1) := by decide +kernel
theorem d_law_law_709 : decode code 709 = .ok (.ireturn, 1) := by decide +kernel
end
section
-- ===== small rows: places in range, booleans, arrays of arrays, new arrays of a known class =====
theorem vi_lt {x k : Int32} {n : Nat} (hk : k.toInt = (n : Int)) (h0 : ¬ x < 0) (h1 : x < k) : vp_in x n := by
  rw [vp_in_iff]
  rw [Int32.lt_iff_toInt_lt, hk] at h1
  rw [Int32.lt_iff_toInt_lt] at h0
  have : (0 : Int32).toInt = 0 := rfl
  omega
theorem vi_le {x k : Int32} {n : Nat} (hk : k.toInt + 1 = (n : Int)) (h0 : ¬ x < 0) (h1 : x ≤ k) : vp_in x n := by
  rw [vp_in_iff]
  rw [Int32.le_iff_toInt_le] at h1
  rw [Int32.lt_iff_toInt_lt] at h0
  have : (0 : Int32).toInt = 0 := rfl
  omega
theorem vi32_lt {x : Int32} (h0 : ¬ x < 0) (h1 : x < 32) : vp_in x 32 := vi_lt rfl h0 h1
theorem vi32_nle {x : Int32} (h0 : ¬ x < 0) (h1 : ¬ 32 ≤ x) : vp_in x 32 := vi_lt rfl h0 (Int32.not_le.mp h1)
theorem vi32_le {x : Int32} (h0 : ¬ x < 0) (h1 : x ≤ 31) : vp_in x 32 := vi_le rfl h0 h1
theorem vi256_lt {x : Int32} (h0 : ¬ x < 0) (h1 : x < 256) : vp_in x 256 := vi_lt rfl h0 h1
theorem vi256_nle {x : Int32} (h0 : ¬ x < 0) (h1 : ¬ 256 ≤ x) : vp_in x 256 := vi_lt rfl h0 (Int32.not_le.mp h1)
theorem vi256_le {x : Int32} (h0 : ¬ x < 0) (h1 : x ≤ 255) : vp_in x 256 := vi_le rfl h0 h1
theorem sE_is_in {e : Int32} (h : ¬ sE_is e = 0) : vp_in e 32 := by
  unfold sE_is at h
  by_cases h0 : e < 0
  · rw [if_pos h0] at h; exact absurd rfl h
  · rw [if_neg h0] at h
    by_cases h1 : 32 ≤ e
    · rw [if_pos h1] at h; exact absurd rfl h
    · exact vi32_nle h0 h1
theorem sL_is_in {X : Sg} {id : Int32} (h : ¬ sL_is X id = 0) : vp_in id 256 := by
  unfold sL_is at h
  by_cases h0 : id < 0
  · rw [if_pos h0] at h; exact absurd rfl h
  · rw [if_neg h0] at h
    by_cases h1 : 256 ≤ id
    · rw [if_pos h1] at h; exact absurd rfl h
    · exact vi256_nle h0 h1
theorem sM_isThere_in {M : Sg} {id : Int32} (h : ¬ sM_isThere M id = 0) : vp_in id 256 := by
  unfold sM_isThere at h
  by_cases h0 : id < 0
  · rw [if_pos h0] at h; exact absurd rfl h
  · rw [if_neg h0] at h
    by_cases h1 : 256 ≤ id
    · rw [if_pos h1] at h; exact absurd rfl h
    · exact vi256_nle h0 h1
theorem sM_isIn_bd {v a b : Int32} (h : ¬ sM_isIn v a b = 0) : ¬ v < a ∧ ¬ b < v := by
  unfold sM_isIn at h
  by_cases h0 : v < a
  · rw [if_pos h0] at h; exact absurd rfl h
  · rw [if_neg h0] at h
    by_cases h1 : b < v
    · rw [if_pos h1] at h; exact absurd rfl h
    · exact ⟨h0, h1⟩
theorem sM_isIn_31 {v : Int32} (h : ¬ sM_isIn v 0 31 = 0) : vp_in v 32 := vi32_le (sM_isIn_bd h).1 (Int32.not_lt.mp (sM_isIn_bd h).2)
theorem sM_isIn_255 {v : Int32} (h : ¬ sM_isIn v 0 255 = 0) : vp_in v 256 := vi256_le (sM_isIn_bd h).1 (Int32.not_lt.mp (sM_isIn_bd h).2)
theorem sM_isEvent_in {v : Int32} (h : ¬ sM_isEvent v = 0) : vp_in v 32 := sM_isIn_31 h
/-- a value is a boolean's -/
def isZ (x : Int32) : Prop := x = 0 ∨ x = 1
theorem isZ.nar {x : Int32} (h : isZ x) : narrow .boolean (.int x) = .int x := by rcases h with rfl | rfl <;> rfl
theorem isZ.fit {x : Int32} (h : isZ x) : fits .boolean (.int x) = true := by rcases h with rfl | rfl <;> rfl
theorem isZ_0 : isZ 0 := Or.inl rfl
theorem isZ_1 : isZ 1 := Or.inr rfl
theorem isZ_ite {c : Prop} [Decidable c] {a b : Int32} (ha : isZ a) (hb : isZ b) : isZ (if c then a else b) := by
  by_cases h : c
  · rw [if_pos h]; exact ha
  · rw [if_neg h]; exact hb
theorem isZ_is (e : Int32) : isZ (sE_is e) := isZ_ite isZ_0 (isZ_ite isZ_0 isZ_1)
theorem isZ_Lis (X : Sg) (e : Int32) : isZ (sL_is X e) := isZ_ite isZ_0 (isZ_ite isZ_0 (isZ_ite isZ_0 isZ_1))
theorem isZ_isThere (X : Sg) (e : Int32) : isZ (sM_isThere X e) := isZ_ite isZ_0 (isZ_ite isZ_0 (isZ_ite isZ_0 isZ_1))
theorem isZ_isIn (v a b : Int32) : isZ (sM_isIn v a b) := isZ_ite isZ_0 (isZ_ite isZ_0 isZ_1)
theorem fst_ite {α β : Type} {c : Prop} [Decidable c] {a b : α × β} : (if c then a else b).1 = if c then a.1 else b.1 := by
  by_cases h : c
  · rw [if_pos h, if_pos h]
  · rw [if_neg h, if_neg h]
theorem isZ_raise (X : Sg) (e v : Int32) : isZ (sE_raise X e v).1 := by unfold sE_raise; rw [fst_ite]; exact isZ_ite isZ_0 isZ_1
theorem isZ_waits (X : Sg) (e v : Int32) : isZ (sM_waits X e v).1 := by unfold sM_waits; rw [fst_ite]; exact isZ_ite isZ_0 isZ_1
theorem isZ_Cset (X : Sg) (e v : Int32) : isZ (sC_set X e v).1 := by unfold sC_set; rw [fst_ite, fst_ite]; exact isZ_ite isZ_0 (isZ_ite isZ_1 isZ_0)
theorem isZ_Mset (X : Sg) (e v : Int32) : isZ (sM_set X e v).1 := by unfold sM_set; rw [fst_ite, fst_ite]; exact isZ_ite isZ_0 (isZ_ite isZ_1 isZ_0)
theorem isZ_Craise (X : Sg) (e v : Int32) : isZ (sC_raise X e v).1 := by unfold sC_raise; rw [fst_ite, fst_ite]; exact isZ_ite isZ_0 (isZ_ite isZ_0 isZ_1)
theorem isZ_Mraise (X : Sg) (e v : Int32) : isZ (sM_raise X e v).1 := by unfold sM_raise; rw [fst_ite, fst_ite]; exact isZ_ite isZ_0 (isZ_ite isZ_0 isZ_1)
section R7
variable {p : Program} {l : Launch} {e : Env} {R : Room} {s : State} {m : MethodId} {args : Array Value} {below : List Frame} {meth : Method} {c : Code} {H : Heap} {locs : List Loc} {cells slots : Nat} {Q : State → Prop}
variable {cc : ByteArray} {pc : Nat} {ls : Array Slot} {rest : List Value} {D : va_G} {cl : List vw_C} {A : Nat → Prop} {a : Nat} {tys : List (ClassId × FieldType)} {ws : va_W} {H0 : Heap}
/-- a row out of an array of arrays -/
theorem va_aldA (hexec : p.tables.exec = Jvm.exec) (hb : c.code = cc) (hK : va_K D cl tys s) (hP : va_P D cl ws H) (q0 t0 : Nat) {cA : ClassId} {t : FieldType} {n : Nat} {f : Nat → Option Nat} (ha : ws[q0]? = some (a, .inl (cA, n, .inr (.inr (.inr (.inr f)))))) (ht : tys[t0]? = some (cA, .array t)) {i : Int32} (hin : vp_in i n) (hdg : decode cc pc = .ok (.aaload, 1))
    (kk : W p l e R s m args below meth c H locs cells slots Q (F0 m (pc + 1) ls (va_rf (f i.toNatClampNeg) :: rest))) : W p l e R s m args below meth c H locs cells slots Q (F0 m pc ls (.int i :: .ref a :: rest)) := by
  have hlt : i.toNatClampNeg < n := Nat.not_le.mp fun q => hin (Or.inr q)
  exact W.aald (v := va_rf (f i.toNatClampNeg)) (ty := .array t) hexec hb (hP q0 _ ha) ((hK.2 t0 _ ht).1 n (fun j => va_rf (f j))) rfl (fun q => by cases q) (by show ¬ (i < 0 ∨ (arrV _ _ _).slots.size ≤ _); rw [arrV_size]; exact hin) (by show (arrV _ _ _).slots[_]? = _; rw [arrV_read _ _ hlt]) rfl rfl hdg kk
/-- a new array whose class is known by its number -/
theorem va_newb (hexec : p.tables.exec = Jvm.exec) (hb : c.code = cc) {atype : ArrayType} (harr : (Cond.arrayClass (newarray.typeOf atype)).before args s = true) {ty : FieldType} (hty : newarray.typeOf atype = ty) (hK : va_K D cl tys s) (hP : va_P D cl ws H) (hD : va_D A ws) (hS : va_S A H0 H locs) (hA : ∀ q, H0.size ≤ q → A q) (t0 : Nat) {cA : ClassId} (ht : tys[t0]? = some (cA, ty)) (hprim : va_RA s cA ty = (s.vm.findClass ("[" ++ ty.toString) = some cA))
    {n : Int32} {N' : Nat} {a0 : vp_A} (ha : ∀ cA : ClassId, vp_cell cA a0 = arrV cA N' (fun _ => defaultValue ty)) (hn : ¬ n < 0) (hN : n.toNatClampNeg = N') (hbytes : N' * componentBytes ty ≤ 536870912) (hcells : cells + 1 ≤ R.cells) (hslots : slots + N' ≤ R.slots) (hdg : decode cc pc = .ok (.newarray atype, 2))
    (kk : ∀ (q : Nat) (H1 : Heap), va_P D cl (ws ++ [(q, .inl (cA, a0))]) H1 → va_D A (ws ++ [(q, .inl (cA, a0))]) → va_S A H0 H1 locs →
      W p l e R s m args below meth c H1 locs (cells + 1) (slots + N') Q (F0 m (pc + 2) ls (.ref q :: rest))) : W p l e R s m args below meth c H locs cells slots Q (F0 m pc ls (.int n :: rest)) := by
  subst hty
  refine va_newaK hexec hb harr rfl hdg rfl hn hN hbytes hcells hslots rfl fun H1 cA' e1 z1 o1 hAr hNm => ?_
  have hr := (hK.2 t0 _ ht).2
  rw [hprim] at hr
  have hcc : cA' = cA := Option.some.inj (hNm.symm.trans hr)
  subst hcc
  have hk : ∀ (k : Nat) (x : Nat × va_E), ws[k]? = some x → H1[x.1]? = H[x.1]? := fun k x hx => o1 x.1 ((hP k x hx).lt)
  refine kk H.size H1 ((hP.kept hk).app (fun k x hx => ?_)) (hD.push hP rfl (hA _ hS.1)) ⟨Nat.le_trans hS.1 (by omega), fun x h1 h2 => (o1 x (Nat.lt_of_lt_of_le h1 hS.1)).trans (hS.2.1 x h1 h2), hS.2.2⟩
  have hz : k < 1 := (List.getElem?_eq_some_iff.mp hx).1
  rw [show k = 0 by omega] at hx
  cases hx
  show H1[H.size]? = some (vp_cell _ _)
  rw [ha]
  exact e1
end R7
end
section
-- ===== the one call through the interface; a loop's numbers =====
theorem lkF : GoodIn lw_good (va_wsF R_L 51 R_N y_V_value y_N_value (wds y_N_value b_N_value 2 (some .int))) := by
  refine good_app (good_cd tw_205) (fun w hw => ?_)
  simp only [List.mem_cons, List.not_mem_nil, or_false] at hw
  rcases hw with rfl | rfl | rfl | rfl
  · exact tw_197
  · exact tw_201
  · exact tw_203
  · exact tw_2
theorem y_V_d : y_V_value.cls ≠ "java/lang/invoke/MethodHandle" ∧ y_V_value.cls ≠ "java/lang/invoke/VarHandle" ∧ (parseMethodDescriptor y_V_value.desc).map (fun d => d.parameters.length) = some 1 := by decide +kernel
theorem cF {p : Program} {l : Launch} {e : Env} {R : Room} {s : State} {m : MethodId} {args : Array Value} {below : List Frame} {meth : Method} {c : Code} {H : Heap} {locs : List Loc} {cells slots : Nat} {Q : State → Prop} {cc : ByteArray} {pc nL fr lo q0 : Nat} {ls : Array Slot} {rest st0 : List Value} {D : va_G} {cA : Nat → ClassId} {A : Nat → Prop} {a : Nat} {v0 : Int32} {St : Type} {Wf : St → va_W} {X : St} {sp : Int32 × St} {rr : Int32} {X' : St} {fs : List Value}
    (hM : Ct l y_N_value b_N_value 2 (some .int) fr lo D cA [.ref a, .int v0] Wf X sp) (hx : p.tables.exec = Jvm.exec) (hb : c.code = cc) (hml : c.maxLocals = nL) (hown : s.vm.findClass R_L = some m.cls) (hts : ∀ w ∈ lw_good, w.before args s = true) (hKK : KK D cA s)
    (hP : va_P D classes (Wf X) H) (hD : va_D A (Wf X)) (hS : va_S A s.heap H locs) (hA : ∀ q, s.heap.size ≤ q → A q) (hls : ls.size = nL) (he : (Wf X)[q0]? = some (a, .inr (1, fs)))
    (hroom : fr + 1 ≤ R.frames ∧ 8 + (2 + 11) + lo ≤ R.locals) (hcs : cells ≤ R.cells ∧ slots ≤ R.slots) (hsp : sp = (rr, X')) (hadr : (Wf X').map Prod.fst = (Wf X).map Prod.fst) (hst : st0 = .int v0 :: .ref a :: rest) (hW : (rest.map fun v => v.category).sum ≤ 8) (hdg : decode cc pc = .ok (.invokeinterface 51 2, 5))
    (kk : ∀ (H1 : Heap) (locs1 : List Loc), va_P D classes (Wf X') H1 → va_D A (Wf X') → va_S A s.heap H1 locs1 → W p l e R s m args below meth c H1 locs1 cells slots Q (F0 m (pc + 5) ls (.int rr :: rest))) :
    W p l e R s m args below meth c H locs cells slots Q (F0 m pc ls st0) := by
  subst hsp
  have hP3 : va_P D classes ([] ++ (Wf X ++ [])) H := by simpa using hP
  have hD3 : va_D A ([] ++ (Wf X ++ [])) := by simpa using hD
  have hF := free3 hD3 hS hA
  have hat : ClassAt s R_N (D.1 1) := (hKK.1.1 1 _ rfl).2
  refine va_callFi (va_runF (As := [.int v0]) (rest := rest) hat ⟨hx, hb, hml, hown, hts⟩ (hM H.size) (va_cwF 1 hts lkF rfl rfl rfl hKK.2.2.1 y_V_d hroom) ⟨call_blind, va_recv (q := (R_N, F_N, 1)) hKK.1 hP rfl he, fun U hU hW => ⟨rfl, by rw [hU], by rw [hU]; exact hP, KK.warm hW hKK, hD.weaken (fun _ _ _ _ => trivial)⟩⟩ rfl rfl hls hst (lv_room hW) hdg hcs) hS (fun q _ h => hF q h) hF (fun r u t H1 locs1 ht hvm hw hB hz1 hk1 hS1 => ?_)
  rw [ht] at hB
  obtain ⟨hP1, hD1⟩ := join3 hP3 hD3 hadr hk1 hB
  rw [hw]
  exact kk H1 locs1 (by simpa using hP1) (by simpa using hD1) hS1
theorem lp_ge {x K : Int32} {k N : Nat} (hK : K = nI N) (hN : N < 2 ^ 31) (e : x = nI k) (hk : k ≤ N) (c : K ≤ x) : k = N := by
  rw [hK, e, nI_leI hN (by omega)] at c
  omega
theorem lp_lt {x K : Int32} {k N : Nat} (hK : K = nI N) (hN : N < 2 ^ 31) (e : x = nI k) (hk : k ≤ N) (c : ¬ K ≤ x) : k < N := by
  rcases Nat.lt_or_ge k N with h | h
  · exact h
  · exact absurd (by rw [hK, e]; exact nI_le (by omega) (by omega)) c
theorem lp_in {x : Int32} {k N : Nat} (hN : N < 2 ^ 31) (e : x = nI k) (hk : k < N) : vp_in x N := by rw [e]; exact vp_in_nI hk hN
theorem lp_ix {x : Int32} {k : Nat} (e : x = nI k) (hk : k < 2 ^ 31) : x.toNatClampNeg = k := by rw [e]; exact nI_clamp hk
end
section
-- ===== numbers for the loops =====
theorem vi0_64 : vp_in 0 64 := vp_in_iff.mpr (by decide)
theorem wk_pred {x : Int32} {n B : Nat} (hn : n ≤ B) (e : x = nI n) (c : ¬ x = 0) : ∃ N, N < B ∧ x - 1 = nI N := by
  cases n with
  | zero => exact absurd (e.trans nI_0) c
  | succ n => exact ⟨n, by omega, by rw [e]; exact nI_pred n⟩
theorem sM_sh_0 (M : Sg) : ∀ k, sM_sh M k 0 = M 0
  | 0 => rfl
  | k + 1 => sM_sh_0 M k
theorem sM_cp_0 (M : Sg) (e : Int32) : ∀ k, sM_cp M e k 0 = M 0
  | 0 => rfl
  | k + 1 => sM_cp_0 M e k
theorem ac_in {e x : Int32} {k : Nat} (he : vp_in e 32) (e3 : x = nI k) (hk : k < 256) : vp_in (256 * e + x) 8192 := by
  obtain ⟨j, hj, ej⟩ := vp_in_of he (by decide)
  rw [ej, e3, show (256 : Int32) = nI 256 from rfl, pk_mul, nI_add]
  exact vp_in_nI (by omega) (by decide)
theorem lp_in1 {x : Int32} {k N : Nat} (hN : N < 2 ^ 31) (e : x = nI k) (hk : k + 1 < N) : vp_in (x + 1) N := by rw [e, nI_1]; exact vp_in_nI hk hN
theorem lp_ix1 {x : Int32} {k : Nat} (e : x = nI k) (hk : k + 1 < 2 ^ 31) : (x + 1).toNatClampNeg = k + 1 := by rw [e, nI_1]; exact nI_clamp hk
end
section
set_option maxHeartbeats 4000000 in
set_option maxRecDepth 100000 in
/-- Events.is -/
theorem c_E_is (l : Launch) (D : va_G) (cA : Nat → ClassId) {St : Type} (Wf : St → va_W) (X : St) (e0 : Int32) : Ct l y_E_is b_E_is 1 (some .boolean) 0 0 D cA [.int e0] Wf X (sE_is e0, X) := by
  refine Ct.of rfl (isZ_is e0).nar (by decide +kernel) (Nat.le_of_ble_eq_true rfl) ?_
  intro p e s m below meth c A Q ls hx hb hml hown hts hKK hP hD hA hS hend hl
  have hown : s.vm.findClass R_E = some m.cls := hown
  have hl : lv_has ls 1 [(0, .int e0)] := hl
  have hK := hKK.1
  refine lv_iload_n hx hb d_E_is_0 rfl (lv_at hl 0 rfl) ?_
  refine lv_if_lt (tgt := 14) hx hb d_E_is_1 (by decide) (fun c_1 => ?_) (fun c_1 => ?_)
  · refine lv_iconst (v := 0) hx hb d_E_is_14 (by decide) ?_
    exact hend _ _ _ _ _ _ (by rw [sE_is, if_pos c_1] <;> rfl) hP hS d_E_is_15
  · refine lv_iload_n hx hb d_E_is_4 rfl (lv_at hl 0 rfl) ?_
    refine lv_bipush (v := 32) hx hb d_E_is_5 (by decide) ?_
    refine lv_icmp_ge (tgt := 14) hx hb d_E_is_7 (by decide) (fun c_7 => ?_) (fun c_7 => ?_)
    · refine lv_iconst (v := 0) hx hb d_E_is_14 (by decide) ?_
      exact hend _ _ _ _ _ _ (by rw [sE_is, if_neg c_1, if_pos c_7] <;> rfl) hP hS d_E_is_15
    · refine lv_iconst (v := 1) hx hb d_E_is_10 (by decide) ?_
      refine lv_goto (tgt := 15) hx hb d_E_is_11 (by decide) ?_
      exact hend _ _ _ _ _ _ (by rw [sE_is, if_neg c_1, if_neg c_7] <;> rfl) hP hS d_E_is_15
set_option maxHeartbeats 4000000 in
set_option maxRecDepth 100000 in
/-- Events.raise -/
theorem c_E_raise (l : Launch) (D : va_G) (cA : Nat → ClassId) (h : Nat → Nat) (Rw X : Sg) (e0 : Int32) (v0 : Int32) (hk : vp_in (sE_k X) 64) : Ct l y_E_raise b_E_raise 4 (some .boolean) 0 0 D cA [.ref (h 3), .int e0, .int v0] (wC cA h Rw) X (sE_raise X e0 v0) := by
  refine Ct.of rfl (isZ_raise X e0 v0).nar (by decide +kernel) (Nat.le_of_ble_eq_true rfl) ?_
  intro p e s m below meth c A Q ls hx hb hml hown hts hKK hP hD hA hS hend hl
  have hown : s.vm.findClass R_E = some m.cls := hown
  have hl : lv_has ls 4 [(0, .ref (h 3)), (1, .int e0), (2, .int v0)] := hl
  have hK := hKK.1
  refine lv_aload_n hx hb d_E_raise_0 rfl (lv_at hl 0 rfl) ?_
  refine va_get (D := D) (ci := 2) (v := .int (X 3 3)) (C := R_E) (T := F_E) (N := 7) hx hb hts i_E hown hK hP 3 rfl rfl 3 (by decide) (hts _ tw_37) (fun _ h9 => h9) rfl d_E_raise_1 ?_
  refine lv_bipush (v := 64) hx hb d_E_raise_4 (by decide) ?_
  refine lv_icmp_ne (tgt := 21) hx hb d_E_raise_6 (by decide) (fun c_6 => ?_) (fun c_6 => ?_)
  · refine lv_aload_n hx hb d_E_raise_21 rfl (lv_at hl 0 rfl) ?_
    refine va_get (D := D) (ci := 2) (v := .int (X 3 2)) (C := R_E) (T := F_E) (N := 7) hx hb hts i_E hown hK hP 3 rfl rfl 2 (by decide) (hts _ tw_36) (fun _ h9 => h9) rfl d_E_raise_22 ?_
    refine lv_aload_n hx hb d_E_raise_25 rfl (lv_at hl 0 rfl) ?_
    refine va_get (D := D) (ci := 2) (v := .int (X 3 3)) (C := R_E) (T := F_E) (N := 7) hx hb hts i_E hown hK hP 3 rfl rfl 3 (by decide) (hts _ tw_37) (fun _ h9 => h9) rfl d_E_raise_26 ?_
    refine lv_iadd hx hb d_E_raise_29 ?_
    refine lv_bipush (v := 64) hx hb d_E_raise_30 (by decide) ?_
    refine lv_irem hx hb d_E_raise_32 (by decide) ?_
    refine lv_istore_n (lv' := [(3, .int (((X 3 2) + (X 3 3)) - ((X 3 2) + (X 3 3)) / 64 * 64)), (0, .ref (h 3)), (1, .int e0), (2, .int v0)]) hx hb d_E_raise_33 rfl hl (by decide) rfl (fun ls hl => ?_)
    refine lv_aload_n hx hb d_E_raise_34 rfl (lv_at hl 1 rfl) ?_
    refine va_get (D := D) (ci := 2) (v := .ref (h 4)) (C := R_E) (T := F_E) (N := 7) hx hb hts i_E hown hK hP 3 rfl rfl 0 (by decide) (hts _ tw_34) (fun _ h9 => h9) rfl d_E_raise_35 ?_
    refine lv_iload_n hx hb d_E_raise_38 rfl (lv_at hl 0 rfl) ?_
    refine lv_iload_n hx hb d_E_raise_39 rfl (lv_at hl 2 rfl) ?_
    refine va_iast (f := (X 4)) hx hb hK hP hD hS 4 0 rfl rfl hk d_E_raise_40 (fun H locs hP hD hS => ?_)
    have hP : va_P D classes ((wC cA h Rw) (pt X 4 (ix (((X 3 2) + (X 3 3)) - ((X 3 2) + (X 3 3)) / 64 * 64)) e0)) H := hP
    have hD : va_D A ((wC cA h Rw) (pt X 4 (ix (((X 3 2) + (X 3 3)) - ((X 3 2) + (X 3 3)) / 64 * 64)) e0)) := hD
    refine lv_aload_n hx hb d_E_raise_41 rfl (lv_at hl 1 rfl) ?_
    refine va_get (D := D) (ci := 2) (v := .ref (h 5)) (C := R_E) (T := F_E) (N := 7) hx hb hts i_E hown hK hP 3 rfl rfl 1 (by decide) (hts _ tw_35) (fun _ h9 => h9) rfl d_E_raise_42 ?_
    refine lv_iload_n hx hb d_E_raise_45 rfl (lv_at hl 0 rfl) ?_
    refine lv_iload_n hx hb d_E_raise_46 rfl (lv_at hl 3 rfl) ?_
    refine va_iast (f := (X 5)) hx hb hK hP hD hS 5 0 rfl rfl hk d_E_raise_47 (fun H locs hP hD hS => ?_)
    have hP : va_P D classes ((wC cA h Rw) (pt (pt X 4 (ix (((X 3 2) + (X 3 3)) - ((X 3 2) + (X 3 3)) / 64 * 64)) e0) 5 (ix (((X 3 2) + (X 3 3)) - ((X 3 2) + (X 3 3)) / 64 * 64)) v0)) H := hP
    have hD : va_D A ((wC cA h Rw) (pt (pt X 4 (ix (((X 3 2) + (X 3 3)) - ((X 3 2) + (X 3 3)) / 64 * 64)) e0) 5 (ix (((X 3 2) + (X 3 3)) - ((X 3 2) + (X 3 3)) / 64 * 64)) v0)) := hD
    refine lv_aload_n hx hb d_E_raise_48 rfl (lv_at hl 1 rfl) ?_
    refine lv_dup hx hb d_E_raise_49 rfl ?_
    refine va_get (D := D) (ci := 2) (v := .int (X 3 3)) (C := R_E) (T := F_E) (N := 7) hx hb hts i_E hown hK hP 3 rfl rfl 3 (by decide) (hts _ tw_37) (fun _ h9 => h9) rfl d_E_raise_50 ?_
    refine lv_iconst (v := 1) hx hb d_E_raise_53 (by decide) ?_
    refine lv_iadd hx hb d_E_raise_54 ?_
    refine va_put (D := D) (ci := 2) (v := .int ((X 3 3) + 1)) (ty := .int) (C := R_E) (T := F_E) (N := 7) hx hb hts i_E t_E t_E_ok n_E hown hK hP hD hS 3 rfl rfl 3 (by decide) (hts _ tw_37) (fun _ h9 => h9) rfl (t_E_ok 3 (by decide)) rfl rfl (Nat.le_of_ble_eq_true rfl) d_E_raise_55 (fun H locs hP hD hS => ?_)
    have hP : va_P D classes ((wC cA h Rw) (pt (pt (pt X 4 (ix (((X 3 2) + (X 3 3)) - ((X 3 2) + (X 3 3)) / 64 * 64)) e0) 5 (ix (((X 3 2) + (X 3 3)) - ((X 3 2) + (X 3 3)) / 64 * 64)) v0) 3 3 ((X 3 3) + 1))) H := hP
    have hD : va_D A ((wC cA h Rw) (pt (pt (pt X 4 (ix (((X 3 2) + (X 3 3)) - ((X 3 2) + (X 3 3)) / 64 * 64)) e0) 5 (ix (((X 3 2) + (X 3 3)) - ((X 3 2) + (X 3 3)) / 64 * 64)) v0) 3 3 ((X 3 3) + 1))) := hD
    refine lv_iconst (v := 1) hx hb d_E_raise_58 (by decide) ?_
    exact hend _ _ _ _ _ _ (by rw [sE_raise, if_neg c_6] <;> rfl) hP hS d_E_raise_59
  · refine lv_aload_n hx hb d_E_raise_9 rfl (lv_at hl 0 rfl) ?_
    refine lv_dup hx hb d_E_raise_10 rfl ?_
    refine va_get (D := D) (ci := 2) (v := .int (X 3 4)) (C := R_E) (T := F_E) (N := 7) hx hb hts i_E hown hK hP 3 rfl rfl 4 (by decide) (hts _ tw_39) (fun _ h9 => h9) rfl d_E_raise_11 ?_
    refine lv_iconst (v := 1) hx hb d_E_raise_14 (by decide) ?_
    refine lv_iadd hx hb d_E_raise_15 ?_
    refine va_put (D := D) (ci := 2) (v := .int ((X 3 4) + 1)) (ty := .int) (C := R_E) (T := F_E) (N := 7) hx hb hts i_E t_E t_E_ok n_E hown hK hP hD hS 3 rfl rfl 4 (by decide) (hts _ tw_39) (fun _ h9 => h9) rfl (t_E_ok 4 (by decide)) rfl rfl (Nat.le_of_ble_eq_true rfl) d_E_raise_16 (fun H locs hP hD hS => ?_)
    have hP : va_P D classes ((wC cA h Rw) (pt X 3 4 ((X 3 4) + 1))) H := hP
    have hD : va_D A ((wC cA h Rw) (pt X 3 4 ((X 3 4) + 1))) := hD
    refine lv_iconst (v := 0) hx hb d_E_raise_19 (by decide) ?_
    exact hend _ _ _ _ _ _ (by rw [sE_raise, if_pos c_6] <;> rfl) hP hS d_E_raise_20
set_option maxHeartbeats 4000000 in
set_option maxRecDepth 100000 in
/-- Events.work -/
theorem c_E_work (l : Launch) (D : va_G) (cA : Nat → ClassId) (h : Nat → Nat) (Rw X : Sg) (hk : vp_in (X 3 2) 64) : Ct l y_E_work b_E_work 2 (some .int) 0 0 D cA [.ref (h 3)] (wC cA h Rw) X (sE_work X) := by
  refine Ct.of rfl rfl (by decide +kernel) (Nat.le_of_ble_eq_true rfl) ?_
  intro p e s m below meth c A Q ls hx hb hml hown hts hKK hP hD hA hS hend hl
  have hown : s.vm.findClass R_E = some m.cls := hown
  have hl : lv_has ls 2 [(0, .ref (h 3))] := hl
  have hK := hKK.1
  refine lv_aload_n hx hb d_E_work_0 rfl (lv_at hl 0 rfl) ?_
  refine va_get (D := D) (ci := 2) (v := .int (X 3 3)) (C := R_E) (T := F_E) (N := 7) hx hb hts i_E hown hK hP 3 rfl rfl 3 (by decide) (hts _ tw_37) (fun _ h9 => h9) rfl d_E_work_1 ?_
  refine lv_if_ne (tgt := 9) hx hb d_E_work_4 (by decide) (fun c_4 => ?_) (fun c_4 => ?_)
  · refine lv_aload_n hx hb d_E_work_9 rfl (lv_at hl 0 rfl) ?_
    refine va_get (D := D) (ci := 2) (v := .ref (h 4)) (C := R_E) (T := F_E) (N := 7) hx hb hts i_E hown hK hP 3 rfl rfl 0 (by decide) (hts _ tw_34) (fun _ h9 => h9) rfl d_E_work_10 ?_
    refine lv_aload_n hx hb d_E_work_13 rfl (lv_at hl 0 rfl) ?_
    refine va_get (D := D) (ci := 2) (v := .int (X 3 2)) (C := R_E) (T := F_E) (N := 7) hx hb hts i_E hown hK hP 3 rfl rfl 2 (by decide) (hts _ tw_36) (fun _ h9 => h9) rfl d_E_work_14 ?_
    refine va_iald (f := (X 4)) hx hb hK hP 4 0 rfl rfl (by first | assumption) d_E_work_17 ?_
    refine lv_istore_n (lv' := [(1, .int ((X 4) (ix (X 3 2)))), (0, .ref (h 3))]) hx hb d_E_work_18 rfl hl (by decide) rfl (fun ls hl => ?_)
    refine lv_aload_n hx hb d_E_work_19 rfl (lv_at hl 1 rfl) ?_
    refine lv_aload_n hx hb d_E_work_20 rfl (lv_at hl 1 rfl) ?_
    refine va_get (D := D) (ci := 2) (v := .ref (h 5)) (C := R_E) (T := F_E) (N := 7) hx hb hts i_E hown hK hP 3 rfl rfl 1 (by decide) (hts _ tw_35) (fun _ h9 => h9) rfl d_E_work_21 ?_
    refine lv_aload_n hx hb d_E_work_24 rfl (lv_at hl 1 rfl) ?_
    refine va_get (D := D) (ci := 2) (v := .int (X 3 2)) (C := R_E) (T := F_E) (N := 7) hx hb hts i_E hown hK hP 3 rfl rfl 2 (by decide) (hts _ tw_36) (fun _ h9 => h9) rfl d_E_work_25 ?_
    refine va_iald (f := (X 5)) hx hb hK hP 5 0 rfl rfl (by first | assumption) d_E_work_28 ?_
    refine va_put (D := D) (ci := 2) (v := .int ((X 5) (ix (X 3 2)))) (ty := .int) (C := R_E) (T := F_E) (N := 7) hx hb hts i_E t_E t_E_ok n_E hown hK hP hD hS 3 rfl rfl 6 (by decide) (hts _ tw_43) (fun _ h9 => h9) rfl (t_E_ok 6 (by decide)) rfl rfl (Nat.le_of_ble_eq_true rfl) d_E_work_29 (fun H locs hP hD hS => ?_)
    have hP : va_P D classes ((wC cA h Rw) (pt X 3 6 ((X 5) (ix (X 3 2))))) H := hP
    have hD : va_D A ((wC cA h Rw) (pt X 3 6 ((X 5) (ix (X 3 2))))) := hD
    refine lv_aload_n hx hb d_E_work_32 rfl (lv_at hl 1 rfl) ?_
    refine lv_aload_n hx hb d_E_work_33 rfl (lv_at hl 1 rfl) ?_
    refine va_get (D := D) (ci := 2) (v := .int (X 3 2)) (C := R_E) (T := F_E) (N := 7) hx hb hts i_E hown hK hP 3 rfl rfl 2 (by decide) (hts _ tw_36) (fun _ h9 => h9) rfl d_E_work_34 ?_
    refine lv_iconst (v := 1) hx hb d_E_work_37 (by decide) ?_
    refine lv_iadd hx hb d_E_work_38 ?_
    refine lv_bipush (v := 64) hx hb d_E_work_39 (by decide) ?_
    refine lv_irem hx hb d_E_work_41 (by decide) ?_
    refine va_put (D := D) (ci := 2) (v := .int (((X 3 2) + 1) - ((X 3 2) + 1) / 64 * 64)) (ty := .int) (C := R_E) (T := F_E) (N := 7) hx hb hts i_E t_E t_E_ok n_E hown hK hP hD hS 3 rfl rfl 2 (by decide) (hts _ tw_36) (fun _ h9 => h9) rfl (t_E_ok 2 (by decide)) rfl rfl (Nat.le_of_ble_eq_true rfl) d_E_work_42 (fun H locs hP hD hS => ?_)
    have hP : va_P D classes ((wC cA h Rw) (pt (pt X 3 6 ((X 5) (ix (X 3 2)))) 3 2 (((X 3 2) + 1) - ((X 3 2) + 1) / 64 * 64))) H := hP
    have hD : va_D A ((wC cA h Rw) (pt (pt X 3 6 ((X 5) (ix (X 3 2)))) 3 2 (((X 3 2) + 1) - ((X 3 2) + 1) / 64 * 64))) := hD
    refine lv_aload_n hx hb d_E_work_45 rfl (lv_at hl 1 rfl) ?_
    refine lv_dup hx hb d_E_work_46 rfl ?_
    refine va_get (D := D) (ci := 2) (v := .int (X 3 3)) (C := R_E) (T := F_E) (N := 7) hx hb hts i_E hown hK hP 3 rfl rfl 3 (by decide) (hts _ tw_37) (fun _ h9 => h9) rfl d_E_work_47 ?_
    refine lv_iconst (v := 1) hx hb d_E_work_50 (by decide) ?_
    refine lv_isub hx hb d_E_work_51 ?_
    refine va_put (D := D) (ci := 2) (v := .int ((X 3 3) - 1)) (ty := .int) (C := R_E) (T := F_E) (N := 7) hx hb hts i_E t_E t_E_ok n_E hown hK hP hD hS 3 rfl rfl 3 (by decide) (hts _ tw_37) (fun _ h9 => h9) rfl (t_E_ok 3 (by decide)) rfl rfl (Nat.le_of_ble_eq_true rfl) d_E_work_52 (fun H locs hP hD hS => ?_)
    have hP : va_P D classes ((wC cA h Rw) (pt (pt (pt X 3 6 ((X 5) (ix (X 3 2)))) 3 2 (((X 3 2) + 1) - ((X 3 2) + 1) / 64 * 64)) 3 3 ((X 3 3) - 1))) H := hP
    have hD : va_D A ((wC cA h Rw) (pt (pt (pt X 3 6 ((X 5) (ix (X 3 2)))) 3 2 (((X 3 2) + 1) - ((X 3 2) + 1) / 64 * 64)) 3 3 ((X 3 3) - 1))) := hD
    refine lv_iload_n hx hb d_E_work_55 rfl (lv_at hl 0 rfl) ?_
    exact hend _ _ _ _ _ _ (by rw [sE_work, if_neg c_4] <;> rfl) hP hS d_E_work_56
  · refine lv_iconst (v := (-1)) hx hb d_E_work_7 (by decide) ?_
    exact hend _ _ _ _ _ _ (by rw [sE_work, if_pos c_4] <;> rfl) hP hS d_E_work_8
set_option maxHeartbeats 4000000 in
set_option maxRecDepth 100000 in
/-- Events.lose -/
theorem c_E_lose (l : Launch) (D : va_G) (cA : Nat → ClassId) (h : Nat → Nat) (Rw X : Sg) : Ct l y_E_lose b_E_lose 2 (some .int) 0 0 D cA [.ref (h 3)] (wC cA h Rw) X (sE_lose X) := by
  refine Ct.of rfl rfl (by decide +kernel) (Nat.le_of_ble_eq_true rfl) ?_
  intro p e s m below meth c A Q ls hx hb hml hown hts hKK hP hD hA hS hend hl
  have hown : s.vm.findClass R_E = some m.cls := hown
  have hl : lv_has ls 2 [(0, .ref (h 3))] := hl
  have hK := hKK.1
  refine lv_aload_n hx hb d_E_lose_0 rfl (lv_at hl 0 rfl) ?_
  refine va_get (D := D) (ci := 2) (v := .int (X 3 3)) (C := R_E) (T := F_E) (N := 7) hx hb hts i_E hown hK hP 3 rfl rfl 3 (by decide) (hts _ tw_37) (fun _ h9 => h9) rfl d_E_lose_1 ?_
  refine lv_istore_n (lv' := [(1, .int (X 3 3)), (0, .ref (h 3))]) hx hb d_E_lose_4 rfl hl (by decide) rfl (fun ls hl => ?_)
  refine lv_aload_n hx hb d_E_lose_5 rfl (lv_at hl 1 rfl) ?_
  refine lv_dup hx hb d_E_lose_6 rfl ?_
  refine va_get (D := D) (ci := 2) (v := .int (X 3 4)) (C := R_E) (T := F_E) (N := 7) hx hb hts i_E hown hK hP 3 rfl rfl 4 (by decide) (hts _ tw_39) (fun _ h9 => h9) rfl d_E_lose_7 ?_
  refine lv_iload_n hx hb d_E_lose_10 rfl (lv_at hl 0 rfl) ?_
  refine lv_iadd hx hb d_E_lose_11 ?_
  refine va_put (D := D) (ci := 2) (v := .int ((X 3 4) + (X 3 3))) (ty := .int) (C := R_E) (T := F_E) (N := 7) hx hb hts i_E t_E t_E_ok n_E hown hK hP hD hS 3 rfl rfl 4 (by decide) (hts _ tw_39) (fun _ h9 => h9) rfl (t_E_ok 4 (by decide)) rfl rfl (Nat.le_of_ble_eq_true rfl) d_E_lose_12 (fun H locs hP hD hS => ?_)
  have hP : va_P D classes ((wC cA h Rw) (pt X 3 4 ((X 3 4) + (X 3 3)))) H := hP
  have hD : va_D A ((wC cA h Rw) (pt X 3 4 ((X 3 4) + (X 3 3)))) := hD
  refine lv_aload_n hx hb d_E_lose_15 rfl (lv_at hl 1 rfl) ?_
  refine lv_iconst (v := 0) hx hb d_E_lose_16 (by decide) ?_
  refine va_put (D := D) (ci := 2) (v := .int 0) (ty := .int) (C := R_E) (T := F_E) (N := 7) hx hb hts i_E t_E t_E_ok n_E hown hK hP hD hS 3 rfl rfl 3 (by decide) (hts _ tw_37) (fun _ h9 => h9) rfl (t_E_ok 3 (by decide)) rfl rfl (Nat.le_of_ble_eq_true rfl) d_E_lose_17 (fun H locs hP hD hS => ?_)
  have hP : va_P D classes ((wC cA h Rw) (pt (pt X 3 4 ((X 3 4) + (X 3 3))) 3 3 0)) H := hP
  have hD : va_D A ((wC cA h Rw) (pt (pt X 3 4 ((X 3 4) + (X 3 3))) 3 3 0)) := hD
  refine lv_iload_n hx hb d_E_lose_20 rfl (lv_at hl 0 rfl) ?_
  exact hend _ _ _ _ _ _ (by rw [sE_lose] <;> rfl) hP hS d_E_lose_21
set_option maxHeartbeats 4000000 in
set_option maxRecDepth 100000 in
/-- Limits.is -/
theorem c_L_is (l : Launch) (D : va_G) (cA : Nat → ClassId) (h : Nat → Nat) (Rw X : Sg) (i0 : Int32) : Ct l y_L_is b_L_is 2 (some .boolean) 0 0 D cA [.ref (h 7), .int i0] (wC cA h Rw) X (sL_is X i0, X) := by
  refine Ct.of rfl (isZ_Lis X i0).nar (by decide +kernel) (Nat.le_of_ble_eq_true rfl) ?_
  intro p e s m below meth c A Q ls hx hb hml hown hts hKK hP hD hA hS hend hl
  have hown : s.vm.findClass R_L = some m.cls := hown
  have hl : lv_has ls 2 [(0, .ref (h 7)), (1, .int i0)] := hl
  have hK := hKK.1
  refine lv_iload_n hx hb d_L_is_0 rfl (lv_at hl 1 rfl) ?_
  refine lv_if_lt (tgt := 24) hx hb d_L_is_1 (by decide) (fun c_1 => ?_) (fun c_1 => ?_)
  · refine lv_iconst (v := 0) hx hb d_L_is_24 (by decide) ?_
    exact hend _ _ _ _ _ _ (by rw [sL_is, if_pos c_1] <;> rfl) hP hS d_L_is_25
  · refine lv_iload_n hx hb d_L_is_4 rfl (lv_at hl 1 rfl) ?_
    refine lv_sipush (v := 256) hx hb d_L_is_5 (by decide) ?_
    refine lv_icmp_ge (tgt := 24) hx hb d_L_is_8 (by decide) (fun c_8 => ?_) (fun c_8 => ?_)
    · refine lv_iconst (v := 0) hx hb d_L_is_24 (by decide) ?_
      exact hend _ _ _ _ _ _ (by rw [sL_is, if_neg c_1, if_pos c_8] <;> rfl) hP hS d_L_is_25
    · refine lv_aload_n hx hb d_L_is_11 rfl (lv_at hl 0 rfl) ?_
      refine va_get (D := D) (ci := 3) (v := .ref (h 8)) (C := R_L) (T := F_L) (N := 11) hx hb hts i_L hown hK hP 7 rfl rfl 0 (by decide) (hts _ tw_67) (fun _ h9 => h9) rfl d_L_is_12 ?_
      refine lv_iload_n hx hb d_L_is_15 rfl (lv_at hl 1 rfl) ?_
      refine va_zald (f := (X 8)) hx hb hK hP 8 1 rfl rfl (by first | assumption | exact vi256_lt (by assumption) (by assumption) | exact vi256_nle (by assumption) (by assumption) | exact vi256_le (by assumption) (by assumption)) d_L_is_16 ?_
      refine lv_if_eq (tgt := 24) hx hb d_L_is_17 (by decide) (fun c_17 => ?_) (fun c_17 => ?_)
      · refine lv_iconst (v := 0) hx hb d_L_is_24 (by decide) ?_
        exact hend _ _ _ _ _ _ (by rw [sL_is, if_neg c_1, if_neg c_8, if_pos c_17] <;> rfl) hP hS d_L_is_25
      · refine lv_iconst (v := 1) hx hb d_L_is_20 (by decide) ?_
        refine lv_goto (tgt := 25) hx hb d_L_is_21 (by decide) ?_
        exact hend _ _ _ _ _ _ (by rw [sL_is, if_neg c_1, if_neg c_8, if_neg c_17] <;> rfl) hP hS d_L_is_25
end
section
theorem lk_C_68 : LkS R_C 68 y_E_is b_E_is 1 (some .boolean) 1 := LkS.of tw_218 tw_166 tw_3 tw_167 (by decide +kernel)
theorem lk_L_40 : LkS R_L 40 y_E_is b_E_is 1 (some .boolean) 1 := LkS.of tw_165 tw_166 tw_3 tw_167 (by decide +kernel)
theorem lk_C_44 : LkV R_C 44 R_L y_L_add b_L_add 8 (some .int) 7 := LkV.of tw_161 tw_162 tw_163 tw_4 tw_164 (by decide +kernel)
theorem lk_C_48 : LkV R_C 48 R_L y_L_remove b_L_remove 2 (some .int) 1 := LkV.of tw_172 tw_173 tw_174 tw_4 tw_175 (by decide +kernel)
theorem lk_C_52 : LkV R_C 52 R_L y_L_enable b_L_enable 3 (some .int) 2 := LkV.of tw_184 tw_185 tw_186 tw_4 tw_187 (by decide +kernel)
theorem lk_C_72 : LkV R_C 72 R_E y_E_raise b_E_raise 4 (some .boolean) 2 := LkV.of tw_219 tw_207 tw_208 tw_3 tw_209 (by decide +kernel)
theorem lk_C_76 : LkV R_C 76 R_E y_E_work b_E_work 2 (some .int) 0 := LkV.of tw_224 tw_225 tw_226 tw_3 tw_227 (by decide +kernel)
theorem lk_C_80 : LkV R_C 80 R_E y_E_lose b_E_lose 2 (some .int) 0 := LkV.of tw_232 tw_233 tw_234 tw_3 tw_235 (by decide +kernel)
theorem lk_C_93 : LkV R_C 93 R_A y_A_drop b_A_drop 2 (some .int) 1 := LkV.of tw_259 tw_260 tw_261 tw_5 tw_262 (by decide +kernel)
theorem lk_C_96 : LkV R_C 96 R_A y_A_arm b_A_arm 3 (some .int) 2 := LkV.of tw_267 tw_268 tw_269 tw_5 tw_270 (by decide +kernel)
theorem lk_C_99 : LkV R_C 99 R_L y_L_is b_L_is 2 (some .boolean) 1 := LkV.of tw_275 tw_177 tw_178 tw_4 tw_179 (by decide +kernel)
theorem lk_L_50 : LkV R_L 50 R_L y_L_is b_L_is 2 (some .boolean) 1 := LkV.of tw_176 tw_177 tw_178 tw_4 tw_179 (by decide +kernel)
set_option maxHeartbeats 4000000 in
set_option maxRecDepth 100000 in
/-- Limits.add -/
theorem c_L_add (l : Launch) (D : va_G) (cA : Nat → ClassId) (h : Nat → Nat) (Rw X : Sg) (i0 : Int32) (p0 : Int32) (o0 : Int32) (l0 : Int32) (u0 : Int32) (e0 : Int32) (k0 : Int32) : Ct l y_L_add b_L_add 8 (some .int) 1 20 D cA [.ref (h 7), .int i0, .int p0, .int o0, .int l0, .int u0, .int e0, .int k0] (wC cA h Rw) X (sL_add X i0 p0 o0 l0 u0 e0 k0) := by
  refine Ct.of rfl rfl (by decide +kernel) (Nat.le_of_ble_eq_true rfl) ?_
  intro p e s m below meth c A Q ls hx hb hml hown hts hKK hP hD hA hS hend hl
  have hown : s.vm.findClass R_L = some m.cls := hown
  have hl : lv_has ls 8 [(0, .ref (h 7)), (1, .int i0), (2, .int p0), (3, .int o0), (4, .int l0), (5, .int u0), (6, .int e0), (7, .int k0)] := hl
  have hK := hKK.1
  refine lv_iload_n hx hb d_L_add_0 rfl (lv_at hl 3 rfl) ?_
  refine lv_iconst (v := 1) hx hb d_L_add_1 (by decide) ?_
  refine lv_icmp_lt (tgt := 48) hx hb d_L_add_2 (by decide) (fun c_2 => ?_) (fun c_2 => ?_)
  · refine lv_bipush (v := 13) hx hb d_L_add_48 (by decide) ?_
    exact hend _ _ _ _ _ _ (by rw [sL_add, if_pos c_2] <;> rfl) hP hS d_L_add_50
  · refine lv_iload_n hx hb d_L_add_5 rfl (lv_at hl 3 rfl) ?_
    refine lv_sipush (v := 255) hx hb d_L_add_6 (by decide) ?_
    refine lv_icmp_gt (tgt := 48) hx hb d_L_add_9 (by decide) (fun c_9 => ?_) (fun c_9 => ?_)
    · refine lv_bipush (v := 13) hx hb d_L_add_48 (by decide) ?_
      exact hend _ _ _ _ _ _ (by rw [sL_add, if_neg c_2, if_pos c_9] <;> rfl) hP hS d_L_add_50
    · refine lv_iload hx hb d_L_add_12 (lv_at hl 4 rfl) ?_
      refine lv_iload hx hb d_L_add_14 (lv_at hl 5 rfl) ?_
      refine lv_icmp_gt (tgt := 48) hx hb d_L_add_16 (by decide) (fun c_16 => ?_) (fun c_16 => ?_)
      · refine lv_bipush (v := 13) hx hb d_L_add_48 (by decide) ?_
        exact hend _ _ _ _ _ _ (by rw [sL_add, if_neg c_2, if_neg c_9, if_pos c_16] <;> rfl) hP hS d_L_add_50
      · refine lv_iload_n hx hb d_L_add_19 rfl (lv_at hl 2 rfl) ?_
        refine lv_if_lt (tgt := 48) hx hb d_L_add_20 (by decide) (fun c_20 => ?_) (fun c_20 => ?_)
        · refine lv_bipush (v := 13) hx hb d_L_add_48 (by decide) ?_
          exact hend _ _ _ _ _ _ (by rw [sL_add, if_neg c_2, if_neg c_9, if_neg c_16, if_pos c_20] <;> rfl) hP hS d_L_add_50
        · refine lv_iload_n hx hb d_L_add_23 rfl (lv_at hl 2 rfl) ?_
          refine lv_bipush (v := 32) hx hb d_L_add_24 (by decide) ?_
          refine lv_icmp_ge (tgt := 48) hx hb d_L_add_26 (by decide) (fun c_26 => ?_) (fun c_26 => ?_)
          · refine lv_bipush (v := 13) hx hb d_L_add_48 (by decide) ?_
            exact hend _ _ _ _ _ _ (by rw [sL_add, if_neg c_2, if_neg c_9, if_neg c_16, if_neg c_20, if_pos c_26] <;> rfl) hP hS d_L_add_50
          · refine lv_iload hx hb d_L_add_29 (lv_at hl 6 rfl) ?_
            refine cS (rr := (sE_is e0)) (X' := X) (c_E_is l D cA (wC cA h Rw) X e0) lk_L_40 hx hb hml hown hts hKK hP hD hS hA hl.1 ⟨by decide, by decide⟩ ⟨Nat.le_refl _, Nat.le_refl _⟩ rfl rfl rfl (Nat.le_of_ble_eq_true rfl) d_L_add_31 (fun H locs hP hD hS => ?_)
            refine lv_if_eq (tgt := 48) hx hb d_L_add_34 (by decide) (fun c_34 => ?_) (fun c_34 => ?_)
            · refine lv_bipush (v := 13) hx hb d_L_add_48 (by decide) ?_
              exact hend _ _ _ _ _ _ (by rw [sL_add, if_neg c_2, if_neg c_9, if_neg c_16, if_neg c_20, if_neg c_26, if_pos c_34] <;> rfl) hP hS d_L_add_50
            · refine lv_iload_n hx hb d_L_add_37 rfl (lv_at hl 1 rfl) ?_
              refine lv_if_lt (tgt := 48) hx hb d_L_add_38 (by decide) (fun c_38 => ?_) (fun c_38 => ?_)
              · refine lv_bipush (v := 13) hx hb d_L_add_48 (by decide) ?_
                exact hend _ _ _ _ _ _ (by rw [sL_add, if_neg c_2, if_neg c_9, if_neg c_16, if_neg c_20, if_neg c_26, if_neg c_34, if_pos c_38] <;> rfl) hP hS d_L_add_50
              · refine lv_iload_n hx hb d_L_add_41 rfl (lv_at hl 1 rfl) ?_
                refine lv_sipush (v := 256) hx hb d_L_add_42 (by decide) ?_
                refine lv_icmp_lt (tgt := 51) hx hb d_L_add_45 (by decide) (fun c_45 => ?_) (fun c_45 => ?_)
                · refine lv_aload_n hx hb d_L_add_51 rfl (lv_at hl 0 rfl) ?_
                  refine va_get (D := D) (ci := 3) (v := .ref (h 8)) (C := R_L) (T := F_L) (N := 11) hx hb hts i_L hown hK hP 7 rfl rfl 0 (by decide) (hts _ tw_67) (fun _ h9 => h9) rfl d_L_add_52 ?_
                  refine lv_iload_n hx hb d_L_add_55 rfl (lv_at hl 1 rfl) ?_
                  refine va_zald (f := (X 8)) hx hb hK hP 8 1 rfl rfl (by first | assumption | exact vi256_lt (by assumption) (by assumption) | exact vi256_nle (by assumption) (by assumption) | exact vi256_le (by assumption) (by assumption)) d_L_add_56 ?_
                  refine lv_if_eq (tgt := 63) hx hb d_L_add_57 (by decide) (fun c_57 => ?_) (fun c_57 => ?_)
                  · refine lv_aload_n hx hb d_L_add_63 rfl (lv_at hl 0 rfl) ?_
                    refine va_get (D := D) (ci := 3) (v := .int (X 7 9)) (C := R_L) (T := F_L) (N := 11) hx hb hts i_L hown hK hP 7 rfl rfl 9 (by decide) (hts _ tw_82) (fun _ h9 => h9) rfl d_L_add_64 ?_
                    refine lv_bipush (v := 16) hx hb d_L_add_67 (by decide) ?_
                    refine lv_icmp_ne (tgt := 75) hx hb d_L_add_69 (by decide) (fun c_69 => ?_) (fun c_69 => ?_)
                    · refine lv_aload_n hx hb d_L_add_75 rfl (lv_at hl 0 rfl) ?_
                      refine va_get (D := D) (ci := 3) (v := .ref (h 8)) (C := R_L) (T := F_L) (N := 11) hx hb hts i_L hown hK hP 7 rfl rfl 0 (by decide) (hts _ tw_67) (fun _ h9 => h9) rfl d_L_add_76 ?_
                      refine lv_iload_n hx hb d_L_add_79 rfl (lv_at hl 1 rfl) ?_
                      refine lv_iconst (v := 1) hx hb d_L_add_80 (by decide) ?_
                      refine va_zast (f := (X 8)) hx hb hK hP hD hS 8 1 rfl rfl (by first | assumption | exact vi256_lt (by assumption) (by assumption) | exact vi256_nle (by assumption) (by assumption) | exact vi256_le (by assumption) (by assumption)) d_L_add_81 (fun H locs hP hD hS => ?_)
                      have hP : va_P D classes ((wC cA h Rw) (pt X 8 (ix i0) (nz 1))) H := hP
                      have hD : va_D A ((wC cA h Rw) (pt X 8 (ix i0) (nz 1))) := hD
                      refine lv_aload_n hx hb d_L_add_82 rfl (lv_at hl 0 rfl) ?_
                      refine va_get (D := D) (ci := 3) (v := .ref (h 9)) (C := R_L) (T := F_L) (N := 11) hx hb hts i_L hown hK hP 7 rfl rfl 1 (by decide) (hts _ tw_68) (fun _ h9 => h9) rfl d_L_add_83 ?_
                      refine lv_iload_n hx hb d_L_add_86 rfl (lv_at hl 1 rfl) ?_
                      refine lv_iconst (v := 0) hx hb d_L_add_87 (by decide) ?_
                      refine va_zast (f := (X 9)) hx hb hK hP hD hS 9 1 rfl rfl (by first | assumption | exact vi256_lt (by assumption) (by assumption) | exact vi256_nle (by assumption) (by assumption) | exact vi256_le (by assumption) (by assumption)) d_L_add_88 (fun H locs hP hD hS => ?_)
                      have hP : va_P D classes ((wC cA h Rw) (pt (pt X 8 (ix i0) (nz 1)) 9 (ix i0) (nz 0))) H := hP
                      have hD : va_D A ((wC cA h Rw) (pt (pt X 8 (ix i0) (nz 1)) 9 (ix i0) (nz 0))) := hD
                      refine lv_aload_n hx hb d_L_add_89 rfl (lv_at hl 0 rfl) ?_
                      refine va_get (D := D) (ci := 3) (v := .ref (h 10)) (C := R_L) (T := F_L) (N := 11) hx hb hts i_L hown hK hP 7 rfl rfl 2 (by decide) (hts _ tw_70) (fun _ h9 => h9) rfl d_L_add_90 ?_
                      refine lv_iload_n hx hb d_L_add_93 rfl (lv_at hl 1 rfl) ?_
                      refine lv_iload hx hb d_L_add_94 (lv_at hl 7 rfl) ?_
                      refine va_zast (f := (X 10)) hx hb hK hP hD hS 10 1 rfl rfl (by first | assumption | exact vi256_lt (by assumption) (by assumption) | exact vi256_nle (by assumption) (by assumption) | exact vi256_le (by assumption) (by assumption)) d_L_add_96 (fun H locs hP hD hS => ?_)
                      have hP : va_P D classes ((wC cA h Rw) (pt (pt (pt X 8 (ix i0) (nz 1)) 9 (ix i0) (nz 0)) 10 (ix i0) (nz k0))) H := hP
                      have hD : va_D A ((wC cA h Rw) (pt (pt (pt X 8 (ix i0) (nz 1)) 9 (ix i0) (nz 0)) 10 (ix i0) (nz k0))) := hD
                      refine lv_aload_n hx hb d_L_add_97 rfl (lv_at hl 0 rfl) ?_
                      refine va_get (D := D) (ci := 3) (v := .ref (h 11)) (C := R_L) (T := F_L) (N := 11) hx hb hts i_L hown hK hP 7 rfl rfl 3 (by decide) (hts _ tw_72) (fun _ h9 => h9) rfl d_L_add_98 ?_
                      refine lv_iload_n hx hb d_L_add_101 rfl (lv_at hl 1 rfl) ?_
                      refine lv_iload_n hx hb d_L_add_102 rfl (lv_at hl 2 rfl) ?_
                      refine va_iast (f := (X 11)) hx hb hK hP hD hS 11 0 rfl rfl (by first | assumption | exact vi256_lt (by assumption) (by assumption) | exact vi256_nle (by assumption) (by assumption) | exact vi256_le (by assumption) (by assumption)) d_L_add_103 (fun H locs hP hD hS => ?_)
                      have hP : va_P D classes ((wC cA h Rw) (pt (pt (pt (pt X 8 (ix i0) (nz 1)) 9 (ix i0) (nz 0)) 10 (ix i0) (nz k0)) 11 (ix i0) p0)) H := hP
                      have hD : va_D A ((wC cA h Rw) (pt (pt (pt (pt X 8 (ix i0) (nz 1)) 9 (ix i0) (nz 0)) 10 (ix i0) (nz k0)) 11 (ix i0) p0)) := hD
                      refine lv_aload_n hx hb d_L_add_104 rfl (lv_at hl 0 rfl) ?_
                      refine va_get (D := D) (ci := 3) (v := .ref (h 12)) (C := R_L) (T := F_L) (N := 11) hx hb hts i_L hown hK hP 7 rfl rfl 4 (by decide) (hts _ tw_74) (fun _ h9 => h9) rfl d_L_add_105 ?_
                      refine lv_iload_n hx hb d_L_add_108 rfl (lv_at hl 1 rfl) ?_
                      refine lv_iload_n hx hb d_L_add_109 rfl (lv_at hl 3 rfl) ?_
                      refine va_iast (f := (X 12)) hx hb hK hP hD hS 12 0 rfl rfl (by first | assumption | exact vi256_lt (by assumption) (by assumption) | exact vi256_nle (by assumption) (by assumption) | exact vi256_le (by assumption) (by assumption)) d_L_add_110 (fun H locs hP hD hS => ?_)
                      have hP : va_P D classes ((wC cA h Rw) (pt (pt (pt (pt (pt X 8 (ix i0) (nz 1)) 9 (ix i0) (nz 0)) 10 (ix i0) (nz k0)) 11 (ix i0) p0) 12 (ix i0) o0)) H := hP
                      have hD : va_D A ((wC cA h Rw) (pt (pt (pt (pt (pt X 8 (ix i0) (nz 1)) 9 (ix i0) (nz 0)) 10 (ix i0) (nz k0)) 11 (ix i0) p0) 12 (ix i0) o0)) := hD
                      refine lv_aload_n hx hb d_L_add_111 rfl (lv_at hl 0 rfl) ?_
                      refine va_get (D := D) (ci := 3) (v := .ref (h 13)) (C := R_L) (T := F_L) (N := 11) hx hb hts i_L hown hK hP 7 rfl rfl 5 (by decide) (hts _ tw_76) (fun _ h9 => h9) rfl d_L_add_112 ?_
                      refine lv_iload_n hx hb d_L_add_115 rfl (lv_at hl 1 rfl) ?_
                      refine lv_iload hx hb d_L_add_116 (lv_at hl 4 rfl) ?_
                      refine va_iast (f := (X 13)) hx hb hK hP hD hS 13 0 rfl rfl (by first | assumption | exact vi256_lt (by assumption) (by assumption) | exact vi256_nle (by assumption) (by assumption) | exact vi256_le (by assumption) (by assumption)) d_L_add_118 (fun H locs hP hD hS => ?_)
                      have hP : va_P D classes ((wC cA h Rw) (pt (pt (pt (pt (pt (pt X 8 (ix i0) (nz 1)) 9 (ix i0) (nz 0)) 10 (ix i0) (nz k0)) 11 (ix i0) p0) 12 (ix i0) o0) 13 (ix i0) l0)) H := hP
                      have hD : va_D A ((wC cA h Rw) (pt (pt (pt (pt (pt (pt X 8 (ix i0) (nz 1)) 9 (ix i0) (nz 0)) 10 (ix i0) (nz k0)) 11 (ix i0) p0) 12 (ix i0) o0) 13 (ix i0) l0)) := hD
                      refine lv_aload_n hx hb d_L_add_119 rfl (lv_at hl 0 rfl) ?_
                      refine va_get (D := D) (ci := 3) (v := .ref (h 14)) (C := R_L) (T := F_L) (N := 11) hx hb hts i_L hown hK hP 7 rfl rfl 6 (by decide) (hts _ tw_77) (fun _ h9 => h9) rfl d_L_add_120 ?_
                      refine lv_iload_n hx hb d_L_add_123 rfl (lv_at hl 1 rfl) ?_
                      refine lv_iload hx hb d_L_add_124 (lv_at hl 5 rfl) ?_
                      refine va_iast (f := (X 14)) hx hb hK hP hD hS 14 0 rfl rfl (by first | assumption | exact vi256_lt (by assumption) (by assumption) | exact vi256_nle (by assumption) (by assumption) | exact vi256_le (by assumption) (by assumption)) d_L_add_126 (fun H locs hP hD hS => ?_)
                      have hP : va_P D classes ((wC cA h Rw) (pt (pt (pt (pt (pt (pt (pt X 8 (ix i0) (nz 1)) 9 (ix i0) (nz 0)) 10 (ix i0) (nz k0)) 11 (ix i0) p0) 12 (ix i0) o0) 13 (ix i0) l0) 14 (ix i0) u0)) H := hP
                      have hD : va_D A ((wC cA h Rw) (pt (pt (pt (pt (pt (pt (pt X 8 (ix i0) (nz 1)) 9 (ix i0) (nz 0)) 10 (ix i0) (nz k0)) 11 (ix i0) p0) 12 (ix i0) o0) 13 (ix i0) l0) 14 (ix i0) u0)) := hD
                      refine lv_aload_n hx hb d_L_add_127 rfl (lv_at hl 0 rfl) ?_
                      refine va_get (D := D) (ci := 3) (v := .ref (h 15)) (C := R_L) (T := F_L) (N := 11) hx hb hts i_L hown hK hP 7 rfl rfl 7 (by decide) (hts _ tw_78) (fun _ h9 => h9) rfl d_L_add_128 ?_
                      refine lv_iload_n hx hb d_L_add_131 rfl (lv_at hl 1 rfl) ?_
                      refine lv_iload hx hb d_L_add_132 (lv_at hl 6 rfl) ?_
                      refine va_iast (f := (X 15)) hx hb hK hP hD hS 15 0 rfl rfl (by first | assumption | exact vi256_lt (by assumption) (by assumption) | exact vi256_nle (by assumption) (by assumption) | exact vi256_le (by assumption) (by assumption)) d_L_add_134 (fun H locs hP hD hS => ?_)
                      have hP : va_P D classes ((wC cA h Rw) (pt (pt (pt (pt (pt (pt (pt (pt X 8 (ix i0) (nz 1)) 9 (ix i0) (nz 0)) 10 (ix i0) (nz k0)) 11 (ix i0) p0) 12 (ix i0) o0) 13 (ix i0) l0) 14 (ix i0) u0) 15 (ix i0) e0)) H := hP
                      have hD : va_D A ((wC cA h Rw) (pt (pt (pt (pt (pt (pt (pt (pt X 8 (ix i0) (nz 1)) 9 (ix i0) (nz 0)) 10 (ix i0) (nz k0)) 11 (ix i0) p0) 12 (ix i0) o0) 13 (ix i0) l0) 14 (ix i0) u0) 15 (ix i0) e0)) := hD
                      refine lv_aload_n hx hb d_L_add_135 rfl (lv_at hl 0 rfl) ?_
                      refine va_get (D := D) (ci := 3) (v := .ref (h 16)) (C := R_L) (T := F_L) (N := 11) hx hb hts i_L hown hK hP 7 rfl rfl 8 (by decide) (hts _ tw_80) (fun _ h9 => h9) rfl d_L_add_136 ?_
                      refine lv_iload_n hx hb d_L_add_139 rfl (lv_at hl 1 rfl) ?_
                      refine lv_iconst (v := 0) hx hb d_L_add_140 (by decide) ?_
                      refine va_iast (f := (X 16)) hx hb hK hP hD hS 16 0 rfl rfl (by first | assumption | exact vi256_lt (by assumption) (by assumption) | exact vi256_nle (by assumption) (by assumption) | exact vi256_le (by assumption) (by assumption)) d_L_add_141 (fun H locs hP hD hS => ?_)
                      have hP : va_P D classes ((wC cA h Rw) (pt (pt (pt (pt (pt (pt (pt (pt (pt X 8 (ix i0) (nz 1)) 9 (ix i0) (nz 0)) 10 (ix i0) (nz k0)) 11 (ix i0) p0) 12 (ix i0) o0) 13 (ix i0) l0) 14 (ix i0) u0) 15 (ix i0) e0) 16 (ix i0) 0)) H := hP
                      have hD : va_D A ((wC cA h Rw) (pt (pt (pt (pt (pt (pt (pt (pt (pt X 8 (ix i0) (nz 1)) 9 (ix i0) (nz 0)) 10 (ix i0) (nz k0)) 11 (ix i0) p0) 12 (ix i0) o0) 13 (ix i0) l0) 14 (ix i0) u0) 15 (ix i0) e0) 16 (ix i0) 0)) := hD
                      refine lv_aload_n hx hb d_L_add_142 rfl (lv_at hl 0 rfl) ?_
                      refine lv_dup hx hb d_L_add_143 rfl ?_
                      refine va_get (D := D) (ci := 3) (v := .int (X 7 9)) (C := R_L) (T := F_L) (N := 11) hx hb hts i_L hown hK hP 7 rfl rfl 9 (by decide) (hts _ tw_82) (fun _ h9 => h9) rfl d_L_add_144 ?_
                      refine lv_iconst (v := 1) hx hb d_L_add_147 (by decide) ?_
                      refine lv_iadd hx hb d_L_add_148 ?_
                      refine va_put (D := D) (ci := 3) (v := .int ((X 7 9) + 1)) (ty := .int) (C := R_L) (T := F_L) (N := 11) hx hb hts i_L t_L t_L_ok n_L hown hK hP hD hS 7 rfl rfl 9 (by decide) (hts _ tw_82) (fun _ h9 => h9) rfl (t_L_ok 9 (by decide)) rfl rfl (Nat.le_of_ble_eq_true rfl) d_L_add_149 (fun H locs hP hD hS => ?_)
                      have hP : va_P D classes ((wC cA h Rw) (pt (pt (pt (pt (pt (pt (pt (pt (pt (pt X 8 (ix i0) (nz 1)) 9 (ix i0) (nz 0)) 10 (ix i0) (nz k0)) 11 (ix i0) p0) 12 (ix i0) o0) 13 (ix i0) l0) 14 (ix i0) u0) 15 (ix i0) e0) 16 (ix i0) 0) 7 9 ((X 7 9) + 1))) H := hP
                      have hD : va_D A ((wC cA h Rw) (pt (pt (pt (pt (pt (pt (pt (pt (pt (pt X 8 (ix i0) (nz 1)) 9 (ix i0) (nz 0)) 10 (ix i0) (nz k0)) 11 (ix i0) p0) 12 (ix i0) o0) 13 (ix i0) l0) 14 (ix i0) u0) 15 (ix i0) e0) 16 (ix i0) 0) 7 9 ((X 7 9) + 1))) := hD
                      refine lv_iconst (v := 0) hx hb d_L_add_152 (by decide) ?_
                      exact hend _ _ _ _ _ _ (by rw [sL_add, if_neg c_2, if_neg c_9, if_neg c_16, if_neg c_20, if_neg c_26, if_neg c_34, if_neg c_38, if_pos c_45, if_pos c_57, if_neg c_69] <;> rfl) hP hS d_L_add_153
                    · refine lv_bipush (v := 26) hx hb d_L_add_72 (by decide) ?_
                      exact hend _ _ _ _ _ _ (by rw [sL_add, if_neg c_2, if_neg c_9, if_neg c_16, if_neg c_20, if_neg c_26, if_neg c_34, if_neg c_38, if_pos c_45, if_pos c_57, if_pos c_69] <;> rfl) hP hS d_L_add_74
                  · refine lv_bipush (v := 25) hx hb d_L_add_60 (by decide) ?_
                    exact hend _ _ _ _ _ _ (by rw [sL_add, if_neg c_2, if_neg c_9, if_neg c_16, if_neg c_20, if_neg c_26, if_neg c_34, if_neg c_38, if_pos c_45, if_neg c_57] <;> rfl) hP hS d_L_add_62
                · refine lv_bipush (v := 13) hx hb d_L_add_48 (by decide) ?_
                  exact hend _ _ _ _ _ _ (by rw [sL_add, if_neg c_2, if_neg c_9, if_neg c_16, if_neg c_20, if_neg c_26, if_neg c_34, if_neg c_38, if_neg c_45] <;> rfl) hP hS d_L_add_50
set_option maxHeartbeats 4000000 in
set_option maxRecDepth 100000 in
/-- Limits.remove -/
theorem c_L_remove (l : Launch) (D : va_G) (cA : Nat → ClassId) (h : Nat → Nat) (Rw X : Sg) (i0 : Int32) : Ct l y_L_remove b_L_remove 2 (some .int) 1 21 D cA [.ref (h 7), .int i0] (wC cA h Rw) X (sL_remove X i0) := by
  refine Ct.of rfl rfl (by decide +kernel) (Nat.le_of_ble_eq_true rfl) ?_
  intro p e s m below meth c A Q ls hx hb hml hown hts hKK hP hD hA hS hend hl
  have hown : s.vm.findClass R_L = some m.cls := hown
  have hl : lv_has ls 2 [(0, .ref (h 7)), (1, .int i0)] := hl
  have hK := hKK.1
  refine lv_aload_n hx hb d_L_remove_0 rfl (lv_at hl 0 rfl) ?_
  refine lv_iload_n hx hb d_L_remove_1 rfl (lv_at hl 1 rfl) ?_
  refine cV (rr := (sL_is X i0)) (X' := X) (c_L_is l D cA h Rw X i0) lk_L_50 hx hb hml hown hts hKK hP hD hS hA hl.1 7 rfl rfl rfl ⟨by decide, by decide⟩ ⟨Nat.le_refl _, Nat.le_refl _⟩ rfl wC_adr rfl (Nat.le_of_ble_eq_true rfl) d_L_remove_2 (fun H locs hP hD hS => ?_)
  refine lv_if_ne (tgt := 11) hx hb d_L_remove_5 (by decide) (fun c_5 => ?_) (fun c_5 => ?_)
  · have hi := sL_is_in c_5
    refine lv_aload_n hx hb d_L_remove_11 rfl (lv_at hl 0 rfl) ?_
    refine va_get (D := D) (ci := 3) (v := .ref (h 9)) (C := R_L) (T := F_L) (N := 11) hx hb hts i_L hown hK hP 7 rfl rfl 1 (by decide) (hts _ tw_68) (fun _ h9 => h9) rfl d_L_remove_12 ?_
    refine lv_iload_n hx hb d_L_remove_15 rfl (lv_at hl 1 rfl) ?_
    refine va_zald (f := (X 9)) hx hb hK hP 9 1 rfl rfl (by first | assumption | exact vi256_lt (by assumption) (by assumption) | exact vi256_nle (by assumption) (by assumption) | exact vi256_le (by assumption) (by assumption)) d_L_remove_16 ?_
    refine lv_if_eq (tgt := 23) hx hb d_L_remove_17 (by decide) (fun c_17 => ?_) (fun c_17 => ?_)
    · refine lv_aload_n hx hb d_L_remove_23 rfl (lv_at hl 0 rfl) ?_
      refine va_get (D := D) (ci := 3) (v := .ref (h 8)) (C := R_L) (T := F_L) (N := 11) hx hb hts i_L hown hK hP 7 rfl rfl 0 (by decide) (hts _ tw_67) (fun _ h9 => h9) rfl d_L_remove_24 ?_
      refine lv_iload_n hx hb d_L_remove_27 rfl (lv_at hl 1 rfl) ?_
      refine lv_iconst (v := 0) hx hb d_L_remove_28 (by decide) ?_
      refine va_zast (f := (X 8)) hx hb hK hP hD hS 8 1 rfl rfl (by first | assumption | exact vi256_lt (by assumption) (by assumption) | exact vi256_nle (by assumption) (by assumption) | exact vi256_le (by assumption) (by assumption)) d_L_remove_29 (fun H locs hP hD hS => ?_)
      have hP : va_P D classes ((wC cA h Rw) (pt X 8 (ix i0) (nz 0))) H := hP
      have hD : va_D A ((wC cA h Rw) (pt X 8 (ix i0) (nz 0))) := hD
      refine lv_aload_n hx hb d_L_remove_30 rfl (lv_at hl 0 rfl) ?_
      refine lv_dup hx hb d_L_remove_31 rfl ?_
      refine va_get (D := D) (ci := 3) (v := .int (X 7 9)) (C := R_L) (T := F_L) (N := 11) hx hb hts i_L hown hK hP 7 rfl rfl 9 (by decide) (hts _ tw_82) (fun _ h9 => h9) rfl d_L_remove_32 ?_
      refine lv_iconst (v := 1) hx hb d_L_remove_35 (by decide) ?_
      refine lv_isub hx hb d_L_remove_36 ?_
      refine va_put (D := D) (ci := 3) (v := .int ((X 7 9) - 1)) (ty := .int) (C := R_L) (T := F_L) (N := 11) hx hb hts i_L t_L t_L_ok n_L hown hK hP hD hS 7 rfl rfl 9 (by decide) (hts _ tw_82) (fun _ h9 => h9) rfl (t_L_ok 9 (by decide)) rfl rfl (Nat.le_of_ble_eq_true rfl) d_L_remove_37 (fun H locs hP hD hS => ?_)
      have hP : va_P D classes ((wC cA h Rw) (pt (pt X 8 (ix i0) (nz 0)) 7 9 ((X 7 9) - 1))) H := hP
      have hD : va_D A ((wC cA h Rw) (pt (pt X 8 (ix i0) (nz 0)) 7 9 ((X 7 9) - 1))) := hD
      refine lv_iconst (v := 0) hx hb d_L_remove_40 (by decide) ?_
      exact hend _ _ _ _ _ _ (by rw [sL_remove, if_neg c_5, if_pos c_17] <;> rfl) hP hS d_L_remove_41
    · refine lv_bipush (v := 15) hx hb d_L_remove_20 (by decide) ?_
      exact hend _ _ _ _ _ _ (by rw [sL_remove, if_neg c_5, if_neg c_17] <;> rfl) hP hS d_L_remove_22
  · refine lv_bipush (v := 27) hx hb d_L_remove_8 (by decide) ?_
    exact hend _ _ _ _ _ _ (by rw [sL_remove, if_pos c_5] <;> rfl) hP hS d_L_remove_10
set_option maxHeartbeats 4000000 in
set_option maxRecDepth 100000 in
/-- Limits.enable -/
theorem c_L_enable (l : Launch) (D : va_G) (cA : Nat → ClassId) (h : Nat → Nat) (Rw X : Sg) (i0 : Int32) (z0 : Int32) : Ct l y_L_enable b_L_enable 3 (some .int) 1 21 D cA [.ref (h 7), .int i0, .int z0] (wC cA h Rw) X (sL_enable X i0 z0) := by
  refine Ct.of rfl rfl (by decide +kernel) (Nat.le_of_ble_eq_true rfl) ?_
  intro p e s m below meth c A Q ls hx hb hml hown hts hKK hP hD hA hS hend hl
  have hown : s.vm.findClass R_L = some m.cls := hown
  have hl : lv_has ls 3 [(0, .ref (h 7)), (1, .int i0), (2, .int z0)] := hl
  have hK := hKK.1
  refine lv_aload_n hx hb d_L_enable_0 rfl (lv_at hl 0 rfl) ?_
  refine lv_iload_n hx hb d_L_enable_1 rfl (lv_at hl 1 rfl) ?_
  refine cV (rr := (sL_is X i0)) (X' := X) (c_L_is l D cA h Rw X i0) lk_L_50 hx hb hml hown hts hKK hP hD hS hA hl.1 7 rfl rfl rfl ⟨by decide, by decide⟩ ⟨Nat.le_refl _, Nat.le_refl _⟩ rfl wC_adr rfl (Nat.le_of_ble_eq_true rfl) d_L_enable_2 (fun H locs hP hD hS => ?_)
  refine lv_if_ne (tgt := 11) hx hb d_L_enable_5 (by decide) (fun c_5 => ?_) (fun c_5 => ?_)
  · have hi := sL_is_in c_5
    refine lv_aload_n hx hb d_L_enable_11 rfl (lv_at hl 0 rfl) ?_
    refine va_get (D := D) (ci := 3) (v := .ref (h 9)) (C := R_L) (T := F_L) (N := 11) hx hb hts i_L hown hK hP 7 rfl rfl 1 (by decide) (hts _ tw_68) (fun _ h9 => h9) rfl d_L_enable_12 ?_
    refine lv_iload_n hx hb d_L_enable_15 rfl (lv_at hl 1 rfl) ?_
    refine lv_iload_n hx hb d_L_enable_16 rfl (lv_at hl 2 rfl) ?_
    refine va_zast (f := (X 9)) hx hb hK hP hD hS 9 1 rfl rfl (by first | assumption | exact vi256_lt (by assumption) (by assumption) | exact vi256_nle (by assumption) (by assumption) | exact vi256_le (by assumption) (by assumption)) d_L_enable_17 (fun H locs hP hD hS => ?_)
    have hP : va_P D classes ((wC cA h Rw) (pt X 9 (ix i0) (nz z0))) H := hP
    have hD : va_D A ((wC cA h Rw) (pt X 9 (ix i0) (nz z0))) := hD
    refine lv_aload_n hx hb d_L_enable_18 rfl (lv_at hl 0 rfl) ?_
    refine va_get (D := D) (ci := 3) (v := .ref (h 16)) (C := R_L) (T := F_L) (N := 11) hx hb hts i_L hown hK hP 7 rfl rfl 8 (by decide) (hts _ tw_80) (fun _ h9 => h9) rfl d_L_enable_19 ?_
    refine lv_iload_n hx hb d_L_enable_22 rfl (lv_at hl 1 rfl) ?_
    refine lv_iconst (v := 0) hx hb d_L_enable_23 (by decide) ?_
    refine va_iast (f := (X 16)) hx hb hK hP hD hS 16 0 rfl rfl (by first | assumption | exact vi256_lt (by assumption) (by assumption) | exact vi256_nle (by assumption) (by assumption) | exact vi256_le (by assumption) (by assumption)) d_L_enable_24 (fun H locs hP hD hS => ?_)
    have hP : va_P D classes ((wC cA h Rw) (pt (pt X 9 (ix i0) (nz z0)) 16 (ix i0) 0)) H := hP
    have hD : va_D A ((wC cA h Rw) (pt (pt X 9 (ix i0) (nz z0)) 16 (ix i0) 0)) := hD
    refine lv_iconst (v := 0) hx hb d_L_enable_25 (by decide) ?_
    exact hend _ _ _ _ _ _ (by rw [sL_enable, if_neg c_5] <;> rfl) hP hS d_L_enable_26
  · refine lv_bipush (v := 27) hx hb d_L_enable_8 (by decide) ?_
    exact hend _ _ _ _ _ _ (by rw [sL_enable, if_pos c_5] <;> rfl) hP hS d_L_enable_10
set_option maxHeartbeats 4000000 in
set_option maxRecDepth 100000 in
/-- Numbers.value -/
theorem c_N_value (l : Launch) (D : va_G) (cA : Nat → ClassId) (h : Nat → Nat) (Rw X : Sg) (k0 : Int32) (hk : vp_in k0 32) : Ct l y_N_value b_N_value 2 (some .int) 0 0 D cA [.ref (h 1), .int k0] (wC cA h Rw) X (X 2 (ix k0), X) := by
  refine Ct.of rfl rfl (by decide +kernel) (Nat.le_of_ble_eq_true rfl) ?_
  intro p e s m below meth c A Q ls hx hb hml hown hts hKK hP hD hA hS hend hl
  have hown : s.vm.findClass R_N = some m.cls := hown
  have hl : lv_has ls 2 [(0, .ref (h 1)), (1, .int k0)] := hl
  have hK := hKK.1
  refine lv_aload_n hx hb d_N_value_0 rfl (lv_at hl 0 rfl) ?_
  refine va_get (D := D) (ci := 1) (v := .ref (h 2)) (C := R_N) (T := F_N) (N := 1) hx hb hts i_N hown hK hP 1 rfl rfl 0 (by decide) (hts _ tw_22) (fun _ h9 => h9) rfl d_N_value_1 ?_
  refine lv_iload_n hx hb d_N_value_4 rfl (lv_at hl 1 rfl) ?_
  refine va_iald (f := (X 2)) hx hb hK hP 2 0 rfl rfl (by first | assumption | exact vi32_lt (by assumption) (by assumption) | exact vi32_nle (by assumption) (by assumption) | exact vi32_le (by assumption) (by assumption)) d_N_value_5 ?_
  exact hend _ _ _ _ _ _ rfl hP hS d_N_value_6
set_option maxHeartbeats 4000000 in
set_option maxRecDepth 100000 in
/-- Actions.drop -/
theorem c_A_drop (l : Launch) (D : va_G) (cA : Nat → ClassId) (h : Nat → Nat) (Rw X : Sg) (e0 : Int32) (he : vp_in e0 32) : Ct l y_A_drop b_A_drop 2 (some .int) 0 0 D cA [.ref (h 17), .int e0] (wC cA h Rw) X (sA_drop X e0) := by
  refine Ct.of rfl rfl (by decide +kernel) (Nat.le_of_ble_eq_true rfl) ?_
  intro p e s m below meth c A Q ls hx hb hml hown hts hKK hP hD hA hS hend hl
  have hown : s.vm.findClass R_A = some m.cls := hown
  have hl : lv_has ls 2 [(0, .ref (h 17)), (1, .int e0)] := hl
  have hK := hKK.1
  refine lv_aload_n hx hb d_A_drop_0 rfl (lv_at hl 0 rfl) ?_
  refine va_get (D := D) (ci := 4) (v := .ref (h 19)) (C := R_A) (T := F_A) (N := 3) hx hb hts i_A hown hK hP 17 rfl rfl 1 (by decide) (hts _ tw_119) (fun _ h9 => h9) rfl d_A_drop_1 ?_
  refine lv_iload_n hx hb d_A_drop_4 rfl (lv_at hl 1 rfl) ?_
  refine va_iald (f := (X 19)) hx hb hK hP 19 0 rfl rfl (by first | assumption | exact vi32_lt (by assumption) (by assumption) | exact vi32_nle (by assumption) (by assumption) | exact vi32_le (by assumption) (by assumption)) d_A_drop_5 ?_
  refine lv_if_ne (tgt := 12) hx hb d_A_drop_6 (by decide) (fun c_6 => ?_) (fun c_6 => ?_)
  · refine lv_aload_n hx hb d_A_drop_12 rfl (lv_at hl 0 rfl) ?_
    refine va_get (D := D) (ci := 4) (v := .ref (h 20)) (C := R_A) (T := F_A) (N := 3) hx hb hts i_A hown hK hP 17 rfl rfl 2 (by decide) (hts _ tw_121) (fun _ h9 => h9) rfl d_A_drop_13 ?_
    refine lv_iload_n hx hb d_A_drop_16 rfl (lv_at hl 1 rfl) ?_
    refine va_zald (f := (X 20)) hx hb hK hP 20 1 rfl rfl (by first | assumption | exact vi32_lt (by assumption) (by assumption) | exact vi32_nle (by assumption) (by assumption) | exact vi32_le (by assumption) (by assumption)) d_A_drop_17 ?_
    refine lv_if_eq (tgt := 24) hx hb d_A_drop_18 (by decide) (fun c_18 => ?_) (fun c_18 => ?_)
    · refine lv_aload_n hx hb d_A_drop_24 rfl (lv_at hl 0 rfl) ?_
      refine va_get (D := D) (ci := 4) (v := .ref (h 19)) (C := R_A) (T := F_A) (N := 3) hx hb hts i_A hown hK hP 17 rfl rfl 1 (by decide) (hts _ tw_119) (fun _ h9 => h9) rfl d_A_drop_25 ?_
      refine lv_iload_n hx hb d_A_drop_28 rfl (lv_at hl 1 rfl) ?_
      refine lv_iconst (v := 0) hx hb d_A_drop_29 (by decide) ?_
      refine va_iast (f := (X 19)) hx hb hK hP hD hS 19 0 rfl rfl (by first | assumption | exact vi32_lt (by assumption) (by assumption) | exact vi32_nle (by assumption) (by assumption) | exact vi32_le (by assumption) (by assumption)) d_A_drop_30 (fun H locs hP hD hS => ?_)
      have hP : va_P D classes ((wC cA h Rw) (pt X 19 (ix e0) 0)) H := hP
      have hD : va_D A ((wC cA h Rw) (pt X 19 (ix e0) 0)) := hD
      refine lv_iconst (v := 0) hx hb d_A_drop_31 (by decide) ?_
      exact hend _ _ _ _ _ _ (by rw [sA_drop, if_neg c_6, if_pos c_18] <;> rfl) hP hS d_A_drop_32
    · refine lv_bipush (v := 15) hx hb d_A_drop_21 (by decide) ?_
      exact hend _ _ _ _ _ _ (by rw [sA_drop, if_neg c_6, if_neg c_18] <;> rfl) hP hS d_A_drop_23
  · refine lv_bipush (v := 30) hx hb d_A_drop_9 (by decide) ?_
    exact hend _ _ _ _ _ _ (by rw [sA_drop, if_pos c_6] <;> rfl) hP hS d_A_drop_11
set_option maxHeartbeats 4000000 in
set_option maxRecDepth 100000 in
/-- Actions.arm -/
theorem c_A_arm (l : Launch) (D : va_G) (cA : Nat → ClassId) (h : Nat → Nat) (Rw X : Sg) (e0 : Int32) (z0 : Int32) (he : vp_in e0 32) : Ct l y_A_arm b_A_arm 3 (some .int) 0 0 D cA [.ref (h 17), .int e0, .int z0] (wC cA h Rw) X (sA_arm X e0 z0) := by
  refine Ct.of rfl rfl (by decide +kernel) (Nat.le_of_ble_eq_true rfl) ?_
  intro p e s m below meth c A Q ls hx hb hml hown hts hKK hP hD hA hS hend hl
  have hown : s.vm.findClass R_A = some m.cls := hown
  have hl : lv_has ls 3 [(0, .ref (h 17)), (1, .int e0), (2, .int z0)] := hl
  have hK := hKK.1
  refine lv_aload_n hx hb d_A_arm_0 rfl (lv_at hl 0 rfl) ?_
  refine va_get (D := D) (ci := 4) (v := .ref (h 19)) (C := R_A) (T := F_A) (N := 3) hx hb hts i_A hown hK hP 17 rfl rfl 1 (by decide) (hts _ tw_119) (fun _ h9 => h9) rfl d_A_arm_1 ?_
  refine lv_iload_n hx hb d_A_arm_4 rfl (lv_at hl 1 rfl) ?_
  refine va_iald (f := (X 19)) hx hb hK hP 19 0 rfl rfl (by first | assumption | exact vi32_lt (by assumption) (by assumption) | exact vi32_nle (by assumption) (by assumption) | exact vi32_le (by assumption) (by assumption)) d_A_arm_5 ?_
  refine lv_if_ne (tgt := 12) hx hb d_A_arm_6 (by decide) (fun c_6 => ?_) (fun c_6 => ?_)
  · refine lv_aload_n hx hb d_A_arm_12 rfl (lv_at hl 0 rfl) ?_
    refine va_get (D := D) (ci := 4) (v := .ref (h 20)) (C := R_A) (T := F_A) (N := 3) hx hb hts i_A hown hK hP 17 rfl rfl 2 (by decide) (hts _ tw_121) (fun _ h9 => h9) rfl d_A_arm_13 ?_
    refine lv_iload_n hx hb d_A_arm_16 rfl (lv_at hl 1 rfl) ?_
    refine lv_iload_n hx hb d_A_arm_17 rfl (lv_at hl 2 rfl) ?_
    refine va_zast (f := (X 20)) hx hb hK hP hD hS 20 1 rfl rfl (by first | assumption | exact vi32_lt (by assumption) (by assumption) | exact vi32_nle (by assumption) (by assumption) | exact vi32_le (by assumption) (by assumption)) d_A_arm_18 (fun H locs hP hD hS => ?_)
    have hP : va_P D classes ((wC cA h Rw) (pt X 20 (ix e0) (nz z0))) H := hP
    have hD : va_D A ((wC cA h Rw) (pt X 20 (ix e0) (nz z0))) := hD
    refine lv_iconst (v := 0) hx hb d_A_arm_19 (by decide) ?_
    exact hend _ _ _ _ _ _ (by rw [sA_arm, if_neg c_6] <;> rfl) hP hS d_A_arm_20
  · refine lv_bipush (v := 30) hx hb d_A_arm_9 (by decide) ?_
    exact hend _ _ _ _ _ _ (by rw [sA_arm, if_pos c_6] <;> rfl) hP hS d_A_arm_11
set_option maxHeartbeats 4000000 in
set_option maxRecDepth 100000 in
/-- set -/
theorem c_C_set (l : Launch) (D : va_G) (cA : Nat → ClassId) (h : Nat → Nat) (Rw X : Sg) (k0 : Int32) (v0 : Int32) : Ct l y_C_set b_C_set 3 (some .boolean) 0 0 D cA [.ref (h 0), .int k0, .int v0] (wC cA h Rw) X (sC_set X k0 v0) := by
  refine Ct.of rfl (isZ_Cset X k0 v0).nar (by decide +kernel) (Nat.le_of_ble_eq_true rfl) ?_
  intro p e s m below meth c A Q ls hx hb hml hown hts hKK hP hD hA hS hend hl
  have hown : s.vm.findClass R_C = some m.cls := hown
  have hl : lv_has ls 3 [(0, .ref (h 0)), (1, .int k0), (2, .int v0)] := hl
  have hK := hKK.1
  refine lv_iload_n hx hb d_C_set_0 rfl (lv_at hl 1 rfl) ?_
  refine lv_if_lt (tgt := 10) hx hb d_C_set_1 (by decide) (fun c_1 => ?_) (fun c_1 => ?_)
  · refine lv_iconst (v := 0) hx hb d_C_set_10 (by decide) ?_
    exact hend _ _ _ _ _ _ (by rw [sC_set, if_pos c_1] <;> rfl) hP hS d_C_set_11
  · refine lv_iload_n hx hb d_C_set_4 rfl (lv_at hl 1 rfl) ?_
    refine lv_bipush (v := 32) hx hb d_C_set_5 (by decide) ?_
    refine lv_icmp_lt (tgt := 12) hx hb d_C_set_7 (by decide) (fun c_7 => ?_) (fun c_7 => ?_)
    · refine lv_aload_n hx hb d_C_set_12 rfl (lv_at hl 0 rfl) ?_
      refine va_get (D := D) (ci := 0) (v := .ref (h 1)) (C := R_C) (T := F_C) (N := 7) hx hb hts i_C hown hK hP 0 rfl rfl 0 (by decide) (hts _ tw_131) (fun _ h9 => h9) rfl d_C_set_13 ?_
      refine va_getN (D := D) (ci := 1) (v := .ref (h 2)) (C := R_N) (T := F_N) (N := 1) hx hb hts i_N hown hK hP 1 rfl rfl 0 (by decide) (hKK.nest (nestW_in tn_23 rfl) rfl) (fun _ h9 => h9) rfl d_C_set_16 ?_
      refine lv_iload_n hx hb d_C_set_19 rfl (lv_at hl 1 rfl) ?_
      refine lv_iload_n hx hb d_C_set_20 rfl (lv_at hl 2 rfl) ?_
      refine va_iast (f := (X 2)) hx hb hK hP hD hS 2 0 rfl rfl (by first | assumption | exact vi32_lt (by assumption) (by assumption) | exact vi32_nle (by assumption) (by assumption) | exact vi32_le (by assumption) (by assumption)) d_C_set_21 (fun H locs hP hD hS => ?_)
      have hP : va_P D classes ((wC cA h Rw) (pt X 2 (ix k0) v0)) H := hP
      have hD : va_D A ((wC cA h Rw) (pt X 2 (ix k0) v0)) := hD
      refine lv_iconst (v := 1) hx hb d_C_set_22 (by decide) ?_
      exact hend _ _ _ _ _ _ (by rw [sC_set, if_neg c_1, if_pos c_7] <;> rfl) hP hS d_C_set_23
    · refine lv_iconst (v := 0) hx hb d_C_set_10 (by decide) ?_
      exact hend _ _ _ _ _ _ (by rw [sC_set, if_neg c_1, if_neg c_7] <;> rfl) hP hS d_C_set_11
set_option maxHeartbeats 4000000 in
set_option maxRecDepth 100000 in
/-- add -/
theorem c_C_add (l : Launch) (D : va_G) (cA : Nat → ClassId) (h : Nat → Nat) (Rw X : Sg) (i0 : Int32) (p0 : Int32) (o0 : Int32) (l0 : Int32) (u0 : Int32) (e0 : Int32) (k0 : Int32) : Ct l y_C_add b_C_add 8 (some .int) 2 47 D cA [.ref (h 0), .int i0, .int p0, .int o0, .int l0, .int u0, .int e0, .int k0] (wC cA h Rw) X (sL_add X i0 p0 o0 l0 u0 e0 k0) := by
  refine Ct.of rfl rfl (by decide +kernel) (Nat.le_of_ble_eq_true rfl) ?_
  intro p e s m below meth c A Q ls hx hb hml hown hts hKK hP hD hA hS hend hl
  have hown : s.vm.findClass R_C = some m.cls := hown
  have hl : lv_has ls 8 [(0, .ref (h 0)), (1, .int i0), (2, .int p0), (3, .int o0), (4, .int l0), (5, .int u0), (6, .int e0), (7, .int k0)] := hl
  have hK := hKK.1
  refine lv_aload_n hx hb d_C_add_0 rfl (lv_at hl 0 rfl) ?_
  refine va_get (D := D) (ci := 0) (v := .ref (h 7)) (C := R_C) (T := F_C) (N := 7) hx hb hts i_C hown hK hP 0 rfl rfl 2 (by decide) (hts _ tw_133) (fun _ h9 => h9) rfl d_C_add_1 ?_
  refine lv_iload_n hx hb d_C_add_4 rfl (lv_at hl 1 rfl) ?_
  refine lv_iload_n hx hb d_C_add_5 rfl (lv_at hl 2 rfl) ?_
  refine lv_iload_n hx hb d_C_add_6 rfl (lv_at hl 3 rfl) ?_
  refine lv_iload hx hb d_C_add_7 (lv_at hl 4 rfl) ?_
  refine lv_iload hx hb d_C_add_9 (lv_at hl 5 rfl) ?_
  refine lv_iload hx hb d_C_add_11 (lv_at hl 6 rfl) ?_
  refine lv_iload hx hb d_C_add_13 (lv_at hl 7 rfl) ?_
  refine cV (rr := ((sL_add X i0 p0 o0 l0 u0 e0 k0)).1) (X' := (((sL_add X i0 p0 o0 l0 u0 e0 k0)).2)) (c_L_add l D cA h Rw X i0 p0 o0 l0 u0 e0 k0) lk_C_44 hx hb hml hown hts hKK hP hD hS hA hl.1 7 rfl rfl rfl ⟨by decide, by decide⟩ ⟨Nat.le_refl _, Nat.le_refl _⟩ rfl wC_adr rfl (Nat.le_of_ble_eq_true rfl) d_C_add_15 (fun H locs hP hD hS => ?_)
  exact hend _ _ _ _ _ _ rfl hP hS d_C_add_18
set_option maxHeartbeats 4000000 in
set_option maxRecDepth 100000 in
/-- remove -/
theorem c_C_remove (l : Launch) (D : va_G) (cA : Nat → ClassId) (h : Nat → Nat) (Rw X : Sg) (i0 : Int32) : Ct l y_C_remove b_C_remove 2 (some .int) 2 42 D cA [.ref (h 0), .int i0] (wC cA h Rw) X (sL_remove X i0) := by
  refine Ct.of rfl rfl (by decide +kernel) (Nat.le_of_ble_eq_true rfl) ?_
  intro p e s m below meth c A Q ls hx hb hml hown hts hKK hP hD hA hS hend hl
  have hown : s.vm.findClass R_C = some m.cls := hown
  have hl : lv_has ls 2 [(0, .ref (h 0)), (1, .int i0)] := hl
  have hK := hKK.1
  refine lv_aload_n hx hb d_C_remove_0 rfl (lv_at hl 0 rfl) ?_
  refine va_get (D := D) (ci := 0) (v := .ref (h 7)) (C := R_C) (T := F_C) (N := 7) hx hb hts i_C hown hK hP 0 rfl rfl 2 (by decide) (hts _ tw_133) (fun _ h9 => h9) rfl d_C_remove_1 ?_
  refine lv_iload_n hx hb d_C_remove_4 rfl (lv_at hl 1 rfl) ?_
  refine cV (rr := ((sL_remove X i0)).1) (X' := (((sL_remove X i0)).2)) (c_L_remove l D cA h Rw X i0) lk_C_48 hx hb hml hown hts hKK hP hD hS hA hl.1 7 rfl rfl rfl ⟨by decide, by decide⟩ ⟨Nat.le_refl _, Nat.le_refl _⟩ rfl wC_adr rfl (Nat.le_of_ble_eq_true rfl) d_C_remove_5 (fun H locs hP hD hS => ?_)
  exact hend _ _ _ _ _ _ rfl hP hS d_C_remove_8
set_option maxHeartbeats 4000000 in
set_option maxRecDepth 100000 in
/-- enable -/
theorem c_C_enable (l : Launch) (D : va_G) (cA : Nat → ClassId) (h : Nat → Nat) (Rw X : Sg) (i0 : Int32) (z0 : Int32) : Ct l y_C_enable b_C_enable 3 (some .int) 2 43 D cA [.ref (h 0), .int i0, .int z0] (wC cA h Rw) X (sL_enable X i0 z0) := by
  refine Ct.of rfl rfl (by decide +kernel) (Nat.le_of_ble_eq_true rfl) ?_
  intro p e s m below meth c A Q ls hx hb hml hown hts hKK hP hD hA hS hend hl
  have hown : s.vm.findClass R_C = some m.cls := hown
  have hl : lv_has ls 3 [(0, .ref (h 0)), (1, .int i0), (2, .int z0)] := hl
  have hK := hKK.1
  refine lv_aload_n hx hb d_C_enable_0 rfl (lv_at hl 0 rfl) ?_
  refine va_get (D := D) (ci := 0) (v := .ref (h 7)) (C := R_C) (T := F_C) (N := 7) hx hb hts i_C hown hK hP 0 rfl rfl 2 (by decide) (hts _ tw_133) (fun _ h9 => h9) rfl d_C_enable_1 ?_
  refine lv_iload_n hx hb d_C_enable_4 rfl (lv_at hl 1 rfl) ?_
  refine lv_iload_n hx hb d_C_enable_5 rfl (lv_at hl 2 rfl) ?_
  refine cV (rr := ((sL_enable X i0 z0)).1) (X' := (((sL_enable X i0 z0)).2)) (c_L_enable l D cA h Rw X i0 z0) lk_C_52 hx hb hml hown hts hKK hP hD hS hA hl.1 7 rfl rfl rfl ⟨by decide, by decide⟩ ⟨Nat.le_refl _, Nat.le_refl _⟩ rfl wC_adr rfl (Nat.le_of_ble_eq_true rfl) d_C_enable_6 (fun H locs hP hD hS => ?_)
  exact hend _ _ _ _ _ _ rfl hP hS d_C_enable_9
set_option maxHeartbeats 4000000 in
set_option maxRecDepth 100000 in
/-- linked -/
theorem c_C_linked (l : Launch) (D : va_G) (cA : Nat → ClassId) (h : Nat → Nat) (Rw X : Sg) (hz : isZ (X 0 6)) : Ct l y_C_linked b_C_linked 1 (some .boolean) 0 0 D cA [.ref (h 0)] (wC cA h Rw) X (X 0 6, X) := by
  refine Ct.of rfl hz.nar (by decide +kernel) (Nat.le_of_ble_eq_true rfl) ?_
  intro p e s m below meth c A Q ls hx hb hml hown hts hKK hP hD hA hS hend hl
  have hown : s.vm.findClass R_C = some m.cls := hown
  have hl : lv_has ls 1 [(0, .ref (h 0))] := hl
  have hK := hKK.1
  refine lv_aload_n hx hb d_C_linked_0 rfl (lv_at hl 0 rfl) ?_
  refine va_get (D := D) (ci := 0) (v := .int (X 0 6)) (C := R_C) (T := F_C) (N := 7) hx hb hts i_C hown hK hP 0 rfl rfl 6 (by decide) (hts _ tw_137) (fun _ h9 => h9) rfl d_C_linked_1 ?_
  exact hend _ _ _ _ _ _ rfl hP hS d_C_linked_4
set_option maxHeartbeats 4000000 in
set_option maxRecDepth 100000 in
/-- raise -/
theorem c_C_raise (l : Launch) (D : va_G) (cA : Nat → ClassId) (h : Nat → Nat) (Rw X : Sg) (e0 : Int32) (v0 : Int32) (hk : vp_in (sE_k X) 64) : Ct l y_C_raise b_C_raise 3 (some .boolean) 1 23 D cA [.ref (h 0), .int e0, .int v0] (wC cA h Rw) X (sC_raise X e0 v0) := by
  refine Ct.of rfl (isZ_Craise X e0 v0).nar (by decide +kernel) (Nat.le_of_ble_eq_true rfl) ?_
  intro p e s m below meth c A Q ls hx hb hml hown hts hKK hP hD hA hS hend hl
  have hown : s.vm.findClass R_C = some m.cls := hown
  have hl : lv_has ls 3 [(0, .ref (h 0)), (1, .int e0), (2, .int v0)] := hl
  have hK := hKK.1
  refine lv_iload_n hx hb d_C_raise_0 rfl (lv_at hl 1 rfl) ?_
  refine cS (rr := (sE_is e0)) (X' := X) (c_E_is l D cA (wC cA h Rw) X e0) lk_C_68 hx hb hml hown hts hKK hP hD hS hA hl.1 ⟨by decide, by decide⟩ ⟨Nat.le_refl _, Nat.le_refl _⟩ rfl rfl rfl (Nat.le_of_ble_eq_true rfl) d_C_raise_1 (fun H locs hP hD hS => ?_)
  refine lv_if_eq (tgt := 23) hx hb d_C_raise_4 (by decide) (fun c_4 => ?_) (fun c_4 => ?_)
  · refine lv_iconst (v := 0) hx hb d_C_raise_23 (by decide) ?_
    exact hend _ _ _ _ _ _ (by rw [sC_raise, if_pos c_4] <;> rfl) hP hS d_C_raise_24
  · refine lv_aload_n hx hb d_C_raise_7 rfl (lv_at hl 0 rfl) ?_
    refine va_get (D := D) (ci := 0) (v := .ref (h 3)) (C := R_C) (T := F_C) (N := 7) hx hb hts i_C hown hK hP 0 rfl rfl 1 (by decide) (hts _ tw_132) (fun _ h9 => h9) rfl d_C_raise_8 ?_
    refine lv_iload_n hx hb d_C_raise_11 rfl (lv_at hl 1 rfl) ?_
    refine lv_iload_n hx hb d_C_raise_12 rfl (lv_at hl 2 rfl) ?_
    refine cV (rr := ((sE_raise X e0 v0)).1) (X' := (((sE_raise X e0 v0)).2)) (c_E_raise l D cA h Rw X e0 v0 (by assumption)) lk_C_72 hx hb hml hown hts hKK hP hD hS hA hl.1 3 rfl rfl rfl ⟨by decide, by decide⟩ ⟨Nat.le_refl _, Nat.le_refl _⟩ rfl wC_adr rfl (Nat.le_of_ble_eq_true rfl) d_C_raise_13 (fun H locs hP hD hS => ?_)
    refine lv_if_eq (tgt := 23) hx hb d_C_raise_16 (by decide) (fun c_16 => ?_) (fun c_16 => ?_)
    · refine lv_iconst (v := 0) hx hb d_C_raise_23 (by decide) ?_
      exact hend _ _ _ _ _ _ (by rw [sC_raise, if_neg c_4, if_pos c_16] <;> rfl) hP hS d_C_raise_24
    · refine lv_iconst (v := 1) hx hb d_C_raise_19 (by decide) ?_
      refine lv_goto (tgt := 24) hx hb d_C_raise_20 (by decide) ?_
      exact hend _ _ _ _ _ _ (by rw [sC_raise, if_neg c_4, if_neg c_16] <;> rfl) hP hS d_C_raise_24
set_option maxHeartbeats 4000000 in
set_option maxRecDepth 100000 in
/-- work -/
theorem c_C_work (l : Launch) (D : va_G) (cA : Nat → ClassId) (h : Nat → Nat) (Rw X : Sg) (hk : vp_in (X 3 2) 64) : Ct l y_C_work b_C_work 1 (some .int) 1 21 D cA [.ref (h 0)] (wC cA h Rw) X (sE_work X) := by
  refine Ct.of rfl rfl (by decide +kernel) (Nat.le_of_ble_eq_true rfl) ?_
  intro p e s m below meth c A Q ls hx hb hml hown hts hKK hP hD hA hS hend hl
  have hown : s.vm.findClass R_C = some m.cls := hown
  have hl : lv_has ls 1 [(0, .ref (h 0))] := hl
  have hK := hKK.1
  refine lv_aload_n hx hb d_C_work_0 rfl (lv_at hl 0 rfl) ?_
  refine va_get (D := D) (ci := 0) (v := .ref (h 3)) (C := R_C) (T := F_C) (N := 7) hx hb hts i_C hown hK hP 0 rfl rfl 1 (by decide) (hts _ tw_132) (fun _ h9 => h9) rfl d_C_work_1 ?_
  refine cV (rr := ((sE_work X)).1) (X' := (((sE_work X)).2)) (c_E_work l D cA h Rw X  (by assumption)) lk_C_76 hx hb hml hown hts hKK hP hD hS hA hl.1 3 rfl rfl rfl ⟨by decide, by decide⟩ ⟨Nat.le_refl _, Nat.le_refl _⟩ rfl wC_adr rfl (Nat.le_of_ble_eq_true rfl) d_C_work_4 (fun H locs hP hD hS => ?_)
  exact hend _ _ _ _ _ _ rfl hP hS d_C_work_7
set_option maxHeartbeats 4000000 in
set_option maxRecDepth 100000 in
/-- lose -/
theorem c_C_lose (l : Launch) (D : va_G) (cA : Nat → ClassId) (h : Nat → Nat) (Rw X : Sg) : Ct l y_C_lose b_C_lose 1 (some .int) 1 21 D cA [.ref (h 0)] (wC cA h Rw) X (sE_lose X) := by
  refine Ct.of rfl rfl (by decide +kernel) (Nat.le_of_ble_eq_true rfl) ?_
  intro p e s m below meth c A Q ls hx hb hml hown hts hKK hP hD hA hS hend hl
  have hown : s.vm.findClass R_C = some m.cls := hown
  have hl : lv_has ls 1 [(0, .ref (h 0))] := hl
  have hK := hKK.1
  refine lv_aload_n hx hb d_C_lose_0 rfl (lv_at hl 0 rfl) ?_
  refine va_get (D := D) (ci := 0) (v := .ref (h 3)) (C := R_C) (T := F_C) (N := 7) hx hb hts i_C hown hK hP 0 rfl rfl 1 (by decide) (hts _ tw_132) (fun _ h9 => h9) rfl d_C_lose_1 ?_
  refine cV (rr := ((sE_lose X)).1) (X' := (((sE_lose X)).2)) (c_E_lose l D cA h Rw X ) lk_C_80 hx hb hml hown hts hKK hP hD hS hA hl.1 3 rfl rfl rfl ⟨by decide, by decide⟩ ⟨Nat.le_refl _, Nat.le_refl _⟩ rfl wC_adr rfl (Nat.le_of_ble_eq_true rfl) d_C_lose_4 (fun H locs hP hD hS => ?_)
  exact hend _ _ _ _ _ _ rfl hP hS d_C_lose_7
set_option maxHeartbeats 4000000 in
set_option maxRecDepth 100000 in
/-- tell -/
theorem c_C_tell (l : Launch) (D : va_G) (cA : Nat → ClassId) (h : Nat → Nat) (Rw X : Sg) (e0 : Int32) (z0 : Int32) : Ct l y_C_tell b_C_tell 3 (some .int) 1 20 D cA [.ref (h 0), .int e0, .int z0] (wC cA h Rw) X (sC_tell X e0 z0) := by
  refine Ct.of rfl rfl (by decide +kernel) (Nat.le_of_ble_eq_true rfl) ?_
  intro p e s m below meth c A Q ls hx hb hml hown hts hKK hP hD hA hS hend hl
  have hown : s.vm.findClass R_C = some m.cls := hown
  have hl : lv_has ls 3 [(0, .ref (h 0)), (1, .int e0), (2, .int z0)] := hl
  have hK := hKK.1
  refine lv_iload_n hx hb d_C_tell_0 rfl (lv_at hl 1 rfl) ?_
  refine cS (rr := (sE_is e0)) (X' := X) (c_E_is l D cA (wC cA h Rw) X e0) lk_C_68 hx hb hml hown hts hKK hP hD hS hA hl.1 ⟨by decide, by decide⟩ ⟨Nat.le_refl _, Nat.le_refl _⟩ rfl rfl rfl (Nat.le_of_ble_eq_true rfl) d_C_tell_1 (fun H locs hP hD hS => ?_)
  refine lv_if_ne (tgt := 10) hx hb d_C_tell_4 (by decide) (fun c_4 => ?_) (fun c_4 => ?_)
  · have hi := sE_is_in c_4
    refine lv_aload_n hx hb d_C_tell_10 rfl (lv_at hl 0 rfl) ?_
    refine va_get (D := D) (ci := 0) (v := .ref (h 3)) (C := R_C) (T := F_C) (N := 7) hx hb hts i_C hown hK hP 0 rfl rfl 1 (by decide) (hts _ tw_132) (fun _ h9 => h9) rfl d_C_tell_11 ?_
    refine va_getN (D := D) (ci := 2) (v := .ref (h 6)) (C := R_E) (T := F_E) (N := 7) hx hb hts i_E hown hK hP 3 rfl rfl 5 (by decide) (hKK.nest (nestW_in tn_42 rfl) rfl) (fun _ h9 => h9) rfl d_C_tell_14 ?_
    refine lv_iload_n hx hb d_C_tell_17 rfl (lv_at hl 1 rfl) ?_
    refine lv_iload_n hx hb d_C_tell_18 rfl (lv_at hl 2 rfl) ?_
    refine lv_if_ne (tgt := 26) hx hb d_C_tell_19 (by decide) (fun c_19 => ?_) (fun c_19 => ?_)
    · refine lv_iconst (v := 0) hx hb d_C_tell_26 (by decide) ?_
      refine va_zast (f := (X 6)) hx hb hK hP hD hS 6 1 rfl rfl (by first | assumption | exact vi32_lt (by assumption) (by assumption) | exact vi32_nle (by assumption) (by assumption) | exact vi32_le (by assumption) (by assumption)) d_C_tell_27 (fun H locs hP hD hS => ?_)
      have hP : va_P D classes ((wC cA h Rw) (pt X 6 (ix e0) (nz 0))) H := hP
      have hD : va_D A ((wC cA h Rw) (pt X 6 (ix e0) (nz 0))) := hD
      refine lv_iconst (v := 0) hx hb d_C_tell_28 (by decide) ?_
      exact hend _ _ _ _ _ _ (by rw [sC_tell, if_neg c_4, if_neg c_19] <;> rfl) hP hS d_C_tell_29
    · refine lv_iconst (v := 1) hx hb d_C_tell_22 (by decide) ?_
      refine lv_goto (tgt := 27) hx hb d_C_tell_23 (by decide) ?_
      refine va_zast (f := (X 6)) hx hb hK hP hD hS 6 1 rfl rfl (by first | assumption | exact vi32_lt (by assumption) (by assumption) | exact vi32_nle (by assumption) (by assumption) | exact vi32_le (by assumption) (by assumption)) d_C_tell_27 (fun H locs hP hD hS => ?_)
      have hP : va_P D classes ((wC cA h Rw) (pt X 6 (ix e0) (nz 1))) H := hP
      have hD : va_D A ((wC cA h Rw) (pt X 6 (ix e0) (nz 1))) := hD
      refine lv_iconst (v := 0) hx hb d_C_tell_28 (by decide) ?_
      exact hend _ _ _ _ _ _ (by rw [sC_tell, if_neg c_4, if_pos c_19] <;> rfl) hP hS d_C_tell_29
  · refine lv_bipush (v := 16) hx hb d_C_tell_7 (by decide) ?_
    exact hend _ _ _ _ _ _ (by rw [sC_tell, if_pos c_4] <;> rfl) hP hS d_C_tell_9
set_option maxHeartbeats 4000000 in
set_option maxRecDepth 100000 in
/-- put -/
theorem c_C_put (l : Launch) (D : va_G) (cA : Nat → ClassId) (h : Nat → Nat) (Rw X : Sg) (b0 : Int32) (hk : ¬ X 0 5 = 256 → vp_in (X 0 5) 256) : Ct l y_C_put b_C_put 2 (some .int) 0 0 D cA [.ref (h 0), .int b0] (wC cA h Rw) X (sC_put X b0) := by
  refine Ct.of rfl rfl (by decide +kernel) (Nat.le_of_ble_eq_true rfl) ?_
  intro p e s m below meth c A Q ls hx hb hml hown hts hKK hP hD hA hS hend hl
  have hown : s.vm.findClass R_C = some m.cls := hown
  have hl : lv_has ls 2 [(0, .ref (h 0)), (1, .int b0)] := hl
  have hK := hKK.1
  refine lv_aload_n hx hb d_C_put_0 rfl (lv_at hl 0 rfl) ?_
  refine va_get (D := D) (ci := 0) (v := .int (X 0 5)) (C := R_C) (T := F_C) (N := 7) hx hb hts i_C hown hK hP 0 rfl rfl 5 (by decide) (hts _ tw_136) (fun _ h9 => h9) rfl d_C_put_1 ?_
  refine lv_sipush (v := 256) hx hb d_C_put_4 (by decide) ?_
  refine lv_icmp_ne (tgt := 12) hx hb d_C_put_7 (by decide) (fun c_7 => ?_) (fun c_7 => ?_)
  · have hi := hk c_7
    refine lv_aload_n hx hb d_C_put_12 rfl (lv_at hl 0 rfl) ?_
    refine va_get (D := D) (ci := 0) (v := .ref (h 21)) (C := R_C) (T := F_C) (N := 7) hx hb hts i_C hown hK hP 0 rfl rfl 4 (by decide) (hts _ tw_135) (fun _ h9 => h9) rfl d_C_put_13 ?_
    refine lv_aload_n hx hb d_C_put_16 rfl (lv_at hl 0 rfl) ?_
    refine lv_dup hx hb d_C_put_17 rfl ?_
    refine va_get (D := D) (ci := 0) (v := .int (X 0 5)) (C := R_C) (T := F_C) (N := 7) hx hb hts i_C hown hK hP 0 rfl rfl 5 (by decide) (hts _ tw_136) (fun _ h9 => h9) rfl d_C_put_18 ?_
    refine lv_dup_x1 hx hb d_C_put_21 rfl rfl ?_
    refine lv_iconst (v := 1) hx hb d_C_put_22 (by decide) ?_
    refine lv_iadd hx hb d_C_put_23 ?_
    refine va_put (D := D) (ci := 0) (v := .int ((X 0 5) + 1)) (ty := .int) (C := R_C) (T := F_C) (N := 7) hx hb hts i_C t_C t_C_ok n_C hown hK hP hD hS 0 rfl rfl 5 (by decide) (hts _ tw_136) (fun _ h9 => h9) rfl (t_C_ok 5 (by decide)) rfl rfl (Nat.le_of_ble_eq_true rfl) d_C_put_24 (fun H locs hP hD hS => ?_)
    have hP : va_P D classes ((wC cA h Rw) (pt X 0 5 ((X 0 5) + 1))) H := hP
    have hD : va_D A ((wC cA h Rw) (pt X 0 5 ((X 0 5) + 1))) := hD
    refine lv_iload_n hx hb d_C_put_27 rfl (lv_at hl 1 rfl) ?_
    refine lv_i2b hx hb d_C_put_28 rfl ?_
    refine va_bast (f := (X 21)) hx hb hK hP hD hS 21 2 rfl rfl (by first | assumption | exact vi256_lt (by assumption) (by assumption) | exact vi256_nle (by assumption) (by assumption) | exact vi256_le (by assumption) (by assumption)) d_C_put_29 (fun H locs hP hD hS => ?_)
    have hP : va_P D classes ((wC cA h Rw) (pt (pt X 0 5 ((X 0 5) + 1)) 21 (ix (X 0 5)) (nb (Int8.toInt32 (Int32.toInt8 b0))))) H := hP
    have hD : va_D A ((wC cA h Rw) (pt (pt X 0 5 ((X 0 5) + 1)) 21 (ix (X 0 5)) (nb (Int8.toInt32 (Int32.toInt8 b0))))) := hD
    refine lv_aload_n hx hb d_C_put_30 rfl (lv_at hl 0 rfl) ?_
    refine va_get (D := D) (ci := 0) (v := .int ((X 0 5) + 1)) (C := R_C) (T := F_C) (N := 7) hx hb hts i_C hown hK hP 0 rfl rfl 5 (by decide) (hts _ tw_136) (fun _ h9 => h9) rfl d_C_put_31 ?_
    exact hend _ _ _ _ _ _ (by rw [sC_put, if_neg c_7] <;> rfl) hP hS d_C_put_34
  · refine lv_iconst (v := (-1)) hx hb d_C_put_10 (by decide) ?_
    exact hend _ _ _ _ _ _ (by rw [sC_put, if_pos c_7] <;> rfl) hP hS d_C_put_11
set_option maxHeartbeats 4000000 in
set_option maxRecDepth 100000 in
/-- drop -/
theorem c_C_drop (l : Launch) (D : va_G) (cA : Nat → ClassId) (h : Nat → Nat) (Rw X : Sg) (e0 : Int32) : Ct l y_C_drop b_C_drop 2 (some .int) 1 21 D cA [.ref (h 0), .int e0] (wC cA h Rw) X (sC_drop X e0) := by
  refine Ct.of rfl rfl (by decide +kernel) (Nat.le_of_ble_eq_true rfl) ?_
  intro p e s m below meth c A Q ls hx hb hml hown hts hKK hP hD hA hS hend hl
  have hown : s.vm.findClass R_C = some m.cls := hown
  have hl : lv_has ls 2 [(0, .ref (h 0)), (1, .int e0)] := hl
  have hK := hKK.1
  refine lv_iload_n hx hb d_C_drop_0 rfl (lv_at hl 1 rfl) ?_
  refine cS (rr := (sE_is e0)) (X' := X) (c_E_is l D cA (wC cA h Rw) X e0) lk_C_68 hx hb hml hown hts hKK hP hD hS hA hl.1 ⟨by decide, by decide⟩ ⟨Nat.le_refl _, Nat.le_refl _⟩ rfl rfl rfl (Nat.le_of_ble_eq_true rfl) d_C_drop_1 (fun H locs hP hD hS => ?_)
  refine lv_if_eq (tgt := 18) hx hb d_C_drop_4 (by decide) (fun c_4 => ?_) (fun c_4 => ?_)
  · refine lv_bipush (v := 16) hx hb d_C_drop_18 (by decide) ?_
    exact hend _ _ _ _ _ _ (by rw [sC_drop, if_pos c_4] <;> rfl) hP hS d_C_drop_20
  · have hi := sE_is_in c_4
    refine lv_aload_n hx hb d_C_drop_7 rfl (lv_at hl 0 rfl) ?_
    refine va_get (D := D) (ci := 0) (v := .ref (h 17)) (C := R_C) (T := F_C) (N := 7) hx hb hts i_C hown hK hP 0 rfl rfl 3 (by decide) (hts _ tw_134) (fun _ h9 => h9) rfl d_C_drop_8 ?_
    refine lv_iload_n hx hb d_C_drop_11 rfl (lv_at hl 1 rfl) ?_
    refine cV (rr := ((sA_drop X e0)).1) (X' := (((sA_drop X e0)).2)) (c_A_drop l D cA h Rw X e0 (by assumption)) lk_C_93 hx hb hml hown hts hKK hP hD hS hA hl.1 17 rfl rfl rfl ⟨by decide, by decide⟩ ⟨Nat.le_refl _, Nat.le_refl _⟩ rfl wC_adr rfl (Nat.le_of_ble_eq_true rfl) d_C_drop_12 (fun H locs hP hD hS => ?_)
    refine lv_goto (tgt := 20) hx hb d_C_drop_15 (by decide) ?_
    exact hend _ _ _ _ _ _ (by rw [sC_drop, if_neg c_4] <;> rfl) hP hS d_C_drop_20
set_option maxHeartbeats 4000000 in
set_option maxRecDepth 100000 in
/-- arm -/
theorem c_C_arm (l : Launch) (D : va_G) (cA : Nat → ClassId) (h : Nat → Nat) (Rw X : Sg) (e0 : Int32) (z0 : Int32) : Ct l y_C_arm b_C_arm 3 (some .int) 1 22 D cA [.ref (h 0), .int e0, .int z0] (wC cA h Rw) X (sC_arm X e0 z0) := by
  refine Ct.of rfl rfl (by decide +kernel) (Nat.le_of_ble_eq_true rfl) ?_
  intro p e s m below meth c A Q ls hx hb hml hown hts hKK hP hD hA hS hend hl
  have hown : s.vm.findClass R_C = some m.cls := hown
  have hl : lv_has ls 3 [(0, .ref (h 0)), (1, .int e0), (2, .int z0)] := hl
  have hK := hKK.1
  refine lv_iload_n hx hb d_C_arm_0 rfl (lv_at hl 1 rfl) ?_
  refine cS (rr := (sE_is e0)) (X' := X) (c_E_is l D cA (wC cA h Rw) X e0) lk_C_68 hx hb hml hown hts hKK hP hD hS hA hl.1 ⟨by decide, by decide⟩ ⟨Nat.le_refl _, Nat.le_refl _⟩ rfl rfl rfl (Nat.le_of_ble_eq_true rfl) d_C_arm_1 (fun H locs hP hD hS => ?_)
  refine lv_if_eq (tgt := 19) hx hb d_C_arm_4 (by decide) (fun c_4 => ?_) (fun c_4 => ?_)
  · refine lv_bipush (v := 16) hx hb d_C_arm_19 (by decide) ?_
    exact hend _ _ _ _ _ _ (by rw [sC_arm, if_pos c_4] <;> rfl) hP hS d_C_arm_21
  · have hi := sE_is_in c_4
    refine lv_aload_n hx hb d_C_arm_7 rfl (lv_at hl 0 rfl) ?_
    refine va_get (D := D) (ci := 0) (v := .ref (h 17)) (C := R_C) (T := F_C) (N := 7) hx hb hts i_C hown hK hP 0 rfl rfl 3 (by decide) (hts _ tw_134) (fun _ h9 => h9) rfl d_C_arm_8 ?_
    refine lv_iload_n hx hb d_C_arm_11 rfl (lv_at hl 1 rfl) ?_
    refine lv_iload_n hx hb d_C_arm_12 rfl (lv_at hl 2 rfl) ?_
    refine cV (rr := ((sA_arm X e0 z0)).1) (X' := (((sA_arm X e0 z0)).2)) (c_A_arm l D cA h Rw X e0 z0 (by assumption)) lk_C_96 hx hb hml hown hts hKK hP hD hS hA hl.1 17 rfl rfl rfl ⟨by decide, by decide⟩ ⟨Nat.le_refl _, Nat.le_refl _⟩ rfl wC_adr rfl (Nat.le_of_ble_eq_true rfl) d_C_arm_13 (fun H locs hP hD hS => ?_)
    refine lv_goto (tgt := 21) hx hb d_C_arm_16 (by decide) ?_
    exact hend _ _ _ _ _ _ (by rw [sC_arm, if_neg c_4] <;> rfl) hP hS d_C_arm_21
set_option maxHeartbeats 4000000 in
set_option maxRecDepth 100000 in
/-- limit -/
theorem c_C_limit (l : Launch) (D : va_G) (cA : Nat → ClassId) (h : Nat → Nat) (Rw X : Sg) (i0 : Int32) (w0 : Int32) : Ct l y_C_limit b_C_limit 3 (some .int) 1 21 D cA [.ref (h 0), .int i0, .int w0] (wC cA h Rw) X (sC_limit X i0 w0) := by
  refine Ct.of rfl rfl (by decide +kernel) (Nat.le_of_ble_eq_true rfl) ?_
  intro p e s m below meth c A Q ls hx hb hml hown hts hKK hP hD hA hS hend hl
  have hown : s.vm.findClass R_C = some m.cls := hown
  have hl : lv_has ls 3 [(0, .ref (h 0)), (1, .int i0), (2, .int w0)] := hl
  have hK := hKK.1
  refine lv_aload_n hx hb d_C_limit_0 rfl (lv_at hl 0 rfl) ?_
  refine va_get (D := D) (ci := 0) (v := .ref (h 7)) (C := R_C) (T := F_C) (N := 7) hx hb hts i_C hown hK hP 0 rfl rfl 2 (by decide) (hts _ tw_133) (fun _ h9 => h9) rfl d_C_limit_1 ?_
  refine lv_iload_n hx hb d_C_limit_4 rfl (lv_at hl 1 rfl) ?_
  refine cV (rr := (sL_is X i0)) (X' := X) (c_L_is l D cA h Rw X i0) lk_C_99 hx hb hml hown hts hKK hP hD hS hA hl.1 7 rfl rfl rfl ⟨by decide, by decide⟩ ⟨Nat.le_refl _, Nat.le_refl _⟩ rfl wC_adr rfl (Nat.le_of_ble_eq_true rfl) d_C_limit_5 (fun H locs hP hD hS => ?_)
  refine lv_if_ne (tgt := 13) hx hb d_C_limit_8 (by decide) (fun c_8 => ?_) (fun c_8 => ?_)
  · have hi := sL_is_in c_8
    refine lv_iload_n hx hb d_C_limit_13 rfl (lv_at hl 2 rfl) ?_
    by_cases w14_0 : w0 = 0
    · refine lv_tableIn (tgt := 52) hx hb d_C_limit_14 (by rw [w14_0]; decide) (by rw [w14_0]; decide) (off := 38) (by rw [w14_0]; rfl) (by decide) ?_
      refine lv_aload_n hx hb d_C_limit_52 rfl (lv_at hl 0 rfl) ?_
      refine va_get (D := D) (ci := 0) (v := .ref (h 7)) (C := R_C) (T := F_C) (N := 7) hx hb hts i_C hown hK hP 0 rfl rfl 2 (by decide) (hts _ tw_133) (fun _ h9 => h9) rfl d_C_limit_53 ?_
      refine va_getN (D := D) (ci := 3) (v := .ref (h 9)) (C := R_L) (T := F_L) (N := 11) hx hb hts i_L hown hK hP 7 rfl rfl 1 (by decide) (hKK.nest (nestW_in tn_69 rfl) rfl) (fun _ h9 => h9) rfl d_C_limit_56 ?_
      refine lv_iload_n hx hb d_C_limit_59 rfl (lv_at hl 1 rfl) ?_
      refine va_zald (f := (X 9)) hx hb hK hP 9 1 rfl rfl (by first | assumption | exact vi256_lt (by assumption) (by assumption) | exact vi256_nle (by assumption) (by assumption) | exact vi256_le (by assumption) (by assumption)) d_C_limit_60 ?_
      refine lv_if_eq (tgt := 68) hx hb d_C_limit_61 (by decide) (fun c_61 => ?_) (fun c_61 => ?_)
      · refine lv_iconst (v := 0) hx hb d_C_limit_68 (by decide) ?_
        exact hend _ _ _ _ _ _ (by rw [sC_limit, if_neg c_8, if_pos w14_0, if_pos c_61] <;> rfl) hP hS d_C_limit_69
      · refine lv_iconst (v := 1) hx hb d_C_limit_64 (by decide) ?_
        refine lv_goto (tgt := 69) hx hb d_C_limit_65 (by decide) ?_
        exact hend _ _ _ _ _ _ (by rw [sC_limit, if_neg c_8, if_pos w14_0, if_neg c_61] <;> rfl) hP hS d_C_limit_69
    by_cases w14_1 : w0 = 1
    · refine lv_tableIn (tgt := 70) hx hb d_C_limit_14 (by rw [w14_1]; decide) (by rw [w14_1]; decide) (off := 56) (by rw [w14_1]; rfl) (by decide) ?_
      refine lv_aload_n hx hb d_C_limit_70 rfl (lv_at hl 0 rfl) ?_
      refine va_get (D := D) (ci := 0) (v := .ref (h 7)) (C := R_C) (T := F_C) (N := 7) hx hb hts i_C hown hK hP 0 rfl rfl 2 (by decide) (hts _ tw_133) (fun _ h9 => h9) rfl d_C_limit_71 ?_
      refine va_getN (D := D) (ci := 3) (v := .ref (h 16)) (C := R_L) (T := F_L) (N := 11) hx hb hts i_L hown hK hP 7 rfl rfl 8 (by decide) (hKK.nest (nestW_in tn_81 rfl) rfl) (fun _ h9 => h9) rfl d_C_limit_74 ?_
      refine lv_iload_n hx hb d_C_limit_77 rfl (lv_at hl 1 rfl) ?_
      refine va_iald (f := (X 16)) hx hb hK hP 16 0 rfl rfl (by first | assumption | exact vi256_lt (by assumption) (by assumption) | exact vi256_nle (by assumption) (by assumption) | exact vi256_le (by assumption) (by assumption)) d_C_limit_78 ?_
      exact hend _ _ _ _ _ _ (by rw [sC_limit, if_neg c_8, if_neg w14_0, if_pos w14_1] <;> rfl) hP hS d_C_limit_79
    by_cases w14_2 : w0 = 2
    · refine lv_tableIn (tgt := 80) hx hb d_C_limit_14 (by rw [w14_2]; decide) (by rw [w14_2]; decide) (off := 66) (by rw [w14_2]; rfl) (by decide) ?_
      refine lv_aload_n hx hb d_C_limit_80 rfl (lv_at hl 0 rfl) ?_
      refine va_get (D := D) (ci := 0) (v := .ref (h 7)) (C := R_C) (T := F_C) (N := 7) hx hb hts i_C hown hK hP 0 rfl rfl 2 (by decide) (hts _ tw_133) (fun _ h9 => h9) rfl d_C_limit_81 ?_
      refine va_getN (D := D) (ci := 3) (v := .ref (h 11)) (C := R_L) (T := F_L) (N := 11) hx hb hts i_L hown hK hP 7 rfl rfl 3 (by decide) (hKK.nest (nestW_in tn_73 rfl) rfl) (fun _ h9 => h9) rfl d_C_limit_84 ?_
      refine lv_iload_n hx hb d_C_limit_87 rfl (lv_at hl 1 rfl) ?_
      refine va_iald (f := (X 11)) hx hb hK hP 11 0 rfl rfl (by first | assumption | exact vi256_lt (by assumption) (by assumption) | exact vi256_nle (by assumption) (by assumption) | exact vi256_le (by assumption) (by assumption)) d_C_limit_88 ?_
      exact hend _ _ _ _ _ _ (by rw [sC_limit, if_neg c_8, if_neg w14_0, if_neg w14_1, if_pos w14_2] <;> rfl) hP hS d_C_limit_89
    by_cases w14_3 : w0 = 3
    · refine lv_tableIn (tgt := 90) hx hb d_C_limit_14 (by rw [w14_3]; decide) (by rw [w14_3]; decide) (off := 76) (by rw [w14_3]; rfl) (by decide) ?_
      refine lv_aload_n hx hb d_C_limit_90 rfl (lv_at hl 0 rfl) ?_
      refine va_get (D := D) (ci := 0) (v := .ref (h 7)) (C := R_C) (T := F_C) (N := 7) hx hb hts i_C hown hK hP 0 rfl rfl 2 (by decide) (hts _ tw_133) (fun _ h9 => h9) rfl d_C_limit_91 ?_
      refine va_getN (D := D) (ci := 3) (v := .ref (h 12)) (C := R_L) (T := F_L) (N := 11) hx hb hts i_L hown hK hP 7 rfl rfl 4 (by decide) (hKK.nest (nestW_in tn_75 rfl) rfl) (fun _ h9 => h9) rfl d_C_limit_94 ?_
      refine lv_iload_n hx hb d_C_limit_97 rfl (lv_at hl 1 rfl) ?_
      refine va_iald (f := (X 12)) hx hb hK hP 12 0 rfl rfl (by first | assumption | exact vi256_lt (by assumption) (by assumption) | exact vi256_nle (by assumption) (by assumption) | exact vi256_le (by assumption) (by assumption)) d_C_limit_98 ?_
      exact hend _ _ _ _ _ _ (by rw [sC_limit, if_neg c_8, if_neg w14_0, if_neg w14_1, if_neg w14_2, if_pos w14_3] <;> rfl) hP hS d_C_limit_99
    by_cases w14_4 : w0 = 4
    · refine lv_tableIn (tgt := 100) hx hb d_C_limit_14 (by rw [w14_4]; decide) (by rw [w14_4]; decide) (off := 86) (by rw [w14_4]; rfl) (by decide) ?_
      refine lv_aload_n hx hb d_C_limit_100 rfl (lv_at hl 0 rfl) ?_
      refine va_get (D := D) (ci := 0) (v := .ref (h 7)) (C := R_C) (T := F_C) (N := 7) hx hb hts i_C hown hK hP 0 rfl rfl 2 (by decide) (hts _ tw_133) (fun _ h9 => h9) rfl d_C_limit_101 ?_
      refine va_getN (D := D) (ci := 3) (v := .ref (h 15)) (C := R_L) (T := F_L) (N := 11) hx hb hts i_L hown hK hP 7 rfl rfl 7 (by decide) (hKK.nest (nestW_in tn_79 rfl) rfl) (fun _ h9 => h9) rfl d_C_limit_104 ?_
      refine lv_iload_n hx hb d_C_limit_107 rfl (lv_at hl 1 rfl) ?_
      refine va_iald (f := (X 15)) hx hb hK hP 15 0 rfl rfl (by first | assumption | exact vi256_lt (by assumption) (by assumption) | exact vi256_nle (by assumption) (by assumption) | exact vi256_le (by assumption) (by assumption)) d_C_limit_108 ?_
      exact hend _ _ _ _ _ _ (by rw [sC_limit, if_neg c_8, if_neg w14_0, if_neg w14_1, if_neg w14_2, if_neg w14_3, if_pos w14_4] <;> rfl) hP hS d_C_limit_109
    by_cases w14_5 : w0 = 5
    · refine lv_tableIn (tgt := 110) hx hb d_C_limit_14 (by rw [w14_5]; decide) (by rw [w14_5]; decide) (off := 96) (by rw [w14_5]; rfl) (by decide) ?_
      refine lv_aload_n hx hb d_C_limit_110 rfl (lv_at hl 0 rfl) ?_
      refine va_get (D := D) (ci := 0) (v := .ref (h 7)) (C := R_C) (T := F_C) (N := 7) hx hb hts i_C hown hK hP 0 rfl rfl 2 (by decide) (hts _ tw_133) (fun _ h9 => h9) rfl d_C_limit_111 ?_
      refine va_getN (D := D) (ci := 3) (v := .ref (h 10)) (C := R_L) (T := F_L) (N := 11) hx hb hts i_L hown hK hP 7 rfl rfl 2 (by decide) (hKK.nest (nestW_in tn_71 rfl) rfl) (fun _ h9 => h9) rfl d_C_limit_114 ?_
      refine lv_iload_n hx hb d_C_limit_117 rfl (lv_at hl 1 rfl) ?_
      refine va_zald (f := (X 10)) hx hb hK hP 10 1 rfl rfl (by first | assumption | exact vi256_lt (by assumption) (by assumption) | exact vi256_nle (by assumption) (by assumption) | exact vi256_le (by assumption) (by assumption)) d_C_limit_118 ?_
      refine lv_if_eq (tgt := 126) hx hb d_C_limit_119 (by decide) (fun c_119 => ?_) (fun c_119 => ?_)
      · refine lv_iconst (v := 0) hx hb d_C_limit_126 (by decide) ?_
        exact hend _ _ _ _ _ _ (by rw [sC_limit, if_neg c_8, if_neg w14_0, if_neg w14_1, if_neg w14_2, if_neg w14_3, if_neg w14_4, if_pos w14_5, if_pos c_119] <;> rfl) hP hS d_C_limit_127
      · refine lv_iconst (v := 1) hx hb d_C_limit_122 (by decide) ?_
        refine lv_goto (tgt := 127) hx hb d_C_limit_123 (by decide) ?_
        exact hend _ _ _ _ _ _ (by rw [sC_limit, if_neg c_8, if_neg w14_0, if_neg w14_1, if_neg w14_2, if_neg w14_3, if_neg w14_4, if_pos w14_5, if_neg c_119] <;> rfl) hP hS d_C_limit_127
    refine lv_tableOut (tgt := 128) hx hb d_C_limit_14 (by have z0 := lv_neT w14_0 (a := 0) rfl; have z1 := lv_neT w14_1 (a := 1) rfl; have z2 := lv_neT w14_2 (a := 2) rfl; have z3 := lv_neT w14_3 (a := 3) rfl; have z4 := lv_neT w14_4 (a := 4) rfl; have z5 := lv_neT w14_5 (a := 5) rfl; omega) (by decide) ?_
    refine lv_iconst (v := (-1)) hx hb d_C_limit_128 (by decide) ?_
    exact hend _ _ _ _ _ _ (by rw [sC_limit, if_neg c_8, if_neg w14_0, if_neg w14_1, if_neg w14_2, if_neg w14_3, if_neg w14_4, if_neg w14_5] <;> rfl) hP hS d_C_limit_129
  · refine lv_iconst (v := (-1)) hx hb d_C_limit_11 (by decide) ?_
    exact hend _ _ _ _ _ _ (by rw [sC_limit, if_pos c_8] <;> rfl) hP hS d_C_limit_12
set_option maxHeartbeats 4000000 in
set_option maxRecDepth 100000 in
/-- event -/
theorem c_C_event (l : Launch) (D : va_G) (cA : Nat → ClassId) (h : Nat → Nat) (Rw X : Sg) (e0 : Int32) (w0 : Int32) : Ct l y_C_event b_C_event 3 (some .int) 1 20 D cA [.ref (h 0), .int e0, .int w0] (wC cA h Rw) X (sC_event X e0 w0) := by
  refine Ct.of rfl rfl (by decide +kernel) (Nat.le_of_ble_eq_true rfl) ?_
  intro p e s m below meth c A Q ls hx hb hml hown hts hKK hP hD hA hS hend hl
  have hown : s.vm.findClass R_C = some m.cls := hown
  have hl : lv_has ls 3 [(0, .ref (h 0)), (1, .int e0), (2, .int w0)] := hl
  have hK := hKK.1
  refine lv_iload_n hx hb d_C_event_0 rfl (lv_at hl 1 rfl) ?_
  refine cS (rr := (sE_is e0)) (X' := X) (c_E_is l D cA (wC cA h Rw) X e0) lk_C_68 hx hb hml hown hts hKK hP hD hS hA hl.1 ⟨by decide, by decide⟩ ⟨Nat.le_refl _, Nat.le_refl _⟩ rfl rfl rfl (Nat.le_of_ble_eq_true rfl) d_C_event_1 (fun H locs hP hD hS => ?_)
  refine lv_if_ne (tgt := 9) hx hb d_C_event_4 (by decide) (fun c_4 => ?_) (fun c_4 => ?_)
  · have hi := sE_is_in c_4
    refine lv_iload_n hx hb d_C_event_9 rfl (lv_at hl 2 rfl) ?_
    by_cases w10_0 : w0 = 0
    · refine lv_tableIn (tgt := 36) hx hb d_C_event_10 (by rw [w10_0]; decide) (by rw [w10_0]; decide) (off := 26) (by rw [w10_0]; rfl) (by decide) ?_
      refine lv_aload_n hx hb d_C_event_36 rfl (lv_at hl 0 rfl) ?_
      refine va_get (D := D) (ci := 0) (v := .ref (h 3)) (C := R_C) (T := F_C) (N := 7) hx hb hts i_C hown hK hP 0 rfl rfl 1 (by decide) (hts _ tw_132) (fun _ h9 => h9) rfl d_C_event_37 ?_
      refine va_getN (D := D) (ci := 2) (v := .ref (h 6)) (C := R_E) (T := F_E) (N := 7) hx hb hts i_E hown hK hP 3 rfl rfl 5 (by decide) (hKK.nest (nestW_in tn_42 rfl) rfl) (fun _ h9 => h9) rfl d_C_event_40 ?_
      refine lv_iload_n hx hb d_C_event_43 rfl (lv_at hl 1 rfl) ?_
      refine va_zald (f := (X 6)) hx hb hK hP 6 1 rfl rfl (by first | assumption | exact vi32_lt (by assumption) (by assumption) | exact vi32_nle (by assumption) (by assumption) | exact vi32_le (by assumption) (by assumption)) d_C_event_44 ?_
      refine lv_if_eq (tgt := 52) hx hb d_C_event_45 (by decide) (fun c_45 => ?_) (fun c_45 => ?_)
      · refine lv_iconst (v := 1) hx hb d_C_event_52 (by decide) ?_
        exact hend _ _ _ _ _ _ (by rw [sC_event, if_neg c_4, if_pos w10_0, if_pos c_45] <;> rfl) hP hS d_C_event_53
      · refine lv_iconst (v := 0) hx hb d_C_event_48 (by decide) ?_
        refine lv_goto (tgt := 53) hx hb d_C_event_49 (by decide) ?_
        exact hend _ _ _ _ _ _ (by rw [sC_event, if_neg c_4, if_pos w10_0, if_neg c_45] <;> rfl) hP hS d_C_event_53
    by_cases w10_1 : w0 = 1
    · refine lv_tableIn (tgt := 54) hx hb d_C_event_10 (by rw [w10_1]; decide) (by rw [w10_1]; decide) (off := 44) (by rw [w10_1]; rfl) (by decide) ?_
      refine lv_aload_n hx hb d_C_event_54 rfl (lv_at hl 0 rfl) ?_
      refine va_get (D := D) (ci := 0) (v := .ref (h 17)) (C := R_C) (T := F_C) (N := 7) hx hb hts i_C hown hK hP 0 rfl rfl 3 (by decide) (hts _ tw_134) (fun _ h9 => h9) rfl d_C_event_55 ?_
      refine va_getN (D := D) (ci := 4) (v := .ref (h 19)) (C := R_A) (T := F_A) (N := 3) hx hb hts i_A hown hK hP 17 rfl rfl 1 (by decide) (hKK.nest (nestW_in tn_120 rfl) rfl) (fun _ h9 => h9) rfl d_C_event_58 ?_
      refine lv_iload_n hx hb d_C_event_61 rfl (lv_at hl 1 rfl) ?_
      refine va_iald (f := (X 19)) hx hb hK hP 19 0 rfl rfl (by first | assumption | exact vi32_lt (by assumption) (by assumption) | exact vi32_nle (by assumption) (by assumption) | exact vi32_le (by assumption) (by assumption)) d_C_event_62 ?_
      exact hend _ _ _ _ _ _ (by rw [sC_event, if_neg c_4, if_neg w10_0, if_pos w10_1] <;> rfl) hP hS d_C_event_63
    by_cases w10_2 : w0 = 2
    · refine lv_tableIn (tgt := 64) hx hb d_C_event_10 (by rw [w10_2]; decide) (by rw [w10_2]; decide) (off := 54) (by rw [w10_2]; rfl) (by decide) ?_
      refine lv_aload_n hx hb d_C_event_64 rfl (lv_at hl 0 rfl) ?_
      refine va_get (D := D) (ci := 0) (v := .ref (h 17)) (C := R_C) (T := F_C) (N := 7) hx hb hts i_C hown hK hP 0 rfl rfl 3 (by decide) (hts _ tw_134) (fun _ h9 => h9) rfl d_C_event_65 ?_
      refine va_getN (D := D) (ci := 4) (v := .ref (h 19)) (C := R_A) (T := F_A) (N := 3) hx hb hts i_A hown hK hP 17 rfl rfl 1 (by decide) (hKK.nest (nestW_in tn_120 rfl) rfl) (fun _ h9 => h9) rfl d_C_event_68 ?_
      refine lv_iload_n hx hb d_C_event_71 rfl (lv_at hl 1 rfl) ?_
      refine va_iald (f := (X 19)) hx hb hK hP 19 0 rfl rfl (by first | assumption | exact vi32_lt (by assumption) (by assumption) | exact vi32_nle (by assumption) (by assumption) | exact vi32_le (by assumption) (by assumption)) d_C_event_72 ?_
      refine lv_if_le (tgt := 92) hx hb d_C_event_73 (by decide) (fun c_73 => ?_) (fun c_73 => ?_)
      · refine lv_iconst (v := 0) hx hb d_C_event_92 (by decide) ?_
        exact hend _ _ _ _ _ _ (by rw [sC_event, if_neg c_4, if_neg w10_0, if_neg w10_1, if_pos w10_2, if_pos c_73] <;> rfl) hP hS d_C_event_93
      · refine lv_aload_n hx hb d_C_event_76 rfl (lv_at hl 0 rfl) ?_
        refine va_get (D := D) (ci := 0) (v := .ref (h 17)) (C := R_C) (T := F_C) (N := 7) hx hb hts i_C hown hK hP 0 rfl rfl 3 (by decide) (hts _ tw_134) (fun _ h9 => h9) rfl d_C_event_77 ?_
        refine va_getN (D := D) (ci := 4) (v := .ref (h 20)) (C := R_A) (T := F_A) (N := 3) hx hb hts i_A hown hK hP 17 rfl rfl 2 (by decide) (hKK.nest (nestW_in tn_122 rfl) rfl) (fun _ h9 => h9) rfl d_C_event_80 ?_
        refine lv_iload_n hx hb d_C_event_83 rfl (lv_at hl 1 rfl) ?_
        refine va_zald (f := (X 20)) hx hb hK hP 20 1 rfl rfl (by first | assumption | exact vi32_lt (by assumption) (by assumption) | exact vi32_nle (by assumption) (by assumption) | exact vi32_le (by assumption) (by assumption)) d_C_event_84 ?_
        refine lv_if_eq (tgt := 92) hx hb d_C_event_85 (by decide) (fun c_85 => ?_) (fun c_85 => ?_)
        · refine lv_iconst (v := 0) hx hb d_C_event_92 (by decide) ?_
          exact hend _ _ _ _ _ _ (by rw [sC_event, if_neg c_4, if_neg w10_0, if_neg w10_1, if_pos w10_2, if_neg c_73, if_pos c_85] <;> rfl) hP hS d_C_event_93
        · refine lv_iconst (v := 1) hx hb d_C_event_88 (by decide) ?_
          refine lv_goto (tgt := 93) hx hb d_C_event_89 (by decide) ?_
          exact hend _ _ _ _ _ _ (by rw [sC_event, if_neg c_4, if_neg w10_0, if_neg w10_1, if_pos w10_2, if_neg c_73, if_neg c_85] <;> rfl) hP hS d_C_event_93
    refine lv_tableOut (tgt := 94) hx hb d_C_event_10 (by have z0 := lv_neT w10_0 (a := 0) rfl; have z1 := lv_neT w10_1 (a := 1) rfl; have z2 := lv_neT w10_2 (a := 2) rfl; omega) (by decide) ?_
    refine lv_iconst (v := (-1)) hx hb d_C_event_94 (by decide) ?_
    exact hend _ _ _ _ _ _ (by rw [sC_event, if_neg c_4, if_neg w10_0, if_neg w10_1, if_neg w10_2] <;> rfl) hP hS d_C_event_95
  · refine lv_iconst (v := (-1)) hx hb d_C_event_7 (by decide) ?_
    exact hend _ _ _ _ _ _ (by rw [sC_event, if_pos c_4] <;> rfl) hP hS d_C_event_8
set_option maxHeartbeats 4000000 in
set_option maxRecDepth 100000 in
/-- count -/
theorem c_C_count (l : Launch) (D : va_G) (cA : Nat → ClassId) (h : Nat → Nat) (Rw X : Sg) (w0 : Int32) : Ct l y_C_count b_C_count 2 (some .int) 0 0 D cA [.ref (h 0), .int w0] (wC cA h Rw) X (sC_count X w0) := by
  refine Ct.of rfl rfl (by decide +kernel) (Nat.le_of_ble_eq_true rfl) ?_
  intro p e s m below meth c A Q ls hx hb hml hown hts hKK hP hD hA hS hend hl
  have hown : s.vm.findClass R_C = some m.cls := hown
  have hl : lv_has ls 2 [(0, .ref (h 0)), (1, .int w0)] := hl
  have hK := hKK.1
  refine lv_iload_n hx hb d_C_count_0 rfl (lv_at hl 1 rfl) ?_
  by_cases w1_0 : w0 = 0
  · refine lv_tableIn (tgt := 36) hx hb d_C_count_1 (by rw [w1_0]; decide) (by rw [w1_0]; decide) (off := 35) (by rw [w1_0]; rfl) (by decide) ?_
    refine lv_aload_n hx hb d_C_count_36 rfl (lv_at hl 0 rfl) ?_
    refine va_get (D := D) (ci := 0) (v := .ref (h 7)) (C := R_C) (T := F_C) (N := 7) hx hb hts i_C hown hK hP 0 rfl rfl 2 (by decide) (hts _ tw_133) (fun _ h9 => h9) rfl d_C_count_37 ?_
    refine va_getN (D := D) (ci := 3) (v := .int (X 7 9)) (C := R_L) (T := F_L) (N := 11) hx hb hts i_L hown hK hP 7 rfl rfl 9 (by decide) (hKK.nest (nestW_in tn_83 rfl) rfl) (fun _ h9 => h9) rfl d_C_count_40 ?_
    exact hend _ _ _ _ _ _ (by rw [sC_count, if_pos w1_0] <;> rfl) hP hS d_C_count_43
  by_cases w1_1 : w0 = 1
  · refine lv_tableIn (tgt := 44) hx hb d_C_count_1 (by rw [w1_1]; decide) (by rw [w1_1]; decide) (off := 43) (by rw [w1_1]; rfl) (by decide) ?_
    refine lv_aload_n hx hb d_C_count_44 rfl (lv_at hl 0 rfl) ?_
    refine va_get (D := D) (ci := 0) (v := .ref (h 7)) (C := R_C) (T := F_C) (N := 7) hx hb hts i_C hown hK hP 0 rfl rfl 2 (by decide) (hts _ tw_133) (fun _ h9 => h9) rfl d_C_count_45 ?_
    refine va_getN (D := D) (ci := 3) (v := .int (X 7 10)) (C := R_L) (T := F_L) (N := 11) hx hb hts i_L hown hK hP 7 rfl rfl 10 (by decide) (hKK.nest (nestW_in tn_84 rfl) rfl) (fun _ h9 => h9) rfl d_C_count_48 ?_
    exact hend _ _ _ _ _ _ (by rw [sC_count, if_neg w1_0, if_pos w1_1] <;> rfl) hP hS d_C_count_51
  by_cases w1_2 : w0 = 2
  · refine lv_tableIn (tgt := 52) hx hb d_C_count_1 (by rw [w1_2]; decide) (by rw [w1_2]; decide) (off := 51) (by rw [w1_2]; rfl) (by decide) ?_
    refine lv_aload_n hx hb d_C_count_52 rfl (lv_at hl 0 rfl) ?_
    refine va_get (D := D) (ci := 0) (v := .ref (h 3)) (C := R_C) (T := F_C) (N := 7) hx hb hts i_C hown hK hP 0 rfl rfl 1 (by decide) (hts _ tw_132) (fun _ h9 => h9) rfl d_C_count_53 ?_
    refine va_getN (D := D) (ci := 2) (v := .int (X 3 3)) (C := R_E) (T := F_E) (N := 7) hx hb hts i_E hown hK hP 3 rfl rfl 3 (by decide) (hKK.nest (nestW_in tn_38 rfl) rfl) (fun _ h9 => h9) rfl d_C_count_56 ?_
    exact hend _ _ _ _ _ _ (by rw [sC_count, if_neg w1_0, if_neg w1_1, if_pos w1_2] <;> rfl) hP hS d_C_count_59
  by_cases w1_3 : w0 = 3
  · refine lv_tableIn (tgt := 60) hx hb d_C_count_1 (by rw [w1_3]; decide) (by rw [w1_3]; decide) (off := 59) (by rw [w1_3]; rfl) (by decide) ?_
    refine lv_aload_n hx hb d_C_count_60 rfl (lv_at hl 0 rfl) ?_
    refine va_get (D := D) (ci := 0) (v := .ref (h 3)) (C := R_C) (T := F_C) (N := 7) hx hb hts i_C hown hK hP 0 rfl rfl 1 (by decide) (hts _ tw_132) (fun _ h9 => h9) rfl d_C_count_61 ?_
    refine va_getN (D := D) (ci := 2) (v := .int (X 3 4)) (C := R_E) (T := F_E) (N := 7) hx hb hts i_E hown hK hP 3 rfl rfl 4 (by decide) (hKK.nest (nestW_in tn_40 rfl) rfl) (fun _ h9 => h9) rfl d_C_count_64 ?_
    exact hend _ _ _ _ _ _ (by rw [sC_count, if_neg w1_0, if_neg w1_1, if_neg w1_2, if_pos w1_3] <;> rfl) hP hS d_C_count_67
  by_cases w1_4 : w0 = 4
  · refine lv_tableIn (tgt := 68) hx hb d_C_count_1 (by rw [w1_4]; decide) (by rw [w1_4]; decide) (off := 67) (by rw [w1_4]; rfl) (by decide) ?_
    refine lv_aload_n hx hb d_C_count_68 rfl (lv_at hl 0 rfl) ?_
    refine va_get (D := D) (ci := 0) (v := .ref (h 3)) (C := R_C) (T := F_C) (N := 7) hx hb hts i_C hown hK hP 0 rfl rfl 1 (by decide) (hts _ tw_132) (fun _ h9 => h9) rfl d_C_count_69 ?_
    refine va_getN (D := D) (ci := 2) (v := .int (X 3 6)) (C := R_E) (T := F_E) (N := 7) hx hb hts i_E hown hK hP 3 rfl rfl 6 (by decide) (hKK.nest (nestW_in tn_44 rfl) rfl) (fun _ h9 => h9) rfl d_C_count_72 ?_
    exact hend _ _ _ _ _ _ (by rw [sC_count, if_neg w1_0, if_neg w1_1, if_neg w1_2, if_neg w1_3, if_pos w1_4] <;> rfl) hP hS d_C_count_75
  refine lv_tableOut (tgt := 76) hx hb d_C_count_1 (by have z0 := lv_neT w1_0 (a := 0) rfl; have z1 := lv_neT w1_1 (a := 1) rfl; have z2 := lv_neT w1_2 (a := 2) rfl; have z3 := lv_neT w1_3 (a := 3) rfl; have z4 := lv_neT w1_4 (a := 4) rfl; omega) (by decide) ?_
  refine lv_iconst (v := (-1)) hx hb d_C_count_76 (by decide) ?_
  exact hend _ _ _ _ _ _ (by rw [sC_count, if_neg w1_0, if_neg w1_1, if_neg w1_2, if_neg w1_3, if_neg w1_4] <;> rfl) hP hS d_C_count_77
end
section
theorem lk_M_67 : LkS R_M 67 y_M_isIn b_M_isIn 3 (some .boolean) 3 := LkS.of tw_375 tw_376 tw_6 tw_377 (by decide +kernel)
theorem lk_M_96 : LkS R_M 96 y_M_isEvent b_M_isEvent 1 (some .boolean) 1 := LkS.of tw_410 tw_411 tw_6 tw_412 (by decide +kernel)
theorem lk_M_71 : LkV R_M 71 R_M y_M_limits b_M_limits 3 (some .int) 0 := LkV.of tw_378 tw_380 ts_limits tw_6 tw_381 (by decide +kernel)
theorem lk_M_75 : LkV R_M 75 R_M y_M_isThere b_M_isThere 2 (some .boolean) 1 := LkV.of tw_386 tw_388 ts_isThere tw_6 tw_389 (by decide +kernel)
theorem lk_M_89 : LkV R_M 89 R_M y_M_waits b_M_waits 3 (some .boolean) 2 := LkV.of tw_398 tw_400 ts_waits tw_6 tw_401 (by decide +kernel)
set_option maxHeartbeats 4000000 in
set_option maxRecDepth 100000 in
/-- isIn -/
theorem c_M_isIn (l : Launch) (D : va_G) (cA : Nat → ClassId) {St : Type} (Wf : St → va_W) (X : St) (v0 : Int32) (a0 : Int32) (b0 : Int32) : Ct l y_M_isIn b_M_isIn 3 (some .boolean) 0 0 D cA [.int v0, .int a0, .int b0] Wf X (sM_isIn v0 a0 b0, X) := by
  refine Ct.of rfl (isZ_isIn v0 a0 b0).nar (by decide +kernel) (Nat.le_of_ble_eq_true rfl) ?_
  intro p e s m below meth c A Q ls hx hb hml hown hts hKK hP hD hA hS hend hl
  have hown : s.vm.findClass R_M = some m.cls := hown
  have hl : lv_has ls 3 [(0, .int v0), (1, .int a0), (2, .int b0)] := hl
  have hK := hKK.1
  refine lv_iload_n hx hb d_M_isIn_0 rfl (lv_at hl 0 rfl) ?_
  refine lv_iload_n hx hb d_M_isIn_1 rfl (lv_at hl 1 rfl) ?_
  refine lv_icmp_lt (tgt := 14) hx hb d_M_isIn_2 (by decide) (fun c_2 => ?_) (fun c_2 => ?_)
  · refine lv_iconst (v := 0) hx hb d_M_isIn_14 (by decide) ?_
    exact hend _ _ _ _ _ _ (by rw [sM_isIn, if_pos c_2] <;> rfl) hP hS d_M_isIn_15
  · refine lv_iload_n hx hb d_M_isIn_5 rfl (lv_at hl 0 rfl) ?_
    refine lv_iload_n hx hb d_M_isIn_6 rfl (lv_at hl 2 rfl) ?_
    refine lv_icmp_gt (tgt := 14) hx hb d_M_isIn_7 (by decide) (fun c_7 => ?_) (fun c_7 => ?_)
    · refine lv_iconst (v := 0) hx hb d_M_isIn_14 (by decide) ?_
      exact hend _ _ _ _ _ _ (by rw [sM_isIn, if_neg c_2, if_pos c_7] <;> rfl) hP hS d_M_isIn_15
    · refine lv_iconst (v := 1) hx hb d_M_isIn_10 (by decide) ?_
      refine lv_goto (tgt := 15) hx hb d_M_isIn_11 (by decide) ?_
      exact hend _ _ _ _ _ _ (by rw [sM_isIn, if_neg c_2, if_neg c_7] <;> rfl) hP hS d_M_isIn_15
set_option maxHeartbeats 4000000 in
set_option maxRecDepth 100000 in
/-- isEvent -/
theorem c_M_isEvent (l : Launch) (D : va_G) (cA : Nat → ClassId) {St : Type} (Wf : St → va_W) (X : St) (e0 : Int32) : Ct l y_M_isEvent b_M_isEvent 1 (some .boolean) 1 22 D cA [.int e0] Wf X (sM_isEvent e0, X) := by
  refine Ct.of rfl (isZ_isIn e0 0 31).nar (by decide +kernel) (Nat.le_of_ble_eq_true rfl) ?_
  intro p e s m below meth c A Q ls hx hb hml hown hts hKK hP hD hA hS hend hl
  have hown : s.vm.findClass R_M = some m.cls := hown
  have hl : lv_has ls 1 [(0, .int e0)] := hl
  have hK := hKK.1
  refine lv_iload_n hx hb d_M_isEvent_0 rfl (lv_at hl 0 rfl) ?_
  refine lv_iconst (v := 0) hx hb d_M_isEvent_1 (by decide) ?_
  refine lv_bipush (v := 31) hx hb d_M_isEvent_2 (by decide) ?_
  refine cS (rr := (sM_isIn e0 0 31)) (X' := X) (c_M_isIn l D cA Wf X e0 0 31) lk_M_67 hx hb hml hown hts hKK hP hD hS hA hl.1 ⟨by decide, by decide⟩ ⟨Nat.le_refl _, Nat.le_refl _⟩ rfl rfl rfl (Nat.le_of_ble_eq_true rfl) d_M_isEvent_4 (fun H locs hP hD hS => ?_)
  exact hend _ _ _ _ _ _ rfl hP hS d_M_isEvent_7
set_option maxHeartbeats 4000000 in
set_option maxRecDepth 100000 in
/-- isThere -/
theorem c_M_isThere (l : Launch) (D : va_G) (cA : Nat → ClassId) (h : Nat → Nat) (M : Sg) (i0 : Int32) : Ct l y_M_isThere b_M_isThere 2 (some .boolean) 0 0 D cA [.ref (h 0), .int i0] (wM cA h) M (sM_isThere M i0, M) := by
  refine Ct.of rfl (isZ_isThere M i0).nar (by decide +kernel) (Nat.le_of_ble_eq_true rfl) ?_
  intro p e s m below meth c A Q ls hx hb hml hown hts hKK hP hD hA hS hend hl
  have hown : s.vm.findClass R_M = some m.cls := hown
  have hl : lv_has ls 2 [(0, .ref (h 0)), (1, .int i0)] := hl
  have hK := hKK.1
  refine lv_iload_n hx hb d_M_isThere_0 rfl (lv_at hl 1 rfl) ?_
  refine lv_if_lt (tgt := 24) hx hb d_M_isThere_1 (by decide) (fun c_1 => ?_) (fun c_1 => ?_)
  · refine lv_iconst (v := 0) hx hb d_M_isThere_24 (by decide) ?_
    exact hend _ _ _ _ _ _ (by rw [sM_isThere, if_pos c_1] <;> rfl) hP hS d_M_isThere_25
  · refine lv_iload_n hx hb d_M_isThere_4 rfl (lv_at hl 1 rfl) ?_
    refine lv_sipush (v := 256) hx hb d_M_isThere_5 (by decide) ?_
    refine lv_icmp_ge (tgt := 24) hx hb d_M_isThere_8 (by decide) (fun c_8 => ?_) (fun c_8 => ?_)
    · refine lv_iconst (v := 0) hx hb d_M_isThere_24 (by decide) ?_
      exact hend _ _ _ _ _ _ (by rw [sM_isThere, if_neg c_1, if_pos c_8] <;> rfl) hP hS d_M_isThere_25
    · refine lv_aload_n hx hb d_M_isThere_11 rfl (lv_at hl 0 rfl) ?_
      refine va_get (D := D) (ci := 5) (v := .ref (h 2)) (C := R_M) (T := F_M) (N := 24) hx hb hts i_M hown hK hP 0 rfl rfl 2 (by decide) (hts _ tw_296) (fun _ h9 => h9) rfl d_M_isThere_12 ?_
      refine lv_iload_n hx hb d_M_isThere_15 rfl (lv_at hl 1 rfl) ?_
      refine va_zald (f := (M 2)) hx hb hK hP 2 1 rfl rfl (by first | assumption | exact vi256_lt (by assumption) (by assumption) | exact vi256_nle (by assumption) (by assumption) | exact vi256_le (by assumption) (by assumption)) d_M_isThere_16 ?_
      refine lv_if_eq (tgt := 24) hx hb d_M_isThere_17 (by decide) (fun c_17 => ?_) (fun c_17 => ?_)
      · refine lv_iconst (v := 0) hx hb d_M_isThere_24 (by decide) ?_
        exact hend _ _ _ _ _ _ (by rw [sM_isThere, if_neg c_1, if_neg c_8, if_pos c_17] <;> rfl) hP hS d_M_isThere_25
      · refine lv_iconst (v := 1) hx hb d_M_isThere_20 (by decide) ?_
        refine lv_goto (tgt := 25) hx hb d_M_isThere_21 (by decide) ?_
        exact hend _ _ _ _ _ _ (by rw [sM_isThere, if_neg c_1, if_neg c_8, if_neg c_17] <;> rfl) hP hS d_M_isThere_25
set_option maxHeartbeats 4000000 in
set_option maxRecDepth 100000 in
/-- limits: how many are there -/
theorem c_M_limits (l : Launch) (D : va_G) (cA : Nat → ClassId) (h : Nat → Nat) (M : Sg) : Ct l y_M_limits b_M_limits 3 (some .int) 0 0 D cA [.ref (h 0)] (wM cA h) M (sM_limits M, M) := by
  refine Ct.of rfl rfl (by decide +kernel) (Nat.le_of_ble_eq_true rfl) ?_
  intro p e s m below meth c A Q ls hx hb hml hown hts hKK hP hD hA hS hend hl
  have hown : s.vm.findClass R_M = some m.cls := hown
  have hl : lv_has ls 3 [(0, .ref (h 0))] := hl
  have hK := hKK.1
  have loop : ∀ (n k : Nat) (x1 x2 : Int32) (ls : Array Slot), k ≤ 256 → 256 < k + n → x2 = nI k → x1 = cntN (M 2) k → lv_has ls 3 [(0, .ref (h 0)), (1, .int x1), (2, .int x2)] → W p l e (rmZ 0 0) s m ([.ref (h 0)] : List Value).toArray below meth c s.heap [] 0 0 Q (F0 m 4 ls []) := by
    intro n
    induction n with
    | zero => intro k x1 x2 ls h1 h2; exact absurd h2 (by omega)
    | succ n ih =>
      intro k x1 x2 ls h1 h2 e2 e1 hl
      refine lv_iload_n hx hb d_M_limits_4 rfl (lv_at hl 2 rfl) ?_
      refine lv_sipush (v := 256) hx hb d_M_limits_5 (by decide) ?_
      refine lv_icmp_ge (tgt := 34) hx hb d_M_limits_8 (by decide) (fun c_8 => ?_) (fun c_8 => ?_)
      · have hk : k = 256 := lp_ge rfl (by decide) e2 h1 c_8
        refine lv_iload_n hx hb d_M_limits_34 rfl (lv_at hl 1 rfl) ?_
        exact hend _ _ _ _ _ _ (by rw [e1, hk]; rfl) hP hS d_M_limits_35
      · have hk : k < 256 := lp_lt rfl (by decide) e2 h1 c_8
        have hi : vp_in x2 256 := lp_in (by decide) e2 hk
        have ek : x2.toNatClampNeg = k := lp_ix e2 (by omega)
        refine lv_iload_n hx hb d_M_limits_11 rfl (lv_at hl 1 rfl) ?_
        refine lv_aload_n hx hb d_M_limits_12 rfl (lv_at hl 0 rfl) ?_
        refine va_get (D := D) (ci := 5) (v := .ref (h 2)) (C := R_M) (T := F_M) (N := 24) hx hb hts i_M hown hK hP 0 rfl rfl 2 (by decide) (hts _ tw_296) (fun _ h9 => h9) rfl d_M_limits_13 ?_
        refine lv_iload_n hx hb d_M_limits_16 rfl (lv_at hl 2 rfl) ?_
        refine va_zald (f := (M 2)) hx hb hK hP 2 1 rfl rfl (by first | assumption | exact vi256_lt (by assumption) (by assumption) | exact vi256_nle (by assumption) (by assumption) | exact vi256_le (by assumption) (by assumption)) d_M_limits_17 ?_
        refine lv_if_eq (tgt := 25) hx hb d_M_limits_18 (by decide) (fun c_18 => ?_) (fun c_18 => ?_)
        · refine lv_iconst (v := 0) hx hb d_M_limits_25 (by decide) ?_
          refine lv_iadd hx hb d_M_limits_26 ?_
          refine lv_istore_n (lv' := [(1, .int (x1 + 0)), (0, .ref (h 0)), (2, .int x2)]) hx hb d_M_limits_27 rfl hl (by decide) rfl (fun ls hl => ?_)
          refine lv_iinc (v := (x2 + 1)) (lv' := [(2, .int (x2 + 1)), (1, .int (x1 + 0)), (0, .ref (h 0))]) hx hb d_M_limits_28 hl (k := 2) rfl rfl (by decide) rfl (fun ls hl => ?_)
          refine lv_goto (tgt := 4) hx hb d_M_limits_31 (by decide) ?_
          exact ih (k + 1) _ _ _ (by omega) (by omega) (by rw [e2]; exact nI_1 k) (by rw [e1]; show _ = cntN (M 2) k + (if M 2 k = 0 then 0 else 1); rw [ek] at c_18; rw [if_pos c_18]) (lv_sub hl [2, 1, 0] rfl)
        · refine lv_iconst (v := 1) hx hb d_M_limits_21 (by decide) ?_
          refine lv_goto (tgt := 26) hx hb d_M_limits_22 (by decide) ?_
          refine lv_iadd hx hb d_M_limits_26 ?_
          refine lv_istore_n (lv' := [(1, .int (x1 + 1)), (0, .ref (h 0)), (2, .int x2)]) hx hb d_M_limits_27 rfl hl (by decide) rfl (fun ls hl => ?_)
          refine lv_iinc (v := (x2 + 1)) (lv' := [(2, .int (x2 + 1)), (1, .int (x1 + 1)), (0, .ref (h 0))]) hx hb d_M_limits_28 hl (k := 2) rfl rfl (by decide) rfl (fun ls hl => ?_)
          refine lv_goto (tgt := 4) hx hb d_M_limits_31 (by decide) ?_
          exact ih (k + 1) _ _ _ (by omega) (by omega) (by rw [e2]; exact nI_1 k) (by rw [e1]; show _ = cntN (M 2) k + (if M 2 k = 0 then 0 else 1); rw [ek] at c_18; rw [if_neg c_18]) (lv_sub hl [2, 1, 0] rfl)
  refine lv_iconst (v := 0) hx hb d_M_limits_0 (by decide) ?_
  refine lv_istore_n (lv' := [(1, .int 0), (0, .ref (h 0))]) hx hb d_M_limits_1 rfl hl (by decide) rfl (fun ls hl => ?_)
  refine lv_iconst (v := 0) hx hb d_M_limits_2 (by decide) ?_
  refine lv_istore_n (lv' := [(2, .int 0), (1, .int 0), (0, .ref (h 0))]) hx hb d_M_limits_3 rfl hl (by decide) rfl (fun ls hl => ?_)
  exact loop 257 0 _ _ _ (by decide) (by decide) nI_0.symm rfl (lv_sub hl [2, 1, 0] rfl)
set_option maxHeartbeats 4000000 in
set_option maxRecDepth 100000 in
theorem c_M_set (l : Launch) (D : va_G) (cA : Nat → ClassId) (h : Nat → Nat) (M : Sg) (k0 : Int32) (v0 : Int32) : Ct l y_M_set b_M_set 3 (some .boolean) 0 0 D cA [.ref (h 0), .int k0, .int v0] (wM cA h) M (sM_set (th M) k0 v0) := by
  refine Ct.of rfl (isZ_Mset (th M) k0 v0).nar (by decide +kernel) (Nat.le_of_ble_eq_true rfl) ?_
  intro p e s m below meth c A Q ls hx hb hml hown hts hKK hP hD hA hS hend hl
  have hown : s.vm.findClass R_M = some m.cls := hown
  have hl : lv_has ls 3 [(0, .ref (h 0)), (1, .int k0), (2, .int v0)] := hl
  have hK := hKK.1
  refine lv_aload_n hx hb d_M_set_0 rfl (lv_at hl 0 rfl) ?_
  refine lv_iconst (v := 0) hx hb d_M_set_1 (by decide) ?_
  refine va_put (D := D) (ci := 5) (v := .int 0) (ty := .int) (C := R_M) (T := F_M) (N := 24) hx hb hts i_M t_M t_M_ok n_M hown hK hP hD hS 0 rfl rfl 0 (by decide) (hts _ tw_294) (fun _ h9 => h9) rfl (t_M_ok 0 (by decide)) rfl rfl (Nat.le_of_ble_eq_true rfl) d_M_set_2 (fun H locs hP hD hS => ?_)
  have hP : va_P D classes ((wM cA h) (th M)) H := hP
  have hD : va_D A ((wM cA h) (th M)) := hD
  refine lv_iload_n hx hb d_M_set_5 rfl (lv_at hl 1 rfl) ?_
  refine lv_if_lt (tgt := 15) hx hb d_M_set_6 (by decide) (fun c_6 => ?_) (fun c_6 => ?_)
  · refine lv_iconst (v := 0) hx hb d_M_set_15 (by decide) ?_
    exact hend _ _ _ _ _ _ (by rw [sM_set, if_pos c_6] <;> rfl) hP hS d_M_set_16
  · refine lv_iload_n hx hb d_M_set_9 rfl (lv_at hl 1 rfl) ?_
    refine lv_bipush (v := 31) hx hb d_M_set_10 (by decide) ?_
    refine lv_icmp_le (tgt := 17) hx hb d_M_set_12 (by decide) (fun c_12 => ?_) (fun c_12 => ?_)
    · refine lv_aload_n hx hb d_M_set_17 rfl (lv_at hl 0 rfl) ?_
      refine va_get (D := D) (ci := 5) (v := .ref (h 1)) (C := R_M) (T := F_M) (N := 24) hx hb hts i_M hown hK hP 0 rfl rfl 1 (by decide) (hts _ tw_295) (fun _ h9 => h9) rfl d_M_set_18 ?_
      refine lv_iload_n hx hb d_M_set_21 rfl (lv_at hl 1 rfl) ?_
      refine lv_iload_n hx hb d_M_set_22 rfl (lv_at hl 2 rfl) ?_
      refine va_iast (f := ((th M) 1)) hx hb hK hP hD hS 1 0 rfl rfl (by first | assumption | exact vi32_lt (by assumption) (by assumption) | exact vi32_nle (by assumption) (by assumption) | exact vi32_le (by assumption) (by assumption)) d_M_set_23 (fun H locs hP hD hS => ?_)
      have hP : va_P D classes ((wM cA h) (pt (th M) 1 (ix k0) v0)) H := hP
      have hD : va_D A ((wM cA h) (pt (th M) 1 (ix k0) v0)) := hD
      refine lv_iconst (v := 1) hx hb d_M_set_24 (by decide) ?_
      exact hend _ _ _ _ _ _ (by rw [sM_set, if_neg c_6, if_pos c_12] <;> rfl) hP hS d_M_set_25
    · refine lv_iconst (v := 0) hx hb d_M_set_15 (by decide) ?_
      exact hend _ _ _ _ _ _ (by rw [sM_set, if_neg c_6, if_neg c_12] <;> rfl) hP hS d_M_set_16
set_option maxHeartbeats 4000000 in
set_option maxRecDepth 100000 in
theorem c_M_add (l : Launch) (D : va_G) (cA : Nat → ClassId) (h : Nat → Nat) (M : Sg) (i0 : Int32) (p0 : Int32) (o0 : Int32) (l0 : Int32) (u0 : Int32) (e0 : Int32) (k0 : Int32) : Ct l y_M_add b_M_add 8 (some .int) 1 22 D cA [.ref (h 0), .int i0, .int p0, .int o0, .int l0, .int u0, .int e0, .int k0] (wM cA h) M (sM_add (th M) i0 p0 o0 l0 u0 e0 k0) := by
  refine Ct.of rfl rfl (by decide +kernel) (Nat.le_of_ble_eq_true rfl) ?_
  intro p e s m below meth c A Q ls hx hb hml hown hts hKK hP hD hA hS hend hl
  have hown : s.vm.findClass R_M = some m.cls := hown
  have hl : lv_has ls 8 [(0, .ref (h 0)), (1, .int i0), (2, .int p0), (3, .int o0), (4, .int l0), (5, .int u0), (6, .int e0), (7, .int k0)] := hl
  have hK := hKK.1
  refine lv_aload_n hx hb d_M_add_0 rfl (lv_at hl 0 rfl) ?_
  refine lv_iconst (v := 0) hx hb d_M_add_1 (by decide) ?_
  refine va_put (D := D) (ci := 5) (v := .int 0) (ty := .int) (C := R_M) (T := F_M) (N := 24) hx hb hts i_M t_M t_M_ok n_M hown hK hP hD hS 0 rfl rfl 0 (by decide) (hts _ tw_294) (fun _ h9 => h9) rfl (t_M_ok 0 (by decide)) rfl rfl (Nat.le_of_ble_eq_true rfl) d_M_add_2 (fun H locs hP hD hS => ?_)
  have hP : va_P D classes ((wM cA h) (th M)) H := hP
  have hD : va_D A ((wM cA h) (th M)) := hD
  refine lv_iload_n hx hb d_M_add_5 rfl (lv_at hl 3 rfl) ?_
  refine lv_iconst (v := 1) hx hb d_M_add_6 (by decide) ?_
  refine lv_sipush (v := 255) hx hb d_M_add_7 (by decide) ?_
  refine cS (rr := (sM_isIn o0 1 255)) (X' := (th M)) (c_M_isIn l D cA (wM cA h) (th M) o0 1 255) lk_M_67 hx hb hml hown hts hKK hP hD hS hA hl.1 ⟨by decide, by decide⟩ ⟨Nat.le_refl _, Nat.le_refl _⟩ rfl rfl rfl (Nat.le_of_ble_eq_true rfl) d_M_add_10 (fun H locs hP hD hS => ?_)
  refine lv_if_eq (tgt := 55) hx hb d_M_add_13 (by decide) (fun c_13 => ?_) (fun c_13 => ?_)
  · refine lv_bipush (v := 13) hx hb d_M_add_55 (by decide) ?_
    exact hend _ _ _ _ _ _ (by rw [sM_add, if_pos c_13] <;> rfl) hP hS d_M_add_57
  · refine lv_iload hx hb d_M_add_16 (lv_at hl 4 rfl) ?_
    refine lv_iload hx hb d_M_add_18 (lv_at hl 5 rfl) ?_
    refine lv_icmp_gt (tgt := 55) hx hb d_M_add_20 (by decide) (fun c_20 => ?_) (fun c_20 => ?_)
    · refine lv_bipush (v := 13) hx hb d_M_add_55 (by decide) ?_
      exact hend _ _ _ _ _ _ (by rw [sM_add, if_neg c_13, if_pos c_20] <;> rfl) hP hS d_M_add_57
    · refine lv_iload_n hx hb d_M_add_23 rfl (lv_at hl 2 rfl) ?_
      refine lv_iconst (v := 0) hx hb d_M_add_24 (by decide) ?_
      refine lv_bipush (v := 31) hx hb d_M_add_25 (by decide) ?_
      refine cS (rr := (sM_isIn p0 0 31)) (X' := (th M)) (c_M_isIn l D cA (wM cA h) (th M) p0 0 31) lk_M_67 hx hb hml hown hts hKK hP hD hS hA hl.1 ⟨by decide, by decide⟩ ⟨Nat.le_refl _, Nat.le_refl _⟩ rfl rfl rfl (Nat.le_of_ble_eq_true rfl) d_M_add_27 (fun H locs hP hD hS => ?_)
      refine lv_if_eq (tgt := 55) hx hb d_M_add_30 (by decide) (fun c_30 => ?_) (fun c_30 => ?_)
      · refine lv_bipush (v := 13) hx hb d_M_add_55 (by decide) ?_
        exact hend _ _ _ _ _ _ (by rw [sM_add, if_neg c_13, if_neg c_20, if_pos c_30] <;> rfl) hP hS d_M_add_57
      · refine lv_iload hx hb d_M_add_33 (lv_at hl 6 rfl) ?_
        refine lv_iconst (v := 0) hx hb d_M_add_35 (by decide) ?_
        refine lv_bipush (v := 31) hx hb d_M_add_36 (by decide) ?_
        refine cS (rr := (sM_isIn e0 0 31)) (X' := (th M)) (c_M_isIn l D cA (wM cA h) (th M) e0 0 31) lk_M_67 hx hb hml hown hts hKK hP hD hS hA hl.1 ⟨by decide, by decide⟩ ⟨Nat.le_refl _, Nat.le_refl _⟩ rfl rfl rfl (Nat.le_of_ble_eq_true rfl) d_M_add_38 (fun H locs hP hD hS => ?_)
        refine lv_if_eq (tgt := 55) hx hb d_M_add_41 (by decide) (fun c_41 => ?_) (fun c_41 => ?_)
        · refine lv_bipush (v := 13) hx hb d_M_add_55 (by decide) ?_
          exact hend _ _ _ _ _ _ (by rw [sM_add, if_neg c_13, if_neg c_20, if_neg c_30, if_pos c_41] <;> rfl) hP hS d_M_add_57
        · refine lv_iload_n hx hb d_M_add_44 rfl (lv_at hl 1 rfl) ?_
          refine lv_iconst (v := 0) hx hb d_M_add_45 (by decide) ?_
          refine lv_sipush (v := 255) hx hb d_M_add_46 (by decide) ?_
          refine cS (rr := (sM_isIn i0 0 255)) (X' := (th M)) (c_M_isIn l D cA (wM cA h) (th M) i0 0 255) lk_M_67 hx hb hml hown hts hKK hP hD hS hA hl.1 ⟨by decide, by decide⟩ ⟨Nat.le_refl _, Nat.le_refl _⟩ rfl rfl rfl (Nat.le_of_ble_eq_true rfl) d_M_add_49 (fun H locs hP hD hS => ?_)
          refine lv_if_ne (tgt := 58) hx hb d_M_add_52 (by decide) (fun c_52 => ?_) (fun c_52 => ?_)
          · have hi := sM_isIn_255 c_52
            refine lv_aload_n hx hb d_M_add_58 rfl (lv_at hl 0 rfl) ?_
            refine va_get (D := D) (ci := 5) (v := .ref (h 2)) (C := R_M) (T := F_M) (N := 24) hx hb hts i_M hown hK hP 0 rfl rfl 2 (by decide) (hts _ tw_296) (fun _ h9 => h9) rfl d_M_add_59 ?_
            refine lv_iload_n hx hb d_M_add_62 rfl (lv_at hl 1 rfl) ?_
            refine va_zald (f := ((th M) 2)) hx hb hK hP 2 1 rfl rfl (by first | assumption | exact vi256_lt (by assumption) (by assumption) | exact vi256_nle (by assumption) (by assumption) | exact vi256_le (by assumption) (by assumption)) d_M_add_63 ?_
            refine lv_if_eq (tgt := 70) hx hb d_M_add_64 (by decide) (fun c_64 => ?_) (fun c_64 => ?_)
            · refine lv_aload_n hx hb d_M_add_70 rfl (lv_at hl 0 rfl) ?_
              refine cV (rr := (sM_limits (th M))) (X' := (th M)) (c_M_limits l D cA h (th M) ) lk_M_71 hx hb hml hown hts hKK hP hD hS hA hl.1 0 rfl rfl rfl ⟨by decide, by decide⟩ ⟨Nat.le_refl _, Nat.le_refl _⟩ rfl wM_adr rfl (Nat.le_of_ble_eq_true rfl) d_M_add_71 (fun H locs hP hD hS => ?_)
              refine lv_bipush (v := 16) hx hb d_M_add_74 (by decide) ?_
              refine lv_icmp_ne (tgt := 82) hx hb d_M_add_76 (by decide) (fun c_76 => ?_) (fun c_76 => ?_)
              · refine lv_aload_n hx hb d_M_add_82 rfl (lv_at hl 0 rfl) ?_
                refine va_get (D := D) (ci := 5) (v := .ref (h 2)) (C := R_M) (T := F_M) (N := 24) hx hb hts i_M hown hK hP 0 rfl rfl 2 (by decide) (hts _ tw_296) (fun _ h9 => h9) rfl d_M_add_83 ?_
                refine lv_iload_n hx hb d_M_add_86 rfl (lv_at hl 1 rfl) ?_
                refine lv_iconst (v := 1) hx hb d_M_add_87 (by decide) ?_
                refine va_zast (f := ((th M) 2)) hx hb hK hP hD hS 2 1 rfl rfl (by first | assumption | exact vi256_lt (by assumption) (by assumption) | exact vi256_nle (by assumption) (by assumption) | exact vi256_le (by assumption) (by assumption)) d_M_add_88 (fun H locs hP hD hS => ?_)
                have hP : va_P D classes ((wM cA h) (pt (th M) 2 (ix i0) (nz 1))) H := hP
                have hD : va_D A ((wM cA h) (pt (th M) 2 (ix i0) (nz 1))) := hD
                refine lv_aload_n hx hb d_M_add_89 rfl (lv_at hl 0 rfl) ?_
                refine va_get (D := D) (ci := 5) (v := .ref (h 3)) (C := R_M) (T := F_M) (N := 24) hx hb hts i_M hown hK hP 0 rfl rfl 3 (by decide) (hts _ tw_297) (fun _ h9 => h9) rfl d_M_add_90 ?_
                refine lv_iload_n hx hb d_M_add_93 rfl (lv_at hl 1 rfl) ?_
                refine lv_iconst (v := 0) hx hb d_M_add_94 (by decide) ?_
                refine va_zast (f := ((th M) 3)) hx hb hK hP hD hS 3 1 rfl rfl (by first | assumption | exact vi256_lt (by assumption) (by assumption) | exact vi256_nle (by assumption) (by assumption) | exact vi256_le (by assumption) (by assumption)) d_M_add_95 (fun H locs hP hD hS => ?_)
                have hP : va_P D classes ((wM cA h) (pt (pt (th M) 2 (ix i0) (nz 1)) 3 (ix i0) (nz 0))) H := hP
                have hD : va_D A ((wM cA h) (pt (pt (th M) 2 (ix i0) (nz 1)) 3 (ix i0) (nz 0))) := hD
                refine lv_aload_n hx hb d_M_add_96 rfl (lv_at hl 0 rfl) ?_
                refine va_get (D := D) (ci := 5) (v := .ref (h 4)) (C := R_M) (T := F_M) (N := 24) hx hb hts i_M hown hK hP 0 rfl rfl 4 (by decide) (hts _ tw_298) (fun _ h9 => h9) rfl d_M_add_97 ?_
                refine lv_iload_n hx hb d_M_add_100 rfl (lv_at hl 1 rfl) ?_
                refine lv_iload hx hb d_M_add_101 (lv_at hl 7 rfl) ?_
                refine va_zast (f := ((th M) 4)) hx hb hK hP hD hS 4 1 rfl rfl (by first | assumption | exact vi256_lt (by assumption) (by assumption) | exact vi256_nle (by assumption) (by assumption) | exact vi256_le (by assumption) (by assumption)) d_M_add_103 (fun H locs hP hD hS => ?_)
                have hP : va_P D classes ((wM cA h) (pt (pt (pt (th M) 2 (ix i0) (nz 1)) 3 (ix i0) (nz 0)) 4 (ix i0) (nz k0))) H := hP
                have hD : va_D A ((wM cA h) (pt (pt (pt (th M) 2 (ix i0) (nz 1)) 3 (ix i0) (nz 0)) 4 (ix i0) (nz k0))) := hD
                refine lv_aload_n hx hb d_M_add_104 rfl (lv_at hl 0 rfl) ?_
                refine va_get (D := D) (ci := 5) (v := .ref (h 5)) (C := R_M) (T := F_M) (N := 24) hx hb hts i_M hown hK hP 0 rfl rfl 5 (by decide) (hts _ tw_299) (fun _ h9 => h9) rfl d_M_add_105 ?_
                refine lv_iload_n hx hb d_M_add_108 rfl (lv_at hl 1 rfl) ?_
                refine lv_iload_n hx hb d_M_add_109 rfl (lv_at hl 2 rfl) ?_
                refine va_iast (f := ((th M) 5)) hx hb hK hP hD hS 5 0 rfl rfl (by first | assumption | exact vi256_lt (by assumption) (by assumption) | exact vi256_nle (by assumption) (by assumption) | exact vi256_le (by assumption) (by assumption)) d_M_add_110 (fun H locs hP hD hS => ?_)
                have hP : va_P D classes ((wM cA h) (pt (pt (pt (pt (th M) 2 (ix i0) (nz 1)) 3 (ix i0) (nz 0)) 4 (ix i0) (nz k0)) 5 (ix i0) p0)) H := hP
                have hD : va_D A ((wM cA h) (pt (pt (pt (pt (th M) 2 (ix i0) (nz 1)) 3 (ix i0) (nz 0)) 4 (ix i0) (nz k0)) 5 (ix i0) p0)) := hD
                refine lv_aload_n hx hb d_M_add_111 rfl (lv_at hl 0 rfl) ?_
                refine va_get (D := D) (ci := 5) (v := .ref (h 6)) (C := R_M) (T := F_M) (N := 24) hx hb hts i_M hown hK hP 0 rfl rfl 6 (by decide) (hts _ tw_300) (fun _ h9 => h9) rfl d_M_add_112 ?_
                refine lv_iload_n hx hb d_M_add_115 rfl (lv_at hl 1 rfl) ?_
                refine lv_iload_n hx hb d_M_add_116 rfl (lv_at hl 3 rfl) ?_
                refine va_iast (f := ((th M) 6)) hx hb hK hP hD hS 6 0 rfl rfl (by first | assumption | exact vi256_lt (by assumption) (by assumption) | exact vi256_nle (by assumption) (by assumption) | exact vi256_le (by assumption) (by assumption)) d_M_add_117 (fun H locs hP hD hS => ?_)
                have hP : va_P D classes ((wM cA h) (pt (pt (pt (pt (pt (th M) 2 (ix i0) (nz 1)) 3 (ix i0) (nz 0)) 4 (ix i0) (nz k0)) 5 (ix i0) p0) 6 (ix i0) o0)) H := hP
                have hD : va_D A ((wM cA h) (pt (pt (pt (pt (pt (th M) 2 (ix i0) (nz 1)) 3 (ix i0) (nz 0)) 4 (ix i0) (nz k0)) 5 (ix i0) p0) 6 (ix i0) o0)) := hD
                refine lv_aload_n hx hb d_M_add_118 rfl (lv_at hl 0 rfl) ?_
                refine va_get (D := D) (ci := 5) (v := .ref (h 7)) (C := R_M) (T := F_M) (N := 24) hx hb hts i_M hown hK hP 0 rfl rfl 7 (by decide) (hts _ tw_301) (fun _ h9 => h9) rfl d_M_add_119 ?_
                refine lv_iload_n hx hb d_M_add_122 rfl (lv_at hl 1 rfl) ?_
                refine lv_iload hx hb d_M_add_123 (lv_at hl 4 rfl) ?_
                refine va_iast (f := ((th M) 7)) hx hb hK hP hD hS 7 0 rfl rfl (by first | assumption | exact vi256_lt (by assumption) (by assumption) | exact vi256_nle (by assumption) (by assumption) | exact vi256_le (by assumption) (by assumption)) d_M_add_125 (fun H locs hP hD hS => ?_)
                have hP : va_P D classes ((wM cA h) (pt (pt (pt (pt (pt (pt (th M) 2 (ix i0) (nz 1)) 3 (ix i0) (nz 0)) 4 (ix i0) (nz k0)) 5 (ix i0) p0) 6 (ix i0) o0) 7 (ix i0) l0)) H := hP
                have hD : va_D A ((wM cA h) (pt (pt (pt (pt (pt (pt (th M) 2 (ix i0) (nz 1)) 3 (ix i0) (nz 0)) 4 (ix i0) (nz k0)) 5 (ix i0) p0) 6 (ix i0) o0) 7 (ix i0) l0)) := hD
                refine lv_aload_n hx hb d_M_add_126 rfl (lv_at hl 0 rfl) ?_
                refine va_get (D := D) (ci := 5) (v := .ref (h 8)) (C := R_M) (T := F_M) (N := 24) hx hb hts i_M hown hK hP 0 rfl rfl 8 (by decide) (hts _ tw_302) (fun _ h9 => h9) rfl d_M_add_127 ?_
                refine lv_iload_n hx hb d_M_add_130 rfl (lv_at hl 1 rfl) ?_
                refine lv_iload hx hb d_M_add_131 (lv_at hl 5 rfl) ?_
                refine va_iast (f := ((th M) 8)) hx hb hK hP hD hS 8 0 rfl rfl (by first | assumption | exact vi256_lt (by assumption) (by assumption) | exact vi256_nle (by assumption) (by assumption) | exact vi256_le (by assumption) (by assumption)) d_M_add_133 (fun H locs hP hD hS => ?_)
                have hP : va_P D classes ((wM cA h) (pt (pt (pt (pt (pt (pt (pt (th M) 2 (ix i0) (nz 1)) 3 (ix i0) (nz 0)) 4 (ix i0) (nz k0)) 5 (ix i0) p0) 6 (ix i0) o0) 7 (ix i0) l0) 8 (ix i0) u0)) H := hP
                have hD : va_D A ((wM cA h) (pt (pt (pt (pt (pt (pt (pt (th M) 2 (ix i0) (nz 1)) 3 (ix i0) (nz 0)) 4 (ix i0) (nz k0)) 5 (ix i0) p0) 6 (ix i0) o0) 7 (ix i0) l0) 8 (ix i0) u0)) := hD
                refine lv_aload_n hx hb d_M_add_134 rfl (lv_at hl 0 rfl) ?_
                refine va_get (D := D) (ci := 5) (v := .ref (h 9)) (C := R_M) (T := F_M) (N := 24) hx hb hts i_M hown hK hP 0 rfl rfl 9 (by decide) (hts _ tw_303) (fun _ h9 => h9) rfl d_M_add_135 ?_
                refine lv_iload_n hx hb d_M_add_138 rfl (lv_at hl 1 rfl) ?_
                refine lv_iload hx hb d_M_add_139 (lv_at hl 6 rfl) ?_
                refine va_iast (f := ((th M) 9)) hx hb hK hP hD hS 9 0 rfl rfl (by first | assumption | exact vi256_lt (by assumption) (by assumption) | exact vi256_nle (by assumption) (by assumption) | exact vi256_le (by assumption) (by assumption)) d_M_add_141 (fun H locs hP hD hS => ?_)
                have hP : va_P D classes ((wM cA h) (pt (pt (pt (pt (pt (pt (pt (pt (th M) 2 (ix i0) (nz 1)) 3 (ix i0) (nz 0)) 4 (ix i0) (nz k0)) 5 (ix i0) p0) 6 (ix i0) o0) 7 (ix i0) l0) 8 (ix i0) u0) 9 (ix i0) e0)) H := hP
                have hD : va_D A ((wM cA h) (pt (pt (pt (pt (pt (pt (pt (pt (th M) 2 (ix i0) (nz 1)) 3 (ix i0) (nz 0)) 4 (ix i0) (nz k0)) 5 (ix i0) p0) 6 (ix i0) o0) 7 (ix i0) l0) 8 (ix i0) u0) 9 (ix i0) e0)) := hD
                refine lv_aload_n hx hb d_M_add_142 rfl (lv_at hl 0 rfl) ?_
                refine va_get (D := D) (ci := 5) (v := .ref (h 10)) (C := R_M) (T := F_M) (N := 24) hx hb hts i_M hown hK hP 0 rfl rfl 10 (by decide) (hts _ tw_304) (fun _ h9 => h9) rfl d_M_add_143 ?_
                refine lv_iload_n hx hb d_M_add_146 rfl (lv_at hl 1 rfl) ?_
                refine lv_iconst (v := 0) hx hb d_M_add_147 (by decide) ?_
                refine va_iast (f := ((th M) 10)) hx hb hK hP hD hS 10 0 rfl rfl (by first | assumption | exact vi256_lt (by assumption) (by assumption) | exact vi256_nle (by assumption) (by assumption) | exact vi256_le (by assumption) (by assumption)) d_M_add_148 (fun H locs hP hD hS => ?_)
                have hP : va_P D classes ((wM cA h) (pt (pt (pt (pt (pt (pt (pt (pt (pt (th M) 2 (ix i0) (nz 1)) 3 (ix i0) (nz 0)) 4 (ix i0) (nz k0)) 5 (ix i0) p0) 6 (ix i0) o0) 7 (ix i0) l0) 8 (ix i0) u0) 9 (ix i0) e0) 10 (ix i0) 0)) H := hP
                have hD : va_D A ((wM cA h) (pt (pt (pt (pt (pt (pt (pt (pt (pt (th M) 2 (ix i0) (nz 1)) 3 (ix i0) (nz 0)) 4 (ix i0) (nz k0)) 5 (ix i0) p0) 6 (ix i0) o0) 7 (ix i0) l0) 8 (ix i0) u0) 9 (ix i0) e0) 10 (ix i0) 0)) := hD
                refine lv_iconst (v := 0) hx hb d_M_add_149 (by decide) ?_
                exact hend _ _ _ _ _ _ (by rw [sM_add, if_neg c_13, if_neg c_20, if_neg c_30, if_neg c_41, if_neg c_52, if_pos c_64, if_neg c_76] <;> rfl) hP hS d_M_add_150
              · refine lv_bipush (v := 26) hx hb d_M_add_79 (by decide) ?_
                exact hend _ _ _ _ _ _ (by rw [sM_add, if_neg c_13, if_neg c_20, if_neg c_30, if_neg c_41, if_neg c_52, if_pos c_64, if_pos c_76] <;> rfl) hP hS d_M_add_81
            · refine lv_bipush (v := 25) hx hb d_M_add_67 (by decide) ?_
              exact hend _ _ _ _ _ _ (by rw [sM_add, if_neg c_13, if_neg c_20, if_neg c_30, if_neg c_41, if_neg c_52, if_neg c_64] <;> rfl) hP hS d_M_add_69
          · refine lv_bipush (v := 13) hx hb d_M_add_55 (by decide) ?_
            exact hend _ _ _ _ _ _ (by rw [sM_add, if_neg c_13, if_neg c_20, if_neg c_30, if_neg c_41, if_pos c_52] <;> rfl) hP hS d_M_add_57
set_option maxHeartbeats 4000000 in
set_option maxRecDepth 100000 in
theorem c_M_remove (l : Launch) (D : va_G) (cA : Nat → ClassId) (h : Nat → Nat) (M : Sg) (i0 : Int32) : Ct l y_M_remove b_M_remove 2 (some .int) 1 21 D cA [.ref (h 0), .int i0] (wM cA h) M (sM_remove (th M) i0) := by
  refine Ct.of rfl rfl (by decide +kernel) (Nat.le_of_ble_eq_true rfl) ?_
  intro p e s m below meth c A Q ls hx hb hml hown hts hKK hP hD hA hS hend hl
  have hown : s.vm.findClass R_M = some m.cls := hown
  have hl : lv_has ls 2 [(0, .ref (h 0)), (1, .int i0)] := hl
  have hK := hKK.1
  refine lv_aload_n hx hb d_M_remove_0 rfl (lv_at hl 0 rfl) ?_
  refine lv_iconst (v := 0) hx hb d_M_remove_1 (by decide) ?_
  refine va_put (D := D) (ci := 5) (v := .int 0) (ty := .int) (C := R_M) (T := F_M) (N := 24) hx hb hts i_M t_M t_M_ok n_M hown hK hP hD hS 0 rfl rfl 0 (by decide) (hts _ tw_294) (fun _ h9 => h9) rfl (t_M_ok 0 (by decide)) rfl rfl (Nat.le_of_ble_eq_true rfl) d_M_remove_2 (fun H locs hP hD hS => ?_)
  have hP : va_P D classes ((wM cA h) (th M)) H := hP
  have hD : va_D A ((wM cA h) (th M)) := hD
  refine lv_aload_n hx hb d_M_remove_5 rfl (lv_at hl 0 rfl) ?_
  refine lv_iload_n hx hb d_M_remove_6 rfl (lv_at hl 1 rfl) ?_
  refine cV (rr := (sM_isThere (th M) i0)) (X' := (th M)) (c_M_isThere l D cA h (th M) i0) lk_M_75 hx hb hml hown hts hKK hP hD hS hA hl.1 0 rfl rfl rfl ⟨by decide, by decide⟩ ⟨Nat.le_refl _, Nat.le_refl _⟩ rfl wM_adr rfl (Nat.le_of_ble_eq_true rfl) d_M_remove_7 (fun H locs hP hD hS => ?_)
  refine lv_if_ne (tgt := 16) hx hb d_M_remove_10 (by decide) (fun c_10 => ?_) (fun c_10 => ?_)
  · have hi := sM_isThere_in c_10
    refine lv_aload_n hx hb d_M_remove_16 rfl (lv_at hl 0 rfl) ?_
    refine va_get (D := D) (ci := 5) (v := .ref (h 2)) (C := R_M) (T := F_M) (N := 24) hx hb hts i_M hown hK hP 0 rfl rfl 2 (by decide) (hts _ tw_296) (fun _ h9 => h9) rfl d_M_remove_17 ?_
    refine lv_iload_n hx hb d_M_remove_20 rfl (lv_at hl 1 rfl) ?_
    refine lv_aload_n hx hb d_M_remove_21 rfl (lv_at hl 0 rfl) ?_
    refine va_get (D := D) (ci := 5) (v := .ref (h 3)) (C := R_M) (T := F_M) (N := 24) hx hb hts i_M hown hK hP 0 rfl rfl 3 (by decide) (hts _ tw_297) (fun _ h9 => h9) rfl d_M_remove_22 ?_
    refine lv_iload_n hx hb d_M_remove_25 rfl (lv_at hl 1 rfl) ?_
    refine va_zald (f := ((th M) 3)) hx hb hK hP 3 1 rfl rfl (by first | assumption | exact vi256_lt (by assumption) (by assumption) | exact vi256_nle (by assumption) (by assumption) | exact vi256_le (by assumption) (by assumption)) d_M_remove_26 ?_
    refine va_zast (f := ((th M) 2)) hx hb hK hP hD hS 2 1 rfl rfl (by first | assumption | exact vi256_lt (by assumption) (by assumption) | exact vi256_nle (by assumption) (by assumption) | exact vi256_le (by assumption) (by assumption)) d_M_remove_27 (fun H locs hP hD hS => ?_)
    have hP : va_P D classes ((wM cA h) (pt (th M) 2 (ix i0) (nz (((th M) 3) (ix i0))))) H := hP
    have hD : va_D A ((wM cA h) (pt (th M) 2 (ix i0) (nz (((th M) 3) (ix i0))))) := hD
    refine lv_aload_n hx hb d_M_remove_28 rfl (lv_at hl 0 rfl) ?_
    refine va_get (D := D) (ci := 5) (v := .ref (h 3)) (C := R_M) (T := F_M) (N := 24) hx hb hts i_M hown hK hP 0 rfl rfl 3 (by decide) (hts _ tw_297) (fun _ h9 => h9) rfl d_M_remove_29 ?_
    refine lv_iload_n hx hb d_M_remove_32 rfl (lv_at hl 1 rfl) ?_
    refine va_zald (f := ((th M) 3)) hx hb hK hP 3 1 rfl rfl (by first | assumption | exact vi256_lt (by assumption) (by assumption) | exact vi256_nle (by assumption) (by assumption) | exact vi256_le (by assumption) (by assumption)) d_M_remove_33 ?_
    refine lv_if_eq (tgt := 42) hx hb d_M_remove_34 (by decide) (fun c_34 => ?_) (fun c_34 => ?_)
    · refine lv_iconst (v := 0) hx hb d_M_remove_42 (by decide) ?_
      exact hend _ _ _ _ _ _ (by rw [sM_remove, if_neg c_10, if_pos c_34] <;> rfl) hP hS d_M_remove_43
    · refine lv_bipush (v := 15) hx hb d_M_remove_37 (by decide) ?_
      refine lv_goto (tgt := 43) hx hb d_M_remove_39 (by decide) ?_
      exact hend _ _ _ _ _ _ (by rw [sM_remove, if_neg c_10, if_neg c_34] <;> rfl) hP hS d_M_remove_43
  · refine lv_bipush (v := 27) hx hb d_M_remove_13 (by decide) ?_
    exact hend _ _ _ _ _ _ (by rw [sM_remove, if_pos c_10] <;> rfl) hP hS d_M_remove_15
set_option maxHeartbeats 4000000 in
set_option maxRecDepth 100000 in
theorem c_M_enable (l : Launch) (D : va_G) (cA : Nat → ClassId) (h : Nat → Nat) (M : Sg) (i0 : Int32) (z0 : Int32) : Ct l y_M_enable b_M_enable 3 (some .int) 1 21 D cA [.ref (h 0), .int i0, .int z0] (wM cA h) M (sM_enable (th M) i0 z0) := by
  refine Ct.of rfl rfl (by decide +kernel) (Nat.le_of_ble_eq_true rfl) ?_
  intro p e s m below meth c A Q ls hx hb hml hown hts hKK hP hD hA hS hend hl
  have hown : s.vm.findClass R_M = some m.cls := hown
  have hl : lv_has ls 3 [(0, .ref (h 0)), (1, .int i0), (2, .int z0)] := hl
  have hK := hKK.1
  refine lv_aload_n hx hb d_M_enable_0 rfl (lv_at hl 0 rfl) ?_
  refine lv_iconst (v := 0) hx hb d_M_enable_1 (by decide) ?_
  refine va_put (D := D) (ci := 5) (v := .int 0) (ty := .int) (C := R_M) (T := F_M) (N := 24) hx hb hts i_M t_M t_M_ok n_M hown hK hP hD hS 0 rfl rfl 0 (by decide) (hts _ tw_294) (fun _ h9 => h9) rfl (t_M_ok 0 (by decide)) rfl rfl (Nat.le_of_ble_eq_true rfl) d_M_enable_2 (fun H locs hP hD hS => ?_)
  have hP : va_P D classes ((wM cA h) (th M)) H := hP
  have hD : va_D A ((wM cA h) (th M)) := hD
  refine lv_aload_n hx hb d_M_enable_5 rfl (lv_at hl 0 rfl) ?_
  refine lv_iload_n hx hb d_M_enable_6 rfl (lv_at hl 1 rfl) ?_
  refine cV (rr := (sM_isThere (th M) i0)) (X' := (th M)) (c_M_isThere l D cA h (th M) i0) lk_M_75 hx hb hml hown hts hKK hP hD hS hA hl.1 0 rfl rfl rfl ⟨by decide, by decide⟩ ⟨Nat.le_refl _, Nat.le_refl _⟩ rfl wM_adr rfl (Nat.le_of_ble_eq_true rfl) d_M_enable_7 (fun H locs hP hD hS => ?_)
  refine lv_if_ne (tgt := 16) hx hb d_M_enable_10 (by decide) (fun c_10 => ?_) (fun c_10 => ?_)
  · have hi := sM_isThere_in c_10
    refine lv_aload_n hx hb d_M_enable_16 rfl (lv_at hl 0 rfl) ?_
    refine va_get (D := D) (ci := 5) (v := .ref (h 3)) (C := R_M) (T := F_M) (N := 24) hx hb hts i_M hown hK hP 0 rfl rfl 3 (by decide) (hts _ tw_297) (fun _ h9 => h9) rfl d_M_enable_17 ?_
    refine lv_iload_n hx hb d_M_enable_20 rfl (lv_at hl 1 rfl) ?_
    refine lv_iload_n hx hb d_M_enable_21 rfl (lv_at hl 2 rfl) ?_
    refine va_zast (f := ((th M) 3)) hx hb hK hP hD hS 3 1 rfl rfl (by first | assumption | exact vi256_lt (by assumption) (by assumption) | exact vi256_nle (by assumption) (by assumption) | exact vi256_le (by assumption) (by assumption)) d_M_enable_22 (fun H locs hP hD hS => ?_)
    have hP : va_P D classes ((wM cA h) (pt (th M) 3 (ix i0) (nz z0))) H := hP
    have hD : va_D A ((wM cA h) (pt (th M) 3 (ix i0) (nz z0))) := hD
    refine lv_aload_n hx hb d_M_enable_23 rfl (lv_at hl 0 rfl) ?_
    refine va_get (D := D) (ci := 5) (v := .ref (h 10)) (C := R_M) (T := F_M) (N := 24) hx hb hts i_M hown hK hP 0 rfl rfl 10 (by decide) (hts _ tw_304) (fun _ h9 => h9) rfl d_M_enable_24 ?_
    refine lv_iload_n hx hb d_M_enable_27 rfl (lv_at hl 1 rfl) ?_
    refine lv_iconst (v := 0) hx hb d_M_enable_28 (by decide) ?_
    refine va_iast (f := ((th M) 10)) hx hb hK hP hD hS 10 0 rfl rfl (by first | assumption | exact vi256_lt (by assumption) (by assumption) | exact vi256_nle (by assumption) (by assumption) | exact vi256_le (by assumption) (by assumption)) d_M_enable_29 (fun H locs hP hD hS => ?_)
    have hP : va_P D classes ((wM cA h) (pt (pt (th M) 3 (ix i0) (nz z0)) 10 (ix i0) 0)) H := hP
    have hD : va_D A ((wM cA h) (pt (pt (th M) 3 (ix i0) (nz z0)) 10 (ix i0) 0)) := hD
    refine lv_iconst (v := 0) hx hb d_M_enable_30 (by decide) ?_
    exact hend _ _ _ _ _ _ (by rw [sM_enable, if_neg c_10] <;> rfl) hP hS d_M_enable_31
  · refine lv_bipush (v := 27) hx hb d_M_enable_13 (by decide) ?_
    exact hend _ _ _ _ _ _ (by rw [sM_enable, if_pos c_10] <;> rfl) hP hS d_M_enable_15
set_option maxHeartbeats 4000000 in
set_option maxRecDepth 100000 in
theorem c_M_waits (l : Launch) (D : va_G) (cA : Nat → ClassId) (h : Nat → Nat) (M : Sg) (e0 : Int32) (v0 : Int32) (hk : ¬ M 0 13 = 64 → vp_in (M 0 13) 64) : Ct l y_M_waits b_M_waits 3 (some .boolean) 0 0 D cA [.ref (h 0), .int e0, .int v0] (wM cA h) M (sM_waits M e0 v0) := by
  refine Ct.of rfl (isZ_waits M e0 v0).nar (by decide +kernel) (Nat.le_of_ble_eq_true rfl) ?_
  intro p e s m below meth c A Q ls hx hb hml hown hts hKK hP hD hA hS hend hl
  have hown : s.vm.findClass R_M = some m.cls := hown
  have hl : lv_has ls 3 [(0, .ref (h 0)), (1, .int e0), (2, .int v0)] := hl
  have hK := hKK.1
  refine lv_aload_n hx hb d_M_waits_0 rfl (lv_at hl 0 rfl) ?_
  refine va_get (D := D) (ci := 5) (v := .int (M 0 13)) (C := R_M) (T := F_M) (N := 24) hx hb hts i_M hown hK hP 0 rfl rfl 13 (by decide) (hts _ tw_307) (fun _ h9 => h9) rfl d_M_waits_1 ?_
  refine lv_bipush (v := 64) hx hb d_M_waits_4 (by decide) ?_
  refine lv_icmp_ne (tgt := 21) hx hb d_M_waits_6 (by decide) (fun c_6 => ?_) (fun c_6 => ?_)
  · have hi := hk c_6
    refine lv_aload_n hx hb d_M_waits_21 rfl (lv_at hl 0 rfl) ?_
    refine va_get (D := D) (ci := 5) (v := .ref (h 11)) (C := R_M) (T := F_M) (N := 24) hx hb hts i_M hown hK hP 0 rfl rfl 14 (by decide) (hts _ tw_308) (fun _ h9 => h9) rfl d_M_waits_22 ?_
    refine lv_aload_n hx hb d_M_waits_25 rfl (lv_at hl 0 rfl) ?_
    refine va_get (D := D) (ci := 5) (v := .int (M 0 13)) (C := R_M) (T := F_M) (N := 24) hx hb hts i_M hown hK hP 0 rfl rfl 13 (by decide) (hts _ tw_307) (fun _ h9 => h9) rfl d_M_waits_26 ?_
    refine lv_iload_n hx hb d_M_waits_29 rfl (lv_at hl 1 rfl) ?_
    refine va_iast (f := (M 11)) hx hb hK hP hD hS 11 0 rfl rfl (by first | assumption) d_M_waits_30 (fun H locs hP hD hS => ?_)
    have hP : va_P D classes ((wM cA h) (pt M 11 (ix (M 0 13)) e0)) H := hP
    have hD : va_D A ((wM cA h) (pt M 11 (ix (M 0 13)) e0)) := hD
    refine lv_aload_n hx hb d_M_waits_31 rfl (lv_at hl 0 rfl) ?_
    refine va_get (D := D) (ci := 5) (v := .ref (h 12)) (C := R_M) (T := F_M) (N := 24) hx hb hts i_M hown hK hP 0 rfl rfl 15 (by decide) (hts _ tw_309) (fun _ h9 => h9) rfl d_M_waits_32 ?_
    refine lv_aload_n hx hb d_M_waits_35 rfl (lv_at hl 0 rfl) ?_
    refine va_get (D := D) (ci := 5) (v := .int (M 0 13)) (C := R_M) (T := F_M) (N := 24) hx hb hts i_M hown hK hP 0 rfl rfl 13 (by decide) (hts _ tw_307) (fun _ h9 => h9) rfl d_M_waits_36 ?_
    refine lv_iload_n hx hb d_M_waits_39 rfl (lv_at hl 2 rfl) ?_
    refine va_iast (f := (M 12)) hx hb hK hP hD hS 12 0 rfl rfl (by first | assumption) d_M_waits_40 (fun H locs hP hD hS => ?_)
    have hP : va_P D classes ((wM cA h) (pt (pt M 11 (ix (M 0 13)) e0) 12 (ix (M 0 13)) v0)) H := hP
    have hD : va_D A ((wM cA h) (pt (pt M 11 (ix (M 0 13)) e0) 12 (ix (M 0 13)) v0)) := hD
    refine lv_aload_n hx hb d_M_waits_41 rfl (lv_at hl 0 rfl) ?_
    refine lv_dup hx hb d_M_waits_42 rfl ?_
    refine va_get (D := D) (ci := 5) (v := .int (M 0 13)) (C := R_M) (T := F_M) (N := 24) hx hb hts i_M hown hK hP 0 rfl rfl 13 (by decide) (hts _ tw_307) (fun _ h9 => h9) rfl d_M_waits_43 ?_
    refine lv_iconst (v := 1) hx hb d_M_waits_46 (by decide) ?_
    refine lv_iadd hx hb d_M_waits_47 ?_
    refine va_put (D := D) (ci := 5) (v := .int ((M 0 13) + 1)) (ty := .int) (C := R_M) (T := F_M) (N := 24) hx hb hts i_M t_M t_M_ok n_M hown hK hP hD hS 0 rfl rfl 13 (by decide) (hts _ tw_307) (fun _ h9 => h9) rfl (t_M_ok 13 (by decide)) rfl rfl (Nat.le_of_ble_eq_true rfl) d_M_waits_48 (fun H locs hP hD hS => ?_)
    have hP : va_P D classes ((wM cA h) (pt (pt (pt M 11 (ix (M 0 13)) e0) 12 (ix (M 0 13)) v0) 0 13 ((M 0 13) + 1))) H := hP
    have hD : va_D A ((wM cA h) (pt (pt (pt M 11 (ix (M 0 13)) e0) 12 (ix (M 0 13)) v0) 0 13 ((M 0 13) + 1))) := hD
    refine lv_iconst (v := 1) hx hb d_M_waits_51 (by decide) ?_
    exact hend _ _ _ _ _ _ (by rw [sM_waits, if_neg c_6] <;> rfl) hP hS d_M_waits_52
  · refine lv_aload_n hx hb d_M_waits_9 rfl (lv_at hl 0 rfl) ?_
    refine lv_dup hx hb d_M_waits_10 rfl ?_
    refine va_get (D := D) (ci := 5) (v := .int (M 0 16)) (C := R_M) (T := F_M) (N := 24) hx hb hts i_M hown hK hP 0 rfl rfl 16 (by decide) (hts _ tw_310) (fun _ h9 => h9) rfl d_M_waits_11 ?_
    refine lv_iconst (v := 1) hx hb d_M_waits_14 (by decide) ?_
    refine lv_iadd hx hb d_M_waits_15 ?_
    refine va_put (D := D) (ci := 5) (v := .int ((M 0 16) + 1)) (ty := .int) (C := R_M) (T := F_M) (N := 24) hx hb hts i_M t_M t_M_ok n_M hown hK hP hD hS 0 rfl rfl 16 (by decide) (hts _ tw_310) (fun _ h9 => h9) rfl (t_M_ok 16 (by decide)) rfl rfl (Nat.le_of_ble_eq_true rfl) d_M_waits_16 (fun H locs hP hD hS => ?_)
    have hP : va_P D classes ((wM cA h) (pt M 0 16 ((M 0 16) + 1))) H := hP
    have hD : va_D A ((wM cA h) (pt M 0 16 ((M 0 16) + 1))) := hD
    refine lv_iconst (v := 0) hx hb d_M_waits_19 (by decide) ?_
    exact hend _ _ _ _ _ _ (by rw [sM_waits, if_pos c_6] <;> rfl) hP hS d_M_waits_20
set_option maxHeartbeats 4000000 in
set_option maxRecDepth 100000 in
theorem c_M_linked (l : Launch) (D : va_G) (cA : Nat → ClassId) (h : Nat → Nat) (M : Sg) (hz : isZ (M 0 12)) : Ct l y_M_linked b_M_linked 1 (some .boolean) 0 0 D cA [.ref (h 0)] (wM cA h) M ((th M) 0 12, th M) := by
  refine Ct.of rfl hz.nar (by decide +kernel) (Nat.le_of_ble_eq_true rfl) ?_
  intro p e s m below meth c A Q ls hx hb hml hown hts hKK hP hD hA hS hend hl
  have hown : s.vm.findClass R_M = some m.cls := hown
  have hl : lv_has ls 1 [(0, .ref (h 0))] := hl
  have hK := hKK.1
  refine lv_aload_n hx hb d_M_linked_0 rfl (lv_at hl 0 rfl) ?_
  refine lv_iconst (v := 0) hx hb d_M_linked_1 (by decide) ?_
  refine va_put (D := D) (ci := 5) (v := .int 0) (ty := .int) (C := R_M) (T := F_M) (N := 24) hx hb hts i_M t_M t_M_ok n_M hown hK hP hD hS 0 rfl rfl 0 (by decide) (hts _ tw_294) (fun _ h9 => h9) rfl (t_M_ok 0 (by decide)) rfl rfl (Nat.le_of_ble_eq_true rfl) d_M_linked_2 (fun H locs hP hD hS => ?_)
  have hP : va_P D classes ((wM cA h) (th M)) H := hP
  have hD : va_D A ((wM cA h) (th M)) := hD
  refine lv_aload_n hx hb d_M_linked_5 rfl (lv_at hl 0 rfl) ?_
  refine va_get (D := D) (ci := 5) (v := .int ((th M) 0 12)) (C := R_M) (T := F_M) (N := 24) hx hb hts i_M hown hK hP 0 rfl rfl 12 (by decide) (hts _ tw_306) (fun _ h9 => h9) rfl d_M_linked_6 ?_
  exact hend _ _ _ _ _ _ rfl hP hS d_M_linked_9
set_option maxHeartbeats 4000000 in
set_option maxRecDepth 100000 in
theorem c_M_raise (l : Launch) (D : va_G) (cA : Nat → ClassId) (h : Nat → Nat) (M : Sg) (e0 : Int32) (v0 : Int32) (hk : ¬ M 0 13 = 64 → vp_in (M 0 13) 64) : Ct l y_M_raise b_M_raise 3 (some .boolean) 2 42 D cA [.ref (h 0), .int e0, .int v0] (wM cA h) M (sM_raise (th M) e0 v0) := by
  refine Ct.of rfl (isZ_Mraise (th M) e0 v0).nar (by decide +kernel) (Nat.le_of_ble_eq_true rfl) ?_
  intro p e s m below meth c A Q ls hx hb hml hown hts hKK hP hD hA hS hend hl
  have hown : s.vm.findClass R_M = some m.cls := hown
  have hl : lv_has ls 3 [(0, .ref (h 0)), (1, .int e0), (2, .int v0)] := hl
  have hK := hKK.1
  refine lv_aload_n hx hb d_M_raise_0 rfl (lv_at hl 0 rfl) ?_
  refine lv_iconst (v := 0) hx hb d_M_raise_1 (by decide) ?_
  refine va_put (D := D) (ci := 5) (v := .int 0) (ty := .int) (C := R_M) (T := F_M) (N := 24) hx hb hts i_M t_M t_M_ok n_M hown hK hP hD hS 0 rfl rfl 0 (by decide) (hts _ tw_294) (fun _ h9 => h9) rfl (t_M_ok 0 (by decide)) rfl rfl (Nat.le_of_ble_eq_true rfl) d_M_raise_2 (fun H locs hP hD hS => ?_)
  have hP : va_P D classes ((wM cA h) (th M)) H := hP
  have hD : va_D A ((wM cA h) (th M)) := hD
  refine lv_iload_n hx hb d_M_raise_5 rfl (lv_at hl 1 rfl) ?_
  refine cS (rr := (sM_isEvent e0)) (X' := (th M)) (c_M_isEvent l D cA (wM cA h) (th M) e0) lk_M_96 hx hb hml hown hts hKK hP hD hS hA hl.1 ⟨by decide, by decide⟩ ⟨Nat.le_refl _, Nat.le_refl _⟩ rfl rfl rfl (Nat.le_of_ble_eq_true rfl) d_M_raise_6 (fun H locs hP hD hS => ?_)
  refine lv_if_eq (tgt := 25) hx hb d_M_raise_9 (by decide) (fun c_9 => ?_) (fun c_9 => ?_)
  · refine lv_iconst (v := 0) hx hb d_M_raise_25 (by decide) ?_
    exact hend _ _ _ _ _ _ (by rw [sM_raise, if_pos c_9] <;> rfl) hP hS d_M_raise_26
  · refine lv_aload_n hx hb d_M_raise_12 rfl (lv_at hl 0 rfl) ?_
    refine lv_iload_n hx hb d_M_raise_13 rfl (lv_at hl 1 rfl) ?_
    refine lv_iload_n hx hb d_M_raise_14 rfl (lv_at hl 2 rfl) ?_
    refine cV (rr := ((sM_waits (th M) e0 v0)).1) (X' := (((sM_waits (th M) e0 v0)).2)) (c_M_waits l D cA h (th M) e0 v0 hk) lk_M_89 hx hb hml hown hts hKK hP hD hS hA hl.1 0 rfl rfl rfl ⟨by decide, by decide⟩ ⟨Nat.le_refl _, Nat.le_refl _⟩ rfl wM_adr rfl (Nat.le_of_ble_eq_true rfl) d_M_raise_15 (fun H locs hP hD hS => ?_)
    refine lv_if_eq (tgt := 25) hx hb d_M_raise_18 (by decide) (fun c_18 => ?_) (fun c_18 => ?_)
    · refine lv_iconst (v := 0) hx hb d_M_raise_25 (by decide) ?_
      exact hend _ _ _ _ _ _ (by rw [sM_raise, if_neg c_9, if_pos c_18] <;> rfl) hP hS d_M_raise_26
    · refine lv_iconst (v := 1) hx hb d_M_raise_21 (by decide) ?_
      refine lv_goto (tgt := 26) hx hb d_M_raise_22 (by decide) ?_
      exact hend _ _ _ _ _ _ (by rw [sM_raise, if_neg c_9, if_neg c_18] <;> rfl) hP hS d_M_raise_26
set_option maxHeartbeats 4000000 in
set_option maxRecDepth 100000 in
theorem c_M_lose (l : Launch) (D : va_G) (cA : Nat → ClassId) (h : Nat → Nat) (M : Sg) : Ct l y_M_lose b_M_lose 2 (some .int) 0 0 D cA [.ref (h 0)] (wM cA h) M (sM_lose (th M)) := by
  refine Ct.of rfl rfl (by decide +kernel) (Nat.le_of_ble_eq_true rfl) ?_
  intro p e s m below meth c A Q ls hx hb hml hown hts hKK hP hD hA hS hend hl
  have hown : s.vm.findClass R_M = some m.cls := hown
  have hl : lv_has ls 2 [(0, .ref (h 0))] := hl
  have hK := hKK.1
  refine lv_aload_n hx hb d_M_lose_0 rfl (lv_at hl 0 rfl) ?_
  refine lv_iconst (v := 0) hx hb d_M_lose_1 (by decide) ?_
  refine va_put (D := D) (ci := 5) (v := .int 0) (ty := .int) (C := R_M) (T := F_M) (N := 24) hx hb hts i_M t_M t_M_ok n_M hown hK hP hD hS 0 rfl rfl 0 (by decide) (hts _ tw_294) (fun _ h9 => h9) rfl (t_M_ok 0 (by decide)) rfl rfl (Nat.le_of_ble_eq_true rfl) d_M_lose_2 (fun H locs hP hD hS => ?_)
  have hP : va_P D classes ((wM cA h) (th M)) H := hP
  have hD : va_D A ((wM cA h) (th M)) := hD
  refine lv_aload_n hx hb d_M_lose_5 rfl (lv_at hl 0 rfl) ?_
  refine va_get (D := D) (ci := 5) (v := .int ((th M) 0 13)) (C := R_M) (T := F_M) (N := 24) hx hb hts i_M hown hK hP 0 rfl rfl 13 (by decide) (hts _ tw_307) (fun _ h9 => h9) rfl d_M_lose_6 ?_
  refine lv_istore_n (lv' := [(1, .int ((th M) 0 13)), (0, .ref (h 0))]) hx hb d_M_lose_9 rfl hl (by decide) rfl (fun ls hl => ?_)
  refine lv_aload_n hx hb d_M_lose_10 rfl (lv_at hl 1 rfl) ?_
  refine lv_iconst (v := 0) hx hb d_M_lose_11 (by decide) ?_
  refine va_put (D := D) (ci := 5) (v := .int 0) (ty := .int) (C := R_M) (T := F_M) (N := 24) hx hb hts i_M t_M t_M_ok n_M hown hK hP hD hS 0 rfl rfl 13 (by decide) (hts _ tw_307) (fun _ h9 => h9) rfl (t_M_ok 13 (by decide)) rfl rfl (Nat.le_of_ble_eq_true rfl) d_M_lose_12 (fun H locs hP hD hS => ?_)
  have hP : va_P D classes ((wM cA h) (pt (th M) 0 13 0)) H := hP
  have hD : va_D A ((wM cA h) (pt (th M) 0 13 0)) := hD
  refine lv_aload_n hx hb d_M_lose_15 rfl (lv_at hl 1 rfl) ?_
  refine lv_dup hx hb d_M_lose_16 rfl ?_
  refine va_get (D := D) (ci := 5) (v := .int ((th M) 0 16)) (C := R_M) (T := F_M) (N := 24) hx hb hts i_M hown hK hP 0 rfl rfl 16 (by decide) (hts _ tw_310) (fun _ h9 => h9) rfl d_M_lose_17 ?_
  refine lv_iload_n hx hb d_M_lose_20 rfl (lv_at hl 0 rfl) ?_
  refine lv_iadd hx hb d_M_lose_21 ?_
  refine va_put (D := D) (ci := 5) (v := .int (((th M) 0 16) + ((th M) 0 13))) (ty := .int) (C := R_M) (T := F_M) (N := 24) hx hb hts i_M t_M t_M_ok n_M hown hK hP hD hS 0 rfl rfl 16 (by decide) (hts _ tw_310) (fun _ h9 => h9) rfl (t_M_ok 16 (by decide)) rfl rfl (Nat.le_of_ble_eq_true rfl) d_M_lose_22 (fun H locs hP hD hS => ?_)
  have hP : va_P D classes ((wM cA h) (pt (pt (th M) 0 13 0) 0 16 (((th M) 0 16) + ((th M) 0 13)))) H := hP
  have hD : va_D A ((wM cA h) (pt (pt (th M) 0 13 0) 0 16 (((th M) 0 16) + ((th M) 0 13)))) := hD
  refine lv_iload_n hx hb d_M_lose_25 rfl (lv_at hl 0 rfl) ?_
  exact hend _ _ _ _ _ _ rfl hP hS d_M_lose_26
set_option maxHeartbeats 4000000 in
set_option maxRecDepth 100000 in
theorem c_M_tell (l : Launch) (D : va_G) (cA : Nat → ClassId) (h : Nat → Nat) (M : Sg) (e0 : Int32) (z0 : Int32) : Ct l y_M_tell b_M_tell 3 (some .int) 2 42 D cA [.ref (h 0), .int e0, .int z0] (wM cA h) M (sM_tell (th M) e0 z0) := by
  refine Ct.of rfl rfl (by decide +kernel) (Nat.le_of_ble_eq_true rfl) ?_
  intro p e s m below meth c A Q ls hx hb hml hown hts hKK hP hD hA hS hend hl
  have hown : s.vm.findClass R_M = some m.cls := hown
  have hl : lv_has ls 3 [(0, .ref (h 0)), (1, .int e0), (2, .int z0)] := hl
  have hK := hKK.1
  refine lv_aload_n hx hb d_M_tell_0 rfl (lv_at hl 0 rfl) ?_
  refine lv_iconst (v := 0) hx hb d_M_tell_1 (by decide) ?_
  refine va_put (D := D) (ci := 5) (v := .int 0) (ty := .int) (C := R_M) (T := F_M) (N := 24) hx hb hts i_M t_M t_M_ok n_M hown hK hP hD hS 0 rfl rfl 0 (by decide) (hts _ tw_294) (fun _ h9 => h9) rfl (t_M_ok 0 (by decide)) rfl rfl (Nat.le_of_ble_eq_true rfl) d_M_tell_2 (fun H locs hP hD hS => ?_)
  have hP : va_P D classes ((wM cA h) (th M)) H := hP
  have hD : va_D A ((wM cA h) (th M)) := hD
  refine lv_iload_n hx hb d_M_tell_5 rfl (lv_at hl 1 rfl) ?_
  refine cS (rr := (sM_isEvent e0)) (X' := (th M)) (c_M_isEvent l D cA (wM cA h) (th M) e0) lk_M_96 hx hb hml hown hts hKK hP hD hS hA hl.1 ⟨by decide, by decide⟩ ⟨Nat.le_refl _, Nat.le_refl _⟩ rfl rfl rfl (Nat.le_of_ble_eq_true rfl) d_M_tell_6 (fun H locs hP hD hS => ?_)
  refine lv_if_ne (tgt := 15) hx hb d_M_tell_9 (by decide) (fun c_9 => ?_) (fun c_9 => ?_)
  · have hi := sM_isEvent_in c_9
    refine lv_aload_n hx hb d_M_tell_15 rfl (lv_at hl 0 rfl) ?_
    refine va_get (D := D) (ci := 5) (v := .ref (h 13)) (C := R_M) (T := F_M) (N := 24) hx hb hts i_M hown hK hP 0 rfl rfl 18 (by decide) (hts _ tw_312) (fun _ h9 => h9) rfl d_M_tell_16 ?_
    refine lv_iload_n hx hb d_M_tell_19 rfl (lv_at hl 1 rfl) ?_
    refine lv_iload_n hx hb d_M_tell_20 rfl (lv_at hl 2 rfl) ?_
    refine lv_if_ne (tgt := 28) hx hb d_M_tell_21 (by decide) (fun c_21 => ?_) (fun c_21 => ?_)
    · refine lv_iconst (v := 0) hx hb d_M_tell_28 (by decide) ?_
      refine va_zast (f := ((th M) 13)) hx hb hK hP hD hS 13 1 rfl rfl (by first | assumption | exact vi32_lt (by assumption) (by assumption) | exact vi32_nle (by assumption) (by assumption) | exact vi32_le (by assumption) (by assumption)) d_M_tell_29 (fun H locs hP hD hS => ?_)
      have hP : va_P D classes ((wM cA h) (pt (th M) 13 (ix e0) (nz 0))) H := hP
      have hD : va_D A ((wM cA h) (pt (th M) 13 (ix e0) (nz 0))) := hD
      refine lv_iconst (v := 0) hx hb d_M_tell_30 (by decide) ?_
      exact hend _ _ _ _ _ _ (by rw [sM_tell, if_neg c_9, if_neg c_21] <;> rfl) hP hS d_M_tell_31
    · refine lv_iconst (v := 1) hx hb d_M_tell_24 (by decide) ?_
      refine lv_goto (tgt := 29) hx hb d_M_tell_25 (by decide) ?_
      refine va_zast (f := ((th M) 13)) hx hb hK hP hD hS 13 1 rfl rfl (by first | assumption | exact vi32_lt (by assumption) (by assumption) | exact vi32_nle (by assumption) (by assumption) | exact vi32_le (by assumption) (by assumption)) d_M_tell_29 (fun H locs hP hD hS => ?_)
      have hP : va_P D classes ((wM cA h) (pt (th M) 13 (ix e0) (nz 1))) H := hP
      have hD : va_D A ((wM cA h) (pt (th M) 13 (ix e0) (nz 1))) := hD
      refine lv_iconst (v := 0) hx hb d_M_tell_30 (by decide) ?_
      exact hend _ _ _ _ _ _ (by rw [sM_tell, if_neg c_9, if_pos c_21] <;> rfl) hP hS d_M_tell_31
  · refine lv_bipush (v := 16) hx hb d_M_tell_12 (by decide) ?_
    exact hend _ _ _ _ _ _ (by rw [sM_tell, if_pos c_9] <;> rfl) hP hS d_M_tell_14
set_option maxHeartbeats 4000000 in
set_option maxRecDepth 100000 in
theorem c_M_put (l : Launch) (D : va_G) (cA : Nat → ClassId) (h : Nat → Nat) (M : Sg) (b0 : Int32) (hk : ¬ M 0 22 = 256 → vp_in (M 0 22) 256) : Ct l y_M_put b_M_put 2 (some .int) 0 0 D cA [.ref (h 0), .int b0] (wM cA h) M (sM_put (th M) b0) := by
  refine Ct.of rfl rfl (by decide +kernel) (Nat.le_of_ble_eq_true rfl) ?_
  intro p e s m below meth c A Q ls hx hb hml hown hts hKK hP hD hA hS hend hl
  have hown : s.vm.findClass R_M = some m.cls := hown
  have hl : lv_has ls 2 [(0, .ref (h 0)), (1, .int b0)] := hl
  have hK := hKK.1
  refine lv_aload_n hx hb d_M_put_0 rfl (lv_at hl 0 rfl) ?_
  refine lv_iconst (v := 0) hx hb d_M_put_1 (by decide) ?_
  refine va_put (D := D) (ci := 5) (v := .int 0) (ty := .int) (C := R_M) (T := F_M) (N := 24) hx hb hts i_M t_M t_M_ok n_M hown hK hP hD hS 0 rfl rfl 0 (by decide) (hts _ tw_294) (fun _ h9 => h9) rfl (t_M_ok 0 (by decide)) rfl rfl (Nat.le_of_ble_eq_true rfl) d_M_put_2 (fun H locs hP hD hS => ?_)
  have hP : va_P D classes ((wM cA h) (th M)) H := hP
  have hD : va_D A ((wM cA h) (th M)) := hD
  refine lv_aload_n hx hb d_M_put_5 rfl (lv_at hl 0 rfl) ?_
  refine va_get (D := D) (ci := 5) (v := .int ((th M) 0 22)) (C := R_M) (T := F_M) (N := 24) hx hb hts i_M hown hK hP 0 rfl rfl 22 (by decide) (hts _ tw_316) (fun _ h9 => h9) rfl d_M_put_6 ?_
  refine lv_sipush (v := 256) hx hb d_M_put_9 (by decide) ?_
  refine lv_icmp_ne (tgt := 17) hx hb d_M_put_12 (by decide) (fun c_12 => ?_) (fun c_12 => ?_)
  · have hi : vp_in ((th M) 0 22) 256 := hk c_12
    refine lv_aload_n hx hb d_M_put_17 rfl (lv_at hl 0 rfl) ?_
    refine va_get (D := D) (ci := 5) (v := .ref (h 17)) (C := R_M) (T := F_M) (N := 24) hx hb hts i_M hown hK hP 0 rfl rfl 23 (by decide) (hts _ tw_317) (fun _ h9 => h9) rfl d_M_put_18 ?_
    refine lv_aload_n hx hb d_M_put_21 rfl (lv_at hl 0 rfl) ?_
    refine va_get (D := D) (ci := 5) (v := .int ((th M) 0 22)) (C := R_M) (T := F_M) (N := 24) hx hb hts i_M hown hK hP 0 rfl rfl 22 (by decide) (hts _ tw_316) (fun _ h9 => h9) rfl d_M_put_22 ?_
    refine lv_iload_n hx hb d_M_put_25 rfl (lv_at hl 1 rfl) ?_
    refine lv_i2b hx hb d_M_put_26 rfl ?_
    refine va_bast (f := ((th M) 17)) hx hb hK hP hD hS 17 2 rfl rfl (by first | assumption | exact vi256_lt (by assumption) (by assumption) | exact vi256_nle (by assumption) (by assumption) | exact vi256_le (by assumption) (by assumption)) d_M_put_27 (fun H locs hP hD hS => ?_)
    have hP : va_P D classes ((wM cA h) (pt (th M) 17 (ix ((th M) 0 22)) (nb (Int8.toInt32 (Int32.toInt8 b0))))) H := hP
    have hD : va_D A ((wM cA h) (pt (th M) 17 (ix ((th M) 0 22)) (nb (Int8.toInt32 (Int32.toInt8 b0))))) := hD
    refine lv_aload_n hx hb d_M_put_28 rfl (lv_at hl 0 rfl) ?_
    refine lv_dup hx hb d_M_put_29 rfl ?_
    refine va_get (D := D) (ci := 5) (v := .int ((th M) 0 22)) (C := R_M) (T := F_M) (N := 24) hx hb hts i_M hown hK hP 0 rfl rfl 22 (by decide) (hts _ tw_316) (fun _ h9 => h9) rfl d_M_put_30 ?_
    refine lv_iconst (v := 1) hx hb d_M_put_33 (by decide) ?_
    refine lv_iadd hx hb d_M_put_34 ?_
    refine va_put (D := D) (ci := 5) (v := .int (((th M) 0 22) + 1)) (ty := .int) (C := R_M) (T := F_M) (N := 24) hx hb hts i_M t_M t_M_ok n_M hown hK hP hD hS 0 rfl rfl 22 (by decide) (hts _ tw_316) (fun _ h9 => h9) rfl (t_M_ok 22 (by decide)) rfl rfl (Nat.le_of_ble_eq_true rfl) d_M_put_35 (fun H locs hP hD hS => ?_)
    have hP : va_P D classes ((wM cA h) (pt (pt (th M) 17 (ix ((th M) 0 22)) (nb (Int8.toInt32 (Int32.toInt8 b0)))) 0 22 (((th M) 0 22) + 1))) H := hP
    have hD : va_D A ((wM cA h) (pt (pt (th M) 17 (ix ((th M) 0 22)) (nb (Int8.toInt32 (Int32.toInt8 b0)))) 0 22 (((th M) 0 22) + 1))) := hD
    refine lv_aload_n hx hb d_M_put_38 rfl (lv_at hl 0 rfl) ?_
    refine va_get (D := D) (ci := 5) (v := .int (((th M) 0 22) + 1)) (C := R_M) (T := F_M) (N := 24) hx hb hts i_M hown hK hP 0 rfl rfl 22 (by decide) (hts _ tw_316) (fun _ h9 => h9) rfl d_M_put_39 ?_
    exact hend _ _ _ _ _ _ (by rw [sM_put, if_neg c_12] <;> rfl) hP hS d_M_put_42
  · refine lv_iconst (v := (-1)) hx hb d_M_put_15 (by decide) ?_
    exact hend _ _ _ _ _ _ (by rw [sM_put, if_pos c_12] <;> rfl) hP hS d_M_put_16
set_option maxHeartbeats 4000000 in
set_option maxRecDepth 100000 in
theorem c_M_drop (l : Launch) (D : va_G) (cA : Nat → ClassId) (h : Nat → Nat) (M : Sg) (e0 : Int32) : Ct l y_M_drop b_M_drop 2 (some .int) 2 42 D cA [.ref (h 0), .int e0] (wM cA h) M (sM_drop (th M) e0) := by
  refine Ct.of rfl rfl (by decide +kernel) (Nat.le_of_ble_eq_true rfl) ?_
  intro p e s m below meth c A Q ls hx hb hml hown hts hKK hP hD hA hS hend hl
  have hown : s.vm.findClass R_M = some m.cls := hown
  have hl : lv_has ls 2 [(0, .ref (h 0)), (1, .int e0)] := hl
  have hK := hKK.1
  refine lv_aload_n hx hb d_M_drop_0 rfl (lv_at hl 0 rfl) ?_
  refine lv_iconst (v := 0) hx hb d_M_drop_1 (by decide) ?_
  refine va_put (D := D) (ci := 5) (v := .int 0) (ty := .int) (C := R_M) (T := F_M) (N := 24) hx hb hts i_M t_M t_M_ok n_M hown hK hP hD hS 0 rfl rfl 0 (by decide) (hts _ tw_294) (fun _ h9 => h9) rfl (t_M_ok 0 (by decide)) rfl rfl (Nat.le_of_ble_eq_true rfl) d_M_drop_2 (fun H locs hP hD hS => ?_)
  have hP : va_P D classes ((wM cA h) (th M)) H := hP
  have hD : va_D A ((wM cA h) (th M)) := hD
  refine lv_iload_n hx hb d_M_drop_5 rfl (lv_at hl 1 rfl) ?_
  refine cS (rr := (sM_isEvent e0)) (X' := (th M)) (c_M_isEvent l D cA (wM cA h) (th M) e0) lk_M_96 hx hb hml hown hts hKK hP hD hS hA hl.1 ⟨by decide, by decide⟩ ⟨Nat.le_refl _, Nat.le_refl _⟩ rfl rfl rfl (Nat.le_of_ble_eq_true rfl) d_M_drop_6 (fun H locs hP hD hS => ?_)
  refine lv_if_eq (tgt := 30) hx hb d_M_drop_9 (by decide) (fun c_9 => ?_) (fun c_9 => ?_)
  · refine lv_iload_n hx hb d_M_drop_30 rfl (lv_at hl 1 rfl) ?_
    refine cS (rr := (sM_isEvent e0)) (X' := (th M)) (c_M_isEvent l D cA (wM cA h) (th M) e0) lk_M_96 hx hb hml hown hts hKK hP hD hS hA hl.1 ⟨by decide, by decide⟩ ⟨Nat.le_refl _, Nat.le_refl _⟩ rfl rfl rfl (Nat.le_of_ble_eq_true rfl) d_M_drop_31 (fun H locs hP hD hS => ?_)
    refine lv_if_ne (tgt := 42) hx hb d_M_drop_34 (by decide) (fun c_34 => ?_) (fun c_34 => ?_)
    · exact absurd c_9 c_34
    · refine lv_bipush (v := 16) hx hb d_M_drop_37 (by decide) ?_
      refine lv_goto (tgt := 58) hx hb d_M_drop_39 (by decide) ?_
      exact hend _ _ _ _ _ _ (by rw [sM_drop, if_pos c_9] <;> rfl) hP hS d_M_drop_58
  · have hi := sM_isEvent_in c_9
    refine lv_aload_n hx hb d_M_drop_12 rfl (lv_at hl 0 rfl) ?_
    refine va_get (D := D) (ci := 5) (v := .ref (h 14)) (C := R_M) (T := F_M) (N := 24) hx hb hts i_M hown hK hP 0 rfl rfl 19 (by decide) (hts _ tw_313) (fun _ h9 => h9) rfl d_M_drop_13 ?_
    refine lv_iload_n hx hb d_M_drop_16 rfl (lv_at hl 1 rfl) ?_
    refine va_iald (f := ((th M) 14)) hx hb hK hP 14 0 rfl rfl (by first | assumption | exact vi32_lt (by assumption) (by assumption) | exact vi32_nle (by assumption) (by assumption) | exact vi32_le (by assumption) (by assumption)) d_M_drop_17 ?_
    refine lv_if_eq (tgt := 30) hx hb d_M_drop_18 (by decide) (fun c_18 => ?_) (fun c_18 => ?_)
    · refine lv_iload_n hx hb d_M_drop_30 rfl (lv_at hl 1 rfl) ?_
      refine cS (rr := (sM_isEvent e0)) (X' := (th M)) (c_M_isEvent l D cA (wM cA h) (th M) e0) lk_M_96 hx hb hml hown hts hKK hP hD hS hA hl.1 ⟨by decide, by decide⟩ ⟨Nat.le_refl _, Nat.le_refl _⟩ rfl rfl rfl (Nat.le_of_ble_eq_true rfl) d_M_drop_31 (fun H locs hP hD hS => ?_)
      refine lv_if_ne (tgt := 42) hx hb d_M_drop_34 (by decide) (fun c_34 => ?_) (fun c_34 => ?_)
      · refine lv_aload_n hx hb d_M_drop_42 rfl (lv_at hl 0 rfl) ?_
        refine va_get (D := D) (ci := 5) (v := .ref (h 14)) (C := R_M) (T := F_M) (N := 24) hx hb hts i_M hown hK hP 0 rfl rfl 19 (by decide) (hts _ tw_313) (fun _ h9 => h9) rfl d_M_drop_43 ?_
        refine lv_iload_n hx hb d_M_drop_46 rfl (lv_at hl 1 rfl) ?_
        refine va_iald (f := ((th M) 14)) hx hb hK hP 14 0 rfl rfl (by first | assumption | exact vi32_lt (by assumption) (by assumption) | exact vi32_nle (by assumption) (by assumption) | exact vi32_le (by assumption) (by assumption)) d_M_drop_47 ?_
        refine lv_if_ne (tgt := 56) hx hb d_M_drop_48 (by decide) (fun c_48 => ?_) (fun c_48 => ?_)
        · exact absurd c_18 c_48
        · refine lv_bipush (v := 30) hx hb d_M_drop_51 (by decide) ?_
          refine lv_goto (tgt := 58) hx hb d_M_drop_53 (by decide) ?_
          exact hend _ _ _ _ _ _ (by rw [sM_drop, if_neg c_9, if_pos c_18] <;> rfl) hP hS d_M_drop_58
      · exact absurd c_34 c_9
    · refine lv_aload_n hx hb d_M_drop_21 rfl (lv_at hl 0 rfl) ?_
      refine va_get (D := D) (ci := 5) (v := .ref (h 15)) (C := R_M) (T := F_M) (N := 24) hx hb hts i_M hown hK hP 0 rfl rfl 20 (by decide) (hts _ tw_314) (fun _ h9 => h9) rfl d_M_drop_22 ?_
      refine lv_iload_n hx hb d_M_drop_25 rfl (lv_at hl 1 rfl) ?_
      refine va_zald (f := ((th M) 15)) hx hb hK hP 15 1 rfl rfl (by first | assumption | exact vi32_lt (by assumption) (by assumption) | exact vi32_nle (by assumption) (by assumption) | exact vi32_le (by assumption) (by assumption)) d_M_drop_26 ?_
      refine lv_if_eq (tgt := 59) hx hb d_M_drop_27 (by decide) (fun c_27 => ?_) (fun c_27 => ?_)
      · refine lv_aload_n hx hb d_M_drop_59 rfl (lv_at hl 0 rfl) ?_
        refine va_get (D := D) (ci := 5) (v := .ref (h 14)) (C := R_M) (T := F_M) (N := 24) hx hb hts i_M hown hK hP 0 rfl rfl 19 (by decide) (hts _ tw_313) (fun _ h9 => h9) rfl d_M_drop_60 ?_
        refine lv_iload_n hx hb d_M_drop_63 rfl (lv_at hl 1 rfl) ?_
        refine lv_iconst (v := 0) hx hb d_M_drop_64 (by decide) ?_
        refine va_iast (f := ((th M) 14)) hx hb hK hP hD hS 14 0 rfl rfl (by first | assumption | exact vi32_lt (by assumption) (by assumption) | exact vi32_nle (by assumption) (by assumption) | exact vi32_le (by assumption) (by assumption)) d_M_drop_65 (fun H locs hP hD hS => ?_)
        have hP : va_P D classes ((wM cA h) (pt (th M) 14 (ix e0) 0)) H := hP
        have hD : va_D A ((wM cA h) (pt (th M) 14 (ix e0) 0)) := hD
        refine lv_iconst (v := 0) hx hb d_M_drop_66 (by decide) ?_
        exact hend _ _ _ _ _ _ (by rw [sM_drop, if_neg c_9, if_neg c_18, if_pos c_27] <;> rfl) hP hS d_M_drop_67
      · refine lv_iload_n hx hb d_M_drop_30 rfl (lv_at hl 1 rfl) ?_
        refine cS (rr := (sM_isEvent e0)) (X' := (th M)) (c_M_isEvent l D cA (wM cA h) (th M) e0) lk_M_96 hx hb hml hown hts hKK hP hD hS hA hl.1 ⟨by decide, by decide⟩ ⟨Nat.le_refl _, Nat.le_refl _⟩ rfl rfl rfl (Nat.le_of_ble_eq_true rfl) d_M_drop_31 (fun H locs hP hD hS => ?_)
        refine lv_if_ne (tgt := 42) hx hb d_M_drop_34 (by decide) (fun c_34 => ?_) (fun c_34 => ?_)
        · refine lv_aload_n hx hb d_M_drop_42 rfl (lv_at hl 0 rfl) ?_
          refine va_get (D := D) (ci := 5) (v := .ref (h 14)) (C := R_M) (T := F_M) (N := 24) hx hb hts i_M hown hK hP 0 rfl rfl 19 (by decide) (hts _ tw_313) (fun _ h9 => h9) rfl d_M_drop_43 ?_
          refine lv_iload_n hx hb d_M_drop_46 rfl (lv_at hl 1 rfl) ?_
          refine va_iald (f := ((th M) 14)) hx hb hK hP 14 0 rfl rfl (by first | assumption | exact vi32_lt (by assumption) (by assumption) | exact vi32_nle (by assumption) (by assumption) | exact vi32_le (by assumption) (by assumption)) d_M_drop_47 ?_
          refine lv_if_ne (tgt := 56) hx hb d_M_drop_48 (by decide) (fun c_48 => ?_) (fun c_48 => ?_)
          · refine lv_bipush (v := 15) hx hb d_M_drop_56 (by decide) ?_
            exact hend _ _ _ _ _ _ (by rw [sM_drop, if_neg c_9, if_neg c_18, if_neg c_27] <;> rfl) hP hS d_M_drop_58
          · exact absurd c_48 c_18
        · exact absurd c_34 c_9
set_option maxHeartbeats 4000000 in
set_option maxRecDepth 100000 in
theorem c_M_arm (l : Launch) (D : va_G) (cA : Nat → ClassId) (h : Nat → Nat) (M : Sg) (e0 : Int32) (z0 : Int32) : Ct l y_M_arm b_M_arm 3 (some .int) 2 42 D cA [.ref (h 0), .int e0, .int z0] (wM cA h) M (sM_arm (th M) e0 z0) := by
  refine Ct.of rfl rfl (by decide +kernel) (Nat.le_of_ble_eq_true rfl) ?_
  intro p e s m below meth c A Q ls hx hb hml hown hts hKK hP hD hA hS hend hl
  have hown : s.vm.findClass R_M = some m.cls := hown
  have hl : lv_has ls 3 [(0, .ref (h 0)), (1, .int e0), (2, .int z0)] := hl
  have hK := hKK.1
  refine lv_aload_n hx hb d_M_arm_0 rfl (lv_at hl 0 rfl) ?_
  refine lv_iconst (v := 0) hx hb d_M_arm_1 (by decide) ?_
  refine va_put (D := D) (ci := 5) (v := .int 0) (ty := .int) (C := R_M) (T := F_M) (N := 24) hx hb hts i_M t_M t_M_ok n_M hown hK hP hD hS 0 rfl rfl 0 (by decide) (hts _ tw_294) (fun _ h9 => h9) rfl (t_M_ok 0 (by decide)) rfl rfl (Nat.le_of_ble_eq_true rfl) d_M_arm_2 (fun H locs hP hD hS => ?_)
  have hP : va_P D classes ((wM cA h) (th M)) H := hP
  have hD : va_D A ((wM cA h) (th M)) := hD
  refine lv_iload_n hx hb d_M_arm_5 rfl (lv_at hl 1 rfl) ?_
  refine cS (rr := (sM_isEvent e0)) (X' := (th M)) (c_M_isEvent l D cA (wM cA h) (th M) e0) lk_M_96 hx hb hml hown hts hKK hP hD hS hA hl.1 ⟨by decide, by decide⟩ ⟨Nat.le_refl _, Nat.le_refl _⟩ rfl rfl rfl (Nat.le_of_ble_eq_true rfl) d_M_arm_6 (fun H locs hP hD hS => ?_)
  refine lv_if_eq (tgt := 21) hx hb d_M_arm_9 (by decide) (fun c_9 => ?_) (fun c_9 => ?_)
  · refine lv_iload_n hx hb d_M_arm_21 rfl (lv_at hl 1 rfl) ?_
    refine cS (rr := (sM_isEvent e0)) (X' := (th M)) (c_M_isEvent l D cA (wM cA h) (th M) e0) lk_M_96 hx hb hml hown hts hKK hP hD hS hA hl.1 ⟨by decide, by decide⟩ ⟨Nat.le_refl _, Nat.le_refl _⟩ rfl rfl rfl (Nat.le_of_ble_eq_true rfl) d_M_arm_22 (fun H locs hP hD hS => ?_)
    refine lv_if_ne (tgt := 33) hx hb d_M_arm_25 (by decide) (fun c_25 => ?_) (fun c_25 => ?_)
    · exact absurd c_9 c_25
    · refine lv_bipush (v := 16) hx hb d_M_arm_28 (by decide) ?_
      refine lv_goto (tgt := 35) hx hb d_M_arm_30 (by decide) ?_
      exact hend _ _ _ _ _ _ (by rw [sM_arm, if_pos c_9] <;> rfl) hP hS d_M_arm_35
  · have hi := sM_isEvent_in c_9
    refine lv_aload_n hx hb d_M_arm_12 rfl (lv_at hl 0 rfl) ?_
    refine va_get (D := D) (ci := 5) (v := .ref (h 14)) (C := R_M) (T := F_M) (N := 24) hx hb hts i_M hown hK hP 0 rfl rfl 19 (by decide) (hts _ tw_313) (fun _ h9 => h9) rfl d_M_arm_13 ?_
    refine lv_iload_n hx hb d_M_arm_16 rfl (lv_at hl 1 rfl) ?_
    refine va_iald (f := ((th M) 14)) hx hb hK hP 14 0 rfl rfl (by first | assumption | exact vi32_lt (by assumption) (by assumption) | exact vi32_nle (by assumption) (by assumption) | exact vi32_le (by assumption) (by assumption)) d_M_arm_17 ?_
    refine lv_if_ne (tgt := 36) hx hb d_M_arm_18 (by decide) (fun c_18 => ?_) (fun c_18 => ?_)
    · refine lv_aload_n hx hb d_M_arm_36 rfl (lv_at hl 0 rfl) ?_
      refine va_get (D := D) (ci := 5) (v := .ref (h 15)) (C := R_M) (T := F_M) (N := 24) hx hb hts i_M hown hK hP 0 rfl rfl 20 (by decide) (hts _ tw_314) (fun _ h9 => h9) rfl d_M_arm_37 ?_
      refine lv_iload_n hx hb d_M_arm_40 rfl (lv_at hl 1 rfl) ?_
      refine lv_iload_n hx hb d_M_arm_41 rfl (lv_at hl 2 rfl) ?_
      refine va_zast (f := ((th M) 15)) hx hb hK hP hD hS 15 1 rfl rfl (by first | assumption | exact vi32_lt (by assumption) (by assumption) | exact vi32_nle (by assumption) (by assumption) | exact vi32_le (by assumption) (by assumption)) d_M_arm_42 (fun H locs hP hD hS => ?_)
      have hP : va_P D classes ((wM cA h) (pt (th M) 15 (ix e0) (nz z0))) H := hP
      have hD : va_D A ((wM cA h) (pt (th M) 15 (ix e0) (nz z0))) := hD
      refine lv_iconst (v := 0) hx hb d_M_arm_43 (by decide) ?_
      exact hend _ _ _ _ _ _ (by rw [sM_arm, if_neg c_9, if_neg c_18] <;> rfl) hP hS d_M_arm_44
    · refine lv_iload_n hx hb d_M_arm_21 rfl (lv_at hl 1 rfl) ?_
      refine cS (rr := (sM_isEvent e0)) (X' := (th M)) (c_M_isEvent l D cA (wM cA h) (th M) e0) lk_M_96 hx hb hml hown hts hKK hP hD hS hA hl.1 ⟨by decide, by decide⟩ ⟨Nat.le_refl _, Nat.le_refl _⟩ rfl rfl rfl (Nat.le_of_ble_eq_true rfl) d_M_arm_22 (fun H locs hP hD hS => ?_)
      refine lv_if_ne (tgt := 33) hx hb d_M_arm_25 (by decide) (fun c_25 => ?_) (fun c_25 => ?_)
      · refine lv_bipush (v := 30) hx hb d_M_arm_33 (by decide) ?_
        exact hend _ _ _ _ _ _ (by rw [sM_arm, if_neg c_9, if_pos c_18] <;> rfl) hP hS d_M_arm_35
      · exact absurd c_25 c_9
set_option maxHeartbeats 4000000 in
set_option maxRecDepth 100000 in
theorem c_M_limit (l : Launch) (D : va_G) (cA : Nat → ClassId) (h : Nat → Nat) (M : Sg) (i0 : Int32) (w0 : Int32) : Ct l y_M_limit b_M_limit 3 (some .int) 1 21 D cA [.ref (h 0), .int i0, .int w0] (wM cA h) M (sM_limit (th M) i0 w0) := by
  refine Ct.of rfl rfl (by decide +kernel) (Nat.le_of_ble_eq_true rfl) ?_
  intro p e s m below meth c A Q ls hx hb hml hown hts hKK hP hD hA hS hend hl
  have hown : s.vm.findClass R_M = some m.cls := hown
  have hl : lv_has ls 3 [(0, .ref (h 0)), (1, .int i0), (2, .int w0)] := hl
  have hK := hKK.1
  refine lv_aload_n hx hb d_M_limit_0 rfl (lv_at hl 0 rfl) ?_
  refine lv_iconst (v := 0) hx hb d_M_limit_1 (by decide) ?_
  refine va_put (D := D) (ci := 5) (v := .int 0) (ty := .int) (C := R_M) (T := F_M) (N := 24) hx hb hts i_M t_M t_M_ok n_M hown hK hP hD hS 0 rfl rfl 0 (by decide) (hts _ tw_294) (fun _ h9 => h9) rfl (t_M_ok 0 (by decide)) rfl rfl (Nat.le_of_ble_eq_true rfl) d_M_limit_2 (fun H locs hP hD hS => ?_)
  have hP : va_P D classes ((wM cA h) (th M)) H := hP
  have hD : va_D A ((wM cA h) (th M)) := hD
  refine lv_aload_n hx hb d_M_limit_5 rfl (lv_at hl 0 rfl) ?_
  refine lv_iload_n hx hb d_M_limit_6 rfl (lv_at hl 1 rfl) ?_
  refine cV (rr := (sM_isThere (th M) i0)) (X' := (th M)) (c_M_isThere l D cA h (th M) i0) lk_M_75 hx hb hml hown hts hKK hP hD hS hA hl.1 0 rfl rfl rfl ⟨by decide, by decide⟩ ⟨Nat.le_refl _, Nat.le_refl _⟩ rfl wM_adr rfl (Nat.le_of_ble_eq_true rfl) d_M_limit_7 (fun H locs hP hD hS => ?_)
  refine lv_if_ne (tgt := 15) hx hb d_M_limit_10 (by decide) (fun c_10 => ?_) (fun c_10 => ?_)
  · have hi := sM_isThere_in c_10
    refine lv_iload_n hx hb d_M_limit_15 rfl (lv_at hl 2 rfl) ?_
    by_cases w16_0 : w0 = 0
    · refine lv_tableIn (tgt := 56) hx hb d_M_limit_16 (by rw [w16_0]; decide) (by rw [w16_0]; decide) (off := 40) (by rw [w16_0]; rfl) (by decide) ?_
      refine lv_aload_n hx hb d_M_limit_56 rfl (lv_at hl 0 rfl) ?_
      refine va_get (D := D) (ci := 5) (v := .ref (h 3)) (C := R_M) (T := F_M) (N := 24) hx hb hts i_M hown hK hP 0 rfl rfl 3 (by decide) (hts _ tw_297) (fun _ h9 => h9) rfl d_M_limit_57 ?_
      refine lv_iload_n hx hb d_M_limit_60 rfl (lv_at hl 1 rfl) ?_
      refine va_zald (f := ((th M) 3)) hx hb hK hP 3 1 rfl rfl (by first | assumption | exact vi256_lt (by assumption) (by assumption) | exact vi256_nle (by assumption) (by assumption) | exact vi256_le (by assumption) (by assumption)) d_M_limit_61 ?_
      refine lv_if_eq (tgt := 69) hx hb d_M_limit_62 (by decide) (fun c_62 => ?_) (fun c_62 => ?_)
      · refine lv_iconst (v := 0) hx hb d_M_limit_69 (by decide) ?_
        exact hend _ _ _ _ _ _ (by rw [sM_limit, if_neg c_10, if_pos w16_0, if_pos c_62] <;> rfl) hP hS d_M_limit_70
      · refine lv_iconst (v := 1) hx hb d_M_limit_65 (by decide) ?_
        refine lv_goto (tgt := 70) hx hb d_M_limit_66 (by decide) ?_
        exact hend _ _ _ _ _ _ (by rw [sM_limit, if_neg c_10, if_pos w16_0, if_neg c_62] <;> rfl) hP hS d_M_limit_70
    by_cases w16_1 : w0 = 1
    · refine lv_tableIn (tgt := 71) hx hb d_M_limit_16 (by rw [w16_1]; decide) (by rw [w16_1]; decide) (off := 55) (by rw [w16_1]; rfl) (by decide) ?_
      refine lv_aload_n hx hb d_M_limit_71 rfl (lv_at hl 0 rfl) ?_
      refine va_get (D := D) (ci := 5) (v := .ref (h 10)) (C := R_M) (T := F_M) (N := 24) hx hb hts i_M hown hK hP 0 rfl rfl 10 (by decide) (hts _ tw_304) (fun _ h9 => h9) rfl d_M_limit_72 ?_
      refine lv_iload_n hx hb d_M_limit_75 rfl (lv_at hl 1 rfl) ?_
      refine va_iald (f := ((th M) 10)) hx hb hK hP 10 0 rfl rfl (by first | assumption | exact vi256_lt (by assumption) (by assumption) | exact vi256_nle (by assumption) (by assumption) | exact vi256_le (by assumption) (by assumption)) d_M_limit_76 ?_
      exact hend _ _ _ _ _ _ (by rw [sM_limit, if_neg c_10, if_neg w16_0, if_pos w16_1] <;> rfl) hP hS d_M_limit_77
    by_cases w16_2 : w0 = 2
    · refine lv_tableIn (tgt := 78) hx hb d_M_limit_16 (by rw [w16_2]; decide) (by rw [w16_2]; decide) (off := 62) (by rw [w16_2]; rfl) (by decide) ?_
      refine lv_aload_n hx hb d_M_limit_78 rfl (lv_at hl 0 rfl) ?_
      refine va_get (D := D) (ci := 5) (v := .ref (h 5)) (C := R_M) (T := F_M) (N := 24) hx hb hts i_M hown hK hP 0 rfl rfl 5 (by decide) (hts _ tw_299) (fun _ h9 => h9) rfl d_M_limit_79 ?_
      refine lv_iload_n hx hb d_M_limit_82 rfl (lv_at hl 1 rfl) ?_
      refine va_iald (f := ((th M) 5)) hx hb hK hP 5 0 rfl rfl (by first | assumption | exact vi256_lt (by assumption) (by assumption) | exact vi256_nle (by assumption) (by assumption) | exact vi256_le (by assumption) (by assumption)) d_M_limit_83 ?_
      exact hend _ _ _ _ _ _ (by rw [sM_limit, if_neg c_10, if_neg w16_0, if_neg w16_1, if_pos w16_2] <;> rfl) hP hS d_M_limit_84
    by_cases w16_3 : w0 = 3
    · refine lv_tableIn (tgt := 85) hx hb d_M_limit_16 (by rw [w16_3]; decide) (by rw [w16_3]; decide) (off := 69) (by rw [w16_3]; rfl) (by decide) ?_
      refine lv_aload_n hx hb d_M_limit_85 rfl (lv_at hl 0 rfl) ?_
      refine va_get (D := D) (ci := 5) (v := .ref (h 6)) (C := R_M) (T := F_M) (N := 24) hx hb hts i_M hown hK hP 0 rfl rfl 6 (by decide) (hts _ tw_300) (fun _ h9 => h9) rfl d_M_limit_86 ?_
      refine lv_iload_n hx hb d_M_limit_89 rfl (lv_at hl 1 rfl) ?_
      refine va_iald (f := ((th M) 6)) hx hb hK hP 6 0 rfl rfl (by first | assumption | exact vi256_lt (by assumption) (by assumption) | exact vi256_nle (by assumption) (by assumption) | exact vi256_le (by assumption) (by assumption)) d_M_limit_90 ?_
      exact hend _ _ _ _ _ _ (by rw [sM_limit, if_neg c_10, if_neg w16_0, if_neg w16_1, if_neg w16_2, if_pos w16_3] <;> rfl) hP hS d_M_limit_91
    by_cases w16_4 : w0 = 4
    · refine lv_tableIn (tgt := 92) hx hb d_M_limit_16 (by rw [w16_4]; decide) (by rw [w16_4]; decide) (off := 76) (by rw [w16_4]; rfl) (by decide) ?_
      refine lv_aload_n hx hb d_M_limit_92 rfl (lv_at hl 0 rfl) ?_
      refine va_get (D := D) (ci := 5) (v := .ref (h 9)) (C := R_M) (T := F_M) (N := 24) hx hb hts i_M hown hK hP 0 rfl rfl 9 (by decide) (hts _ tw_303) (fun _ h9 => h9) rfl d_M_limit_93 ?_
      refine lv_iload_n hx hb d_M_limit_96 rfl (lv_at hl 1 rfl) ?_
      refine va_iald (f := ((th M) 9)) hx hb hK hP 9 0 rfl rfl (by first | assumption | exact vi256_lt (by assumption) (by assumption) | exact vi256_nle (by assumption) (by assumption) | exact vi256_le (by assumption) (by assumption)) d_M_limit_97 ?_
      exact hend _ _ _ _ _ _ (by rw [sM_limit, if_neg c_10, if_neg w16_0, if_neg w16_1, if_neg w16_2, if_neg w16_3, if_pos w16_4] <;> rfl) hP hS d_M_limit_98
    by_cases w16_5 : w0 = 5
    · refine lv_tableIn (tgt := 99) hx hb d_M_limit_16 (by rw [w16_5]; decide) (by rw [w16_5]; decide) (off := 83) (by rw [w16_5]; rfl) (by decide) ?_
      refine lv_aload_n hx hb d_M_limit_99 rfl (lv_at hl 0 rfl) ?_
      refine va_get (D := D) (ci := 5) (v := .ref (h 4)) (C := R_M) (T := F_M) (N := 24) hx hb hts i_M hown hK hP 0 rfl rfl 4 (by decide) (hts _ tw_298) (fun _ h9 => h9) rfl d_M_limit_100 ?_
      refine lv_iload_n hx hb d_M_limit_103 rfl (lv_at hl 1 rfl) ?_
      refine va_zald (f := ((th M) 4)) hx hb hK hP 4 1 rfl rfl (by first | assumption | exact vi256_lt (by assumption) (by assumption) | exact vi256_nle (by assumption) (by assumption) | exact vi256_le (by assumption) (by assumption)) d_M_limit_104 ?_
      refine lv_if_eq (tgt := 112) hx hb d_M_limit_105 (by decide) (fun c_105 => ?_) (fun c_105 => ?_)
      · refine lv_iconst (v := 0) hx hb d_M_limit_112 (by decide) ?_
        exact hend _ _ _ _ _ _ (by rw [sM_limit, if_neg c_10, if_neg w16_0, if_neg w16_1, if_neg w16_2, if_neg w16_3, if_neg w16_4, if_pos w16_5, if_pos c_105] <;> rfl) hP hS d_M_limit_113
      · refine lv_iconst (v := 1) hx hb d_M_limit_108 (by decide) ?_
        refine lv_goto (tgt := 113) hx hb d_M_limit_109 (by decide) ?_
        exact hend _ _ _ _ _ _ (by rw [sM_limit, if_neg c_10, if_neg w16_0, if_neg w16_1, if_neg w16_2, if_neg w16_3, if_neg w16_4, if_pos w16_5, if_neg c_105] <;> rfl) hP hS d_M_limit_113
    refine lv_tableOut (tgt := 114) hx hb d_M_limit_16 (by have z0 := lv_neT w16_0 (a := 0) rfl; have z1 := lv_neT w16_1 (a := 1) rfl; have z2 := lv_neT w16_2 (a := 2) rfl; have z3 := lv_neT w16_3 (a := 3) rfl; have z4 := lv_neT w16_4 (a := 4) rfl; have z5 := lv_neT w16_5 (a := 5) rfl; omega) (by decide) ?_
    refine lv_iconst (v := (-1)) hx hb d_M_limit_114 (by decide) ?_
    exact hend _ _ _ _ _ _ (by rw [sM_limit, if_neg c_10, if_neg w16_0, if_neg w16_1, if_neg w16_2, if_neg w16_3, if_neg w16_4, if_neg w16_5] <;> rfl) hP hS d_M_limit_115
  · refine lv_iconst (v := (-1)) hx hb d_M_limit_13 (by decide) ?_
    exact hend _ _ _ _ _ _ (by rw [sM_limit, if_pos c_10] <;> rfl) hP hS d_M_limit_14
set_option maxHeartbeats 4000000 in
set_option maxRecDepth 100000 in
theorem c_M_event (l : Launch) (D : va_G) (cA : Nat → ClassId) (h : Nat → Nat) (M : Sg) (e0 : Int32) (w0 : Int32) : Ct l y_M_event b_M_event 3 (some .int) 2 42 D cA [.ref (h 0), .int e0, .int w0] (wM cA h) M (sM_event (th M) e0 w0) := by
  refine Ct.of rfl rfl (by decide +kernel) (Nat.le_of_ble_eq_true rfl) ?_
  intro p e s m below meth c A Q ls hx hb hml hown hts hKK hP hD hA hS hend hl
  have hown : s.vm.findClass R_M = some m.cls := hown
  have hl : lv_has ls 3 [(0, .ref (h 0)), (1, .int e0), (2, .int w0)] := hl
  have hK := hKK.1
  refine lv_aload_n hx hb d_M_event_0 rfl (lv_at hl 0 rfl) ?_
  refine lv_iconst (v := 0) hx hb d_M_event_1 (by decide) ?_
  refine va_put (D := D) (ci := 5) (v := .int 0) (ty := .int) (C := R_M) (T := F_M) (N := 24) hx hb hts i_M t_M t_M_ok n_M hown hK hP hD hS 0 rfl rfl 0 (by decide) (hts _ tw_294) (fun _ h9 => h9) rfl (t_M_ok 0 (by decide)) rfl rfl (Nat.le_of_ble_eq_true rfl) d_M_event_2 (fun H locs hP hD hS => ?_)
  have hP : va_P D classes ((wM cA h) (th M)) H := hP
  have hD : va_D A ((wM cA h) (th M)) := hD
  refine lv_iload_n hx hb d_M_event_5 rfl (lv_at hl 1 rfl) ?_
  refine cS (rr := (sM_isEvent e0)) (X' := (th M)) (c_M_isEvent l D cA (wM cA h) (th M) e0) lk_M_96 hx hb hml hown hts hKK hP hD hS hA hl.1 ⟨by decide, by decide⟩ ⟨Nat.le_refl _, Nat.le_refl _⟩ rfl rfl rfl (Nat.le_of_ble_eq_true rfl) d_M_event_6 (fun H locs hP hD hS => ?_)
  refine lv_if_ne (tgt := 14) hx hb d_M_event_9 (by decide) (fun c_9 => ?_) (fun c_9 => ?_)
  · have hi := sM_isEvent_in c_9
    refine lv_iload_n hx hb d_M_event_14 rfl (lv_at hl 2 rfl) ?_
    refine lv_if_ne (tgt := 35) hx hb d_M_event_15 (by decide) (fun c_15 => ?_) (fun c_15 => ?_)
    · refine lv_iload_n hx hb d_M_event_35 rfl (lv_at hl 2 rfl) ?_
      refine lv_iconst (v := 1) hx hb d_M_event_36 (by decide) ?_
      refine lv_icmp_ne (tgt := 49) hx hb d_M_event_37 (by decide) (fun c_37 => ?_) (fun c_37 => ?_)
      · refine lv_iload_n hx hb d_M_event_49 rfl (lv_at hl 2 rfl) ?_
        refine lv_iconst (v := 2) hx hb d_M_event_50 (by decide) ?_
        refine lv_icmp_ne (tgt := 80) hx hb d_M_event_51 (by decide) (fun c_51 => ?_) (fun c_51 => ?_)
        · refine lv_iconst (v := (-1)) hx hb d_M_event_80 (by decide) ?_
          exact hend _ _ _ _ _ _ (by rw [sM_event, if_neg c_9, if_neg c_15, if_neg c_37, if_neg c_51] <;> rfl) hP hS d_M_event_81
        · refine lv_aload_n hx hb d_M_event_54 rfl (lv_at hl 0 rfl) ?_
          refine va_get (D := D) (ci := 5) (v := .ref (h 14)) (C := R_M) (T := F_M) (N := 24) hx hb hts i_M hown hK hP 0 rfl rfl 19 (by decide) (hts _ tw_313) (fun _ h9 => h9) rfl d_M_event_55 ?_
          refine lv_iload_n hx hb d_M_event_58 rfl (lv_at hl 1 rfl) ?_
          refine va_iald (f := ((th M) 14)) hx hb hK hP 14 0 rfl rfl (by first | assumption | exact vi32_lt (by assumption) (by assumption) | exact vi32_nle (by assumption) (by assumption) | exact vi32_le (by assumption) (by assumption)) d_M_event_59 ?_
          refine lv_if_le (tgt := 76) hx hb d_M_event_60 (by decide) (fun c_60 => ?_) (fun c_60 => ?_)
          · refine lv_iconst (v := 0) hx hb d_M_event_76 (by decide) ?_
            refine lv_goto (tgt := 81) hx hb d_M_event_77 (by decide) ?_
            exact hend _ _ _ _ _ _ (by rw [sM_event, if_neg c_9, if_neg c_15, if_neg c_37, if_pos c_51, if_pos c_60] <;> rfl) hP hS d_M_event_81
          · refine lv_aload_n hx hb d_M_event_63 rfl (lv_at hl 0 rfl) ?_
            refine va_get (D := D) (ci := 5) (v := .ref (h 15)) (C := R_M) (T := F_M) (N := 24) hx hb hts i_M hown hK hP 0 rfl rfl 20 (by decide) (hts _ tw_314) (fun _ h9 => h9) rfl d_M_event_64 ?_
            refine lv_iload_n hx hb d_M_event_67 rfl (lv_at hl 1 rfl) ?_
            refine va_zald (f := ((th M) 15)) hx hb hK hP 15 1 rfl rfl (by first | assumption | exact vi32_lt (by assumption) (by assumption) | exact vi32_nle (by assumption) (by assumption) | exact vi32_le (by assumption) (by assumption)) d_M_event_68 ?_
            refine lv_if_eq (tgt := 76) hx hb d_M_event_69 (by decide) (fun c_69 => ?_) (fun c_69 => ?_)
            · refine lv_iconst (v := 0) hx hb d_M_event_76 (by decide) ?_
              refine lv_goto (tgt := 81) hx hb d_M_event_77 (by decide) ?_
              exact hend _ _ _ _ _ _ (by rw [sM_event, if_neg c_9, if_neg c_15, if_neg c_37, if_pos c_51, if_neg c_60, if_pos c_69] <;> rfl) hP hS d_M_event_81
            · refine lv_iconst (v := 1) hx hb d_M_event_72 (by decide) ?_
              refine lv_goto (tgt := 81) hx hb d_M_event_73 (by decide) ?_
              exact hend _ _ _ _ _ _ (by rw [sM_event, if_neg c_9, if_neg c_15, if_neg c_37, if_pos c_51, if_neg c_60, if_neg c_69] <;> rfl) hP hS d_M_event_81
      · refine lv_aload_n hx hb d_M_event_40 rfl (lv_at hl 0 rfl) ?_
        refine va_get (D := D) (ci := 5) (v := .ref (h 14)) (C := R_M) (T := F_M) (N := 24) hx hb hts i_M hown hK hP 0 rfl rfl 19 (by decide) (hts _ tw_313) (fun _ h9 => h9) rfl d_M_event_41 ?_
        refine lv_iload_n hx hb d_M_event_44 rfl (lv_at hl 1 rfl) ?_
        refine va_iald (f := ((th M) 14)) hx hb hK hP 14 0 rfl rfl (by first | assumption | exact vi32_lt (by assumption) (by assumption) | exact vi32_nle (by assumption) (by assumption) | exact vi32_le (by assumption) (by assumption)) d_M_event_45 ?_
        refine lv_goto (tgt := 81) hx hb d_M_event_46 (by decide) ?_
        exact hend _ _ _ _ _ _ (by rw [sM_event, if_neg c_9, if_neg c_15, if_pos c_37] <;> rfl) hP hS d_M_event_81
    · refine lv_aload_n hx hb d_M_event_18 rfl (lv_at hl 0 rfl) ?_
      refine va_get (D := D) (ci := 5) (v := .ref (h 13)) (C := R_M) (T := F_M) (N := 24) hx hb hts i_M hown hK hP 0 rfl rfl 18 (by decide) (hts _ tw_312) (fun _ h9 => h9) rfl d_M_event_19 ?_
      refine lv_iload_n hx hb d_M_event_22 rfl (lv_at hl 1 rfl) ?_
      refine va_zald (f := ((th M) 13)) hx hb hK hP 13 1 rfl rfl (by first | assumption | exact vi32_lt (by assumption) (by assumption) | exact vi32_nle (by assumption) (by assumption) | exact vi32_le (by assumption) (by assumption)) d_M_event_23 ?_
      refine lv_if_eq (tgt := 31) hx hb d_M_event_24 (by decide) (fun c_24 => ?_) (fun c_24 => ?_)
      · refine lv_iconst (v := 1) hx hb d_M_event_31 (by decide) ?_
        refine lv_goto (tgt := 81) hx hb d_M_event_32 (by decide) ?_
        exact hend _ _ _ _ _ _ (by rw [sM_event, if_neg c_9, if_pos c_15, if_pos c_24] <;> rfl) hP hS d_M_event_81
      · refine lv_iconst (v := 0) hx hb d_M_event_27 (by decide) ?_
        refine lv_goto (tgt := 81) hx hb d_M_event_28 (by decide) ?_
        exact hend _ _ _ _ _ _ (by rw [sM_event, if_neg c_9, if_pos c_15, if_neg c_24] <;> rfl) hP hS d_M_event_81
  · refine lv_iconst (v := (-1)) hx hb d_M_event_12 (by decide) ?_
    exact hend _ _ _ _ _ _ (by rw [sM_event, if_pos c_9] <;> rfl) hP hS d_M_event_13
set_option maxHeartbeats 4000000 in
set_option maxRecDepth 100000 in
theorem c_M_actionAt (l : Launch) (D : va_G) (cA : Nat → ClassId) (h : Nat → Nat) (M : Sg) (e0 : Int32) (k0 : Int32) (hk : ¬ sM_isEvent e0 = 0 → ¬ k0 < 0 → ¬ M 14 (ix e0) ≤ k0 → vp_in (256 * e0 + k0) 8192) : Ct l y_M_actionAt b_M_actionAt 3 (some .int) 2 42 D cA [.ref (h 0), .int e0, .int k0] (wM cA h) M (sM_actionAt (th M) e0 k0) := by
  refine Ct.of rfl rfl (by decide +kernel) (Nat.le_of_ble_eq_true rfl) ?_
  intro p e s m below meth c A Q ls hx hb hml hown hts hKK hP hD hA hS hend hl
  have hown : s.vm.findClass R_M = some m.cls := hown
  have hl : lv_has ls 3 [(0, .ref (h 0)), (1, .int e0), (2, .int k0)] := hl
  have hK := hKK.1
  refine lv_aload_n hx hb d_M_actionAt_0 rfl (lv_at hl 0 rfl) ?_
  refine lv_iconst (v := 0) hx hb d_M_actionAt_1 (by decide) ?_
  refine va_put (D := D) (ci := 5) (v := .int 0) (ty := .int) (C := R_M) (T := F_M) (N := 24) hx hb hts i_M t_M t_M_ok n_M hown hK hP hD hS 0 rfl rfl 0 (by decide) (hts _ tw_294) (fun _ h9 => h9) rfl (t_M_ok 0 (by decide)) rfl rfl (Nat.le_of_ble_eq_true rfl) d_M_actionAt_2 (fun H locs hP hD hS => ?_)
  have hP : va_P D classes ((wM cA h) (th M)) H := hP
  have hD : va_D A ((wM cA h) (th M)) := hD
  refine lv_iload_n hx hb d_M_actionAt_5 rfl (lv_at hl 1 rfl) ?_
  refine cS (rr := (sM_isEvent e0)) (X' := (th M)) (c_M_isEvent l D cA (wM cA h) (th M) e0) lk_M_96 hx hb hml hown hts hKK hP hD hS hA hl.1 ⟨by decide, by decide⟩ ⟨Nat.le_refl _, Nat.le_refl _⟩ rfl rfl rfl (Nat.le_of_ble_eq_true rfl) d_M_actionAt_6 (fun H locs hP hD hS => ?_)
  refine lv_if_eq (tgt := 45) hx hb d_M_actionAt_9 (by decide) (fun c_9 => ?_) (fun c_9 => ?_)
  · refine lv_iconst (v := (-1)) hx hb d_M_actionAt_45 (by decide) ?_
    exact hend _ _ _ _ _ _ (by rw [sM_actionAt, if_pos c_9] <;> rfl) hP hS d_M_actionAt_46
  · have hi := sM_isEvent_in c_9
    refine lv_iload_n hx hb d_M_actionAt_12 rfl (lv_at hl 2 rfl) ?_
    refine lv_if_lt (tgt := 45) hx hb d_M_actionAt_13 (by decide) (fun c_13 => ?_) (fun c_13 => ?_)
    · refine lv_iconst (v := (-1)) hx hb d_M_actionAt_45 (by decide) ?_
      exact hend _ _ _ _ _ _ (by rw [sM_actionAt, if_neg c_9, if_pos c_13] <;> rfl) hP hS d_M_actionAt_46
    · refine lv_iload_n hx hb d_M_actionAt_16 rfl (lv_at hl 2 rfl) ?_
      refine lv_aload_n hx hb d_M_actionAt_17 rfl (lv_at hl 0 rfl) ?_
      refine va_get (D := D) (ci := 5) (v := .ref (h 14)) (C := R_M) (T := F_M) (N := 24) hx hb hts i_M hown hK hP 0 rfl rfl 19 (by decide) (hts _ tw_313) (fun _ h9 => h9) rfl d_M_actionAt_18 ?_
      refine lv_iload_n hx hb d_M_actionAt_21 rfl (lv_at hl 1 rfl) ?_
      refine va_iald (f := ((th M) 14)) hx hb hK hP 14 0 rfl rfl (by first | assumption | exact vi32_lt (by assumption) (by assumption) | exact vi32_nle (by assumption) (by assumption) | exact vi32_le (by assumption) (by assumption)) d_M_actionAt_22 ?_
      refine lv_icmp_ge (tgt := 45) hx hb d_M_actionAt_23 (by decide) (fun c_23 => ?_) (fun c_23 => ?_)
      · refine lv_iconst (v := (-1)) hx hb d_M_actionAt_45 (by decide) ?_
        exact hend _ _ _ _ _ _ (by rw [sM_actionAt, if_neg c_9, if_neg c_13, if_pos c_23] <;> rfl) hP hS d_M_actionAt_46
      · have hj := hk c_9 c_13 c_23
        refine lv_aload_n hx hb d_M_actionAt_26 rfl (lv_at hl 0 rfl) ?_
        refine va_get (D := D) (ci := 5) (v := .ref (h 16)) (C := R_M) (T := F_M) (N := 24) hx hb hts i_M hown hK hP 0 rfl rfl 21 (by decide) (hts _ tw_315) (fun _ h9 => h9) rfl d_M_actionAt_27 ?_
        refine lv_sipush (v := 256) hx hb d_M_actionAt_30 (by decide) ?_
        refine lv_iload_n hx hb d_M_actionAt_33 rfl (lv_at hl 1 rfl) ?_
        refine lv_imul hx hb d_M_actionAt_34 ?_
        refine lv_iload_n hx hb d_M_actionAt_35 rfl (lv_at hl 2 rfl) ?_
        refine lv_iadd hx hb d_M_actionAt_36 ?_
        refine va_bald (f := ((th M) 16)) hx hb hK hP 16 2 rfl rfl (by first | assumption) d_M_actionAt_37 ?_
        refine lv_sipush (v := 255) hx hb d_M_actionAt_38 (by decide) ?_
        refine lv_iand hx hb d_M_actionAt_41 ?_
        refine lv_goto (tgt := 46) hx hb d_M_actionAt_42 (by decide) ?_
        exact hend _ _ _ _ _ _ (by rw [sM_actionAt, if_neg c_9, if_neg c_13, if_neg c_23] <;> rfl) hP hS d_M_actionAt_46
set_option maxHeartbeats 4000000 in
set_option maxRecDepth 100000 in
theorem c_M_count (l : Launch) (D : va_G) (cA : Nat → ClassId) (h : Nat → Nat) (M : Sg) (w0 : Int32) : Ct l y_M_count b_M_count 2 (some .int) 1 22 D cA [.ref (h 0), .int w0] (wM cA h) M (sM_count (th M) w0) := by
  refine Ct.of rfl rfl (by decide +kernel) (Nat.le_of_ble_eq_true rfl) ?_
  intro p e s m below meth c A Q ls hx hb hml hown hts hKK hP hD hA hS hend hl
  have hown : s.vm.findClass R_M = some m.cls := hown
  have hl : lv_has ls 2 [(0, .ref (h 0)), (1, .int w0)] := hl
  have hK := hKK.1
  refine lv_aload_n hx hb d_M_count_0 rfl (lv_at hl 0 rfl) ?_
  refine lv_iconst (v := 0) hx hb d_M_count_1 (by decide) ?_
  refine va_put (D := D) (ci := 5) (v := .int 0) (ty := .int) (C := R_M) (T := F_M) (N := 24) hx hb hts i_M t_M t_M_ok n_M hown hK hP hD hS 0 rfl rfl 0 (by decide) (hts _ tw_294) (fun _ h9 => h9) rfl (t_M_ok 0 (by decide)) rfl rfl (Nat.le_of_ble_eq_true rfl) d_M_count_2 (fun H locs hP hD hS => ?_)
  have hP : va_P D classes ((wM cA h) (th M)) H := hP
  have hD : va_D A ((wM cA h) (th M)) := hD
  refine lv_iload_n hx hb d_M_count_5 rfl (lv_at hl 1 rfl) ?_
  refine lv_if_ne (tgt := 16) hx hb d_M_count_6 (by decide) (fun c_6 => ?_) (fun c_6 => ?_)
  · refine lv_iload_n hx hb d_M_count_16 rfl (lv_at hl 1 rfl) ?_
    refine lv_iconst (v := 1) hx hb d_M_count_17 (by decide) ?_
    refine lv_icmp_ne (tgt := 28) hx hb d_M_count_18 (by decide) (fun c_18 => ?_) (fun c_18 => ?_)
    · refine lv_iload_n hx hb d_M_count_28 rfl (lv_at hl 1 rfl) ?_
      refine lv_iconst (v := 2) hx hb d_M_count_29 (by decide) ?_
      refine lv_icmp_ne (tgt := 40) hx hb d_M_count_30 (by decide) (fun c_30 => ?_) (fun c_30 => ?_)
      · refine lv_iload_n hx hb d_M_count_40 rfl (lv_at hl 1 rfl) ?_
        refine lv_iconst (v := 3) hx hb d_M_count_41 (by decide) ?_
        refine lv_icmp_ne (tgt := 52) hx hb d_M_count_42 (by decide) (fun c_42 => ?_) (fun c_42 => ?_)
        · refine lv_iload_n hx hb d_M_count_52 rfl (lv_at hl 1 rfl) ?_
          refine lv_iconst (v := 4) hx hb d_M_count_53 (by decide) ?_
          refine lv_icmp_ne (tgt := 64) hx hb d_M_count_54 (by decide) (fun c_54 => ?_) (fun c_54 => ?_)
          · refine lv_iconst (v := (-1)) hx hb d_M_count_64 (by decide) ?_
            exact hend _ _ _ _ _ _ (by rw [sM_count, if_neg c_6, if_neg c_18, if_neg c_30, if_neg c_42, if_neg c_54] <;> rfl) hP hS d_M_count_65
          · refine lv_aload_n hx hb d_M_count_57 rfl (lv_at hl 0 rfl) ?_
            refine va_get (D := D) (ci := 5) (v := .int ((th M) 0 17)) (C := R_M) (T := F_M) (N := 24) hx hb hts i_M hown hK hP 0 rfl rfl 17 (by decide) (hts _ tw_311) (fun _ h9 => h9) rfl d_M_count_58 ?_
            refine lv_goto (tgt := 65) hx hb d_M_count_61 (by decide) ?_
            exact hend _ _ _ _ _ _ (by rw [sM_count, if_neg c_6, if_neg c_18, if_neg c_30, if_neg c_42, if_pos c_54] <;> rfl) hP hS d_M_count_65
        · refine lv_aload_n hx hb d_M_count_45 rfl (lv_at hl 0 rfl) ?_
          refine va_get (D := D) (ci := 5) (v := .int ((th M) 0 16)) (C := R_M) (T := F_M) (N := 24) hx hb hts i_M hown hK hP 0 rfl rfl 16 (by decide) (hts _ tw_310) (fun _ h9 => h9) rfl d_M_count_46 ?_
          refine lv_goto (tgt := 65) hx hb d_M_count_49 (by decide) ?_
          exact hend _ _ _ _ _ _ (by rw [sM_count, if_neg c_6, if_neg c_18, if_neg c_30, if_pos c_42] <;> rfl) hP hS d_M_count_65
      · refine lv_aload_n hx hb d_M_count_33 rfl (lv_at hl 0 rfl) ?_
        refine va_get (D := D) (ci := 5) (v := .int ((th M) 0 13)) (C := R_M) (T := F_M) (N := 24) hx hb hts i_M hown hK hP 0 rfl rfl 13 (by decide) (hts _ tw_307) (fun _ h9 => h9) rfl d_M_count_34 ?_
        refine lv_goto (tgt := 65) hx hb d_M_count_37 (by decide) ?_
        exact hend _ _ _ _ _ _ (by rw [sM_count, if_neg c_6, if_neg c_18, if_pos c_30] <;> rfl) hP hS d_M_count_65
    · refine lv_aload_n hx hb d_M_count_21 rfl (lv_at hl 0 rfl) ?_
      refine va_get (D := D) (ci := 5) (v := .int ((th M) 0 11)) (C := R_M) (T := F_M) (N := 24) hx hb hts i_M hown hK hP 0 rfl rfl 11 (by decide) (hts _ tw_305) (fun _ h9 => h9) rfl d_M_count_22 ?_
      refine lv_goto (tgt := 65) hx hb d_M_count_25 (by decide) ?_
      exact hend _ _ _ _ _ _ (by rw [sM_count, if_neg c_6, if_pos c_18] <;> rfl) hP hS d_M_count_65
  · refine lv_aload_n hx hb d_M_count_9 rfl (lv_at hl 0 rfl) ?_
    refine cV (rr := (sM_limits (th M))) (X' := (th M)) (c_M_limits l D cA h (th M) ) lk_M_71 hx hb hml hown hts hKK hP hD hS hA hl.1 0 rfl rfl rfl ⟨by decide, by decide⟩ ⟨Nat.le_refl _, Nat.le_refl _⟩ rfl wM_adr rfl (Nat.le_of_ble_eq_true rfl) d_M_count_10 (fun H locs hP hD hS => ?_)
    refine lv_goto (tgt := 65) hx hb d_M_count_13 (by decide) ?_
    exact hend _ _ _ _ _ _ (by rw [sM_count, if_pos c_6] <;> rfl) hP hS d_M_count_65
end
section
set_option maxHeartbeats 4000000 in
set_option maxRecDepth 100000 in
theorem c_M_work (l : Launch) (D : va_G) (cA : Nat → ClassId) (h : Nat → Nat) (M : Sg) (hw : ∃ n, n ≤ 64 ∧ M 0 13 = nI n) : Ct l y_M_work b_M_work 3 (some .int) 0 0 D cA [.ref (h 0)] (wM cA h) M (sM_work (th M)) := by
  refine Ct.of rfl rfl (by decide +kernel) (Nat.le_of_ble_eq_true rfl) ?_
  intro p e s m below meth c A Q ls hx hb hml hown hts hKK hP hD hA hS hend hl
  have hown : s.vm.findClass R_M = some m.cls := hown
  have hl : lv_has ls 3 [(0, .ref (h 0))] := hl
  have hK := hKK.1
  refine lv_aload_n hx hb d_M_work_0 rfl (lv_at hl 0 rfl) ?_
  refine lv_iconst (v := 0) hx hb d_M_work_1 (by decide) ?_
  refine va_put (D := D) (ci := 5) (v := .int 0) (ty := .int) (C := R_M) (T := F_M) (N := 24) hx hb hts i_M t_M t_M_ok n_M hown hK hP hD hS 0 rfl rfl 0 (by decide) (hts _ tw_294) (fun _ h9 => h9) rfl (t_M_ok 0 (by decide)) rfl rfl (Nat.le_of_ble_eq_true rfl) d_M_work_2 (fun H locs hP hD hS => ?_)
  have hP : va_P D classes ((wM cA h) (th M)) H := hP
  have hD : va_D A ((wM cA h) (th M)) := hD
  refine lv_aload_n hx hb d_M_work_5 rfl (lv_at hl 0 rfl) ?_
  refine va_get (D := D) (ci := 5) (v := .int ((th M) 0 13)) (C := R_M) (T := F_M) (N := 24) hx hb hts i_M hown hK hP 0 rfl rfl 13 (by decide) (hts _ tw_307) (fun _ h9 => h9) rfl d_M_work_6 ?_
  refine lv_if_ne (tgt := 14) hx hb d_M_work_9 (by decide) (fun c_9 => ?_) (fun c_9 => ?_)
  · obtain ⟨n0, hn0, en0⟩ := hw
    obtain ⟨N, hN, eN⟩ := wk_pred (x := (th M) 0 13) hn0 en0 c_9
    have eN2 : ((th M) 0 13 - 1).toNatClampNeg = N := by rw [eN]; exact nI_clamp (by omega)
    refine lv_aload_n hx hb d_M_work_14 rfl (lv_at hl 0 rfl) ?_
    refine va_get (D := D) (ci := 5) (v := .ref (h 11)) (C := R_M) (T := F_M) (N := 24) hx hb hts i_M hown hK hP 0 rfl rfl 14 (by decide) (hts _ tw_308) (fun _ h9 => h9) rfl d_M_work_15 ?_
    refine lv_iconst (v := 0) hx hb d_M_work_18 (by decide) ?_
    refine va_iald (f := ((th M) 11)) hx hb hK hP 11 0 rfl rfl vi0_64 d_M_work_19 ?_
    refine lv_istore_n (lv' := [(1, .int (((th M) 11) (ix 0))), (0, .ref (h 0))]) hx hb d_M_work_20 rfl hl (by decide) rfl (fun ls hl => ?_)
    refine lv_aload_n hx hb d_M_work_21 rfl (lv_at hl 1 rfl) ?_
    refine lv_aload_n hx hb d_M_work_22 rfl (lv_at hl 1 rfl) ?_
    refine va_get (D := D) (ci := 5) (v := .ref (h 12)) (C := R_M) (T := F_M) (N := 24) hx hb hts i_M hown hK hP 0 rfl rfl 15 (by decide) (hts _ tw_309) (fun _ h9 => h9) rfl d_M_work_23 ?_
    refine lv_iconst (v := 0) hx hb d_M_work_26 (by decide) ?_
    refine va_iald (f := ((th M) 12)) hx hb hK hP 12 0 rfl rfl vi0_64 d_M_work_27 ?_
    refine va_put (D := D) (ci := 5) (v := .int (((th M) 12) (ix 0))) (ty := .int) (C := R_M) (T := F_M) (N := 24) hx hb hts i_M t_M t_M_ok n_M hown hK hP hD hS 0 rfl rfl 17 (by decide) (hts _ tw_311) (fun _ h9 => h9) rfl (t_M_ok 17 (by decide)) rfl rfl (Nat.le_of_ble_eq_true rfl) d_M_work_28 (fun H locs hP hD hS => ?_)
    have hP : va_P D classes ((wM cA h) (pt (th M) 0 17 (((th M) 12) (ix 0)))) H := hP
    have hD : va_D A ((wM cA h) (pt (th M) 0 17 (((th M) 12) (ix 0)))) := hD
    refine lv_aload_n hx hb d_M_work_31 rfl (lv_at hl 1 rfl) ?_
    refine lv_dup hx hb d_M_work_32 rfl ?_
    refine va_get (D := D) (ci := 5) (v := .int ((th M) 0 13)) (C := R_M) (T := F_M) (N := 24) hx hb hts i_M hown hK hP 0 rfl rfl 13 (by decide) (hts _ tw_307) (fun _ h9 => h9) rfl d_M_work_33 ?_
    refine lv_iconst (v := 1) hx hb d_M_work_36 (by decide) ?_
    refine lv_isub hx hb d_M_work_37 ?_
    refine va_put (D := D) (ci := 5) (v := .int (((th M) 0 13) - 1)) (ty := .int) (C := R_M) (T := F_M) (N := 24) hx hb hts i_M t_M t_M_ok n_M hown hK hP hD hS 0 rfl rfl 13 (by decide) (hts _ tw_307) (fun _ h9 => h9) rfl (t_M_ok 13 (by decide)) rfl rfl (Nat.le_of_ble_eq_true rfl) d_M_work_38 (fun H locs hP hD hS => ?_)
    have hP : va_P D classes ((wM cA h) (pt (pt (th M) 0 17 (((th M) 12) (ix 0))) 0 13 (((th M) 0 13) - 1))) H := hP
    have hD : va_D A ((wM cA h) (pt (pt (th M) 0 17 (((th M) 12) (ix 0))) 0 13 (((th M) 0 13) - 1))) := hD
    refine lv_iconst (v := 0) hx hb d_M_work_41 (by decide) ?_
    refine lv_istore_n (lv' := [(2, .int 0), (1, .int (((th M) 11) (ix 0))), (0, .ref (h 0))]) hx hb d_M_work_42 rfl hl (by decide) rfl (fun ls hl => ?_)
    have loop : ∀ (n k : Nat) (x2 : Int32) (ls : Array Slot) (H : Heap) (locs : List Loc), k ≤ N → N < k + n → x2 = nI k → va_P D classes (wM cA h (sM_sh (pt (pt (th M) 0 17 (((th M) 12) (ix 0))) 0 13 (((th M) 0 13) - 1)) k)) H → va_D A (wM cA h (sM_sh (pt (pt (th M) 0 17 (((th M) 12) (ix 0))) 0 13 (((th M) 0 13) - 1)) k)) → va_S A s.heap H locs → lv_has ls 3 [(0, .ref (h 0)), (1, .int ((th M) 11 (ix 0))), (2, .int x2)] → W p l e (rmZ 0 0) s m ([.ref (h 0)] : List Value).toArray below meth c H locs 0 0 Q (F0 m 43 ls []) := by
      intro n
      induction n with
      | zero => intro k x2 ls H locs h1 h2; exact absurd h2 (by omega)
      | succ n ih =>
        intro k x2 ls H locs h1 h2 e2 hP hD hS hl
        have hw0 : (sM_sh (pt (pt (th M) 0 17 (((th M) 12) (ix 0))) 0 13 (((th M) 0 13) - 1)) k) 0 13 = nI N := by rw [sM_sh_0]; exact eN
        refine lv_iload_n hx hb d_M_work_43 rfl (lv_at hl 2 rfl) ?_
        refine lv_aload_n hx hb d_M_work_44 rfl (lv_at hl 0 rfl) ?_
        refine va_get (D := D) (ci := 5) (v := .int ((sM_sh (pt (pt (th M) 0 17 (((th M) 12) (ix 0))) 0 13 (((th M) 0 13) - 1)) k) 0 13)) (C := R_M) (T := F_M) (N := 24) hx hb hts i_M hown hK hP 0 rfl rfl 13 (by decide) (hts _ tw_307) (fun _ h9 => h9) rfl d_M_work_45 ?_
        refine lv_icmp_ge (tgt := 85) hx hb d_M_work_48 (by decide) (fun c_48 => ?_) (fun c_48 => ?_)
        · have hk : k = N := lp_ge hw0 (by omega) e2 h1 c_48
          refine lv_iload_n hx hb d_M_work_85 rfl (lv_at hl 1 rfl) ?_
          exact hend _ _ _ _ _ _ (by rw [sM_work, if_neg c_9, hk, show ix ((th M) 0 13 - 1) = N from eN2]) hP hS d_M_work_86
        · have hk : k < N := lp_lt hw0 (by omega) e2 h1 c_48
          have hi : vp_in x2 64 := lp_in (by decide) e2 (by omega)
          have hj : vp_in (x2 + 1) 64 := lp_in1 (by decide) e2 (by omega)
          have ek : x2.toNatClampNeg = k := lp_ix e2 (by omega)
          have ek1 : (x2 + 1).toNatClampNeg = k + 1 := lp_ix1 e2 (by omega)
          refine lv_aload_n hx hb d_M_work_51 rfl (lv_at hl 0 rfl) ?_
          refine va_get (D := D) (ci := 5) (v := .ref (h 11)) (C := R_M) (T := F_M) (N := 24) hx hb hts i_M hown hK hP 0 rfl rfl 14 (by decide) (hts _ tw_308) (fun _ h9 => h9) rfl d_M_work_52 ?_
          refine lv_iload_n hx hb d_M_work_55 rfl (lv_at hl 2 rfl) ?_
          refine lv_aload_n hx hb d_M_work_56 rfl (lv_at hl 0 rfl) ?_
          refine va_get (D := D) (ci := 5) (v := .ref (h 11)) (C := R_M) (T := F_M) (N := 24) hx hb hts i_M hown hK hP 0 rfl rfl 14 (by decide) (hts _ tw_308) (fun _ h9 => h9) rfl d_M_work_57 ?_
          refine lv_iload_n hx hb d_M_work_60 rfl (lv_at hl 2 rfl) ?_
          refine lv_iconst (v := 1) hx hb d_M_work_61 (by decide) ?_
          refine lv_iadd hx hb d_M_work_62 ?_
          refine va_iald (f := ((sM_sh (pt (pt (th M) 0 17 (((th M) 12) (ix 0))) 0 13 (((th M) 0 13) - 1)) k) 11)) hx hb hK hP 11 0 rfl rfl (by first | assumption) d_M_work_63 ?_
          refine va_iast (f := ((sM_sh (pt (pt (th M) 0 17 (((th M) 12) (ix 0))) 0 13 (((th M) 0 13) - 1)) k) 11)) hx hb hK hP hD hS 11 0 rfl rfl (by first | assumption) d_M_work_64 (fun H locs hP hD hS => ?_)
          have hP : va_P D classes ((wM cA h) (pt (sM_sh (pt (pt (th M) 0 17 (((th M) 12) (ix 0))) 0 13 (((th M) 0 13) - 1)) k) 11 (ix x2) (((sM_sh (pt (pt (th M) 0 17 (((th M) 12) (ix 0))) 0 13 (((th M) 0 13) - 1)) k) 11) (ix (x2 + 1))))) H := hP
          have hD : va_D A ((wM cA h) (pt (sM_sh (pt (pt (th M) 0 17 (((th M) 12) (ix 0))) 0 13 (((th M) 0 13) - 1)) k) 11 (ix x2) (((sM_sh (pt (pt (th M) 0 17 (((th M) 12) (ix 0))) 0 13 (((th M) 0 13) - 1)) k) 11) (ix (x2 + 1))))) := hD
          refine lv_aload_n hx hb d_M_work_65 rfl (lv_at hl 0 rfl) ?_
          refine va_get (D := D) (ci := 5) (v := .ref (h 12)) (C := R_M) (T := F_M) (N := 24) hx hb hts i_M hown hK hP 0 rfl rfl 15 (by decide) (hts _ tw_309) (fun _ h9 => h9) rfl d_M_work_66 ?_
          refine lv_iload_n hx hb d_M_work_69 rfl (lv_at hl 2 rfl) ?_
          refine lv_aload_n hx hb d_M_work_70 rfl (lv_at hl 0 rfl) ?_
          refine va_get (D := D) (ci := 5) (v := .ref (h 12)) (C := R_M) (T := F_M) (N := 24) hx hb hts i_M hown hK hP 0 rfl rfl 15 (by decide) (hts _ tw_309) (fun _ h9 => h9) rfl d_M_work_71 ?_
          refine lv_iload_n hx hb d_M_work_74 rfl (lv_at hl 2 rfl) ?_
          refine lv_iconst (v := 1) hx hb d_M_work_75 (by decide) ?_
          refine lv_iadd hx hb d_M_work_76 ?_
          refine va_iald (f := ((sM_sh (pt (pt (th M) 0 17 (((th M) 12) (ix 0))) 0 13 (((th M) 0 13) - 1)) k) 12)) hx hb hK hP 12 0 rfl rfl (by first | assumption) d_M_work_77 ?_
          refine va_iast (f := ((sM_sh (pt (pt (th M) 0 17 (((th M) 12) (ix 0))) 0 13 (((th M) 0 13) - 1)) k) 12)) hx hb hK hP hD hS 12 0 rfl rfl (by first | assumption) d_M_work_78 (fun H locs hP hD hS => ?_)
          have hP : va_P D classes ((wM cA h) (pt (pt (sM_sh (pt (pt (th M) 0 17 (((th M) 12) (ix 0))) 0 13 (((th M) 0 13) - 1)) k) 11 (ix x2) (((sM_sh (pt (pt (th M) 0 17 (((th M) 12) (ix 0))) 0 13 (((th M) 0 13) - 1)) k) 11) (ix (x2 + 1)))) 12 (ix x2) (((sM_sh (pt (pt (th M) 0 17 (((th M) 12) (ix 0))) 0 13 (((th M) 0 13) - 1)) k) 12) (ix (x2 + 1))))) H := hP
          have hD : va_D A ((wM cA h) (pt (pt (sM_sh (pt (pt (th M) 0 17 (((th M) 12) (ix 0))) 0 13 (((th M) 0 13) - 1)) k) 11 (ix x2) (((sM_sh (pt (pt (th M) 0 17 (((th M) 12) (ix 0))) 0 13 (((th M) 0 13) - 1)) k) 11) (ix (x2 + 1)))) 12 (ix x2) (((sM_sh (pt (pt (th M) 0 17 (((th M) 12) (ix 0))) 0 13 (((th M) 0 13) - 1)) k) 12) (ix (x2 + 1))))) := hD
          refine lv_iinc (v := (x2 + 1)) (lv' := [(2, .int (x2 + 1)), (0, .ref (h 0)), (1, .int ((th M) 11 (ix 0)))]) hx hb d_M_work_79 hl (k := 2) rfl rfl (by decide) rfl (fun ls hl => ?_)
          refine lv_goto (tgt := 43) hx hb d_M_work_82 (by decide) ?_
          have eS : (pt (pt (sM_sh (pt (pt (th M) 0 17 (((th M) 12) (ix 0))) 0 13 (((th M) 0 13) - 1)) k) 11 (ix x2) (((sM_sh (pt (pt (th M) 0 17 (((th M) 12) (ix 0))) 0 13 (((th M) 0 13) - 1)) k) 11) (ix (x2 + 1)))) 12 (ix x2) (((sM_sh (pt (pt (th M) 0 17 (((th M) 12) (ix 0))) 0 13 (((th M) 0 13) - 1)) k) 12) (ix (x2 + 1)))) = sM_sh (pt (pt (th M) 0 17 (((th M) 12) (ix 0))) 0 13 (((th M) 0 13) - 1)) (k + 1) := by simp only [ix, ek, ek1]; rfl
          exact ih (k + 1) _ _ _ _ (by omega) (by omega) (by rw [e2]; exact nI_1 k) (eS ▸ hP) (eS ▸ hD) hS (lv_sub hl [1, 2, 0] rfl)
    exact loop (N + 1) 0 _ _ _ _ (Nat.zero_le _) (by omega) nI_0.symm hP hD hS (lv_sub hl [2, 1, 0] rfl)
  · refine lv_iconst (v := (-1)) hx hb d_M_work_12 (by decide) ?_
    exact hend _ _ _ _ _ _ (by rw [sM_work, if_pos c_9] <;> rfl) hP hS d_M_work_13
set_option maxHeartbeats 4000000 in
set_option maxRecDepth 100000 in
theorem c_M_act (l : Launch) (D : va_G) (cA : Nat → ClassId) (h : Nat → Nat) (M : Sg) (e0 : Int32) (hs : ∃ n, n ≤ 256 ∧ M 0 22 = nI n) : Ct l y_M_act b_M_act 4 (some .int) 2 42 D cA [.ref (h 0), .int e0] (wM cA h) M (sM_act (th M) e0) := by
  refine Ct.of rfl rfl (by decide +kernel) (Nat.le_of_ble_eq_true rfl) ?_
  intro p e s m below meth c A Q ls hx hb hml hown hts hKK hP hD hA hS hend hl
  have hown : s.vm.findClass R_M = some m.cls := hown
  have hl : lv_has ls 4 [(0, .ref (h 0)), (1, .int e0)] := hl
  have hK := hKK.1
  refine lv_aload_n hx hb d_M_act_0 rfl (lv_at hl 0 rfl) ?_
  refine lv_iconst (v := 0) hx hb d_M_act_1 (by decide) ?_
  refine va_put (D := D) (ci := 5) (v := .int 0) (ty := .int) (C := R_M) (T := F_M) (N := 24) hx hb hts i_M t_M t_M_ok n_M hown hK hP hD hS 0 rfl rfl 0 (by decide) (hts _ tw_294) (fun _ h9 => h9) rfl (t_M_ok 0 (by decide)) rfl rfl (Nat.le_of_ble_eq_true rfl) d_M_act_2 (fun H locs hP hD hS => ?_)
  have hP : va_P D classes ((wM cA h) (th M)) H := hP
  have hD : va_D A ((wM cA h) (th M)) := hD
  refine lv_aload_n hx hb d_M_act_5 rfl (lv_at hl 0 rfl) ?_
  refine va_get (D := D) (ci := 5) (v := .int ((th M) 0 22)) (C := R_M) (T := F_M) (N := 24) hx hb hts i_M hown hK hP 0 rfl rfl 22 (by decide) (hts _ tw_316) (fun _ h9 => h9) rfl d_M_act_6 ?_
  refine lv_istore_n (lv' := [(2, .int ((th M) 0 22)), (0, .ref (h 0)), (1, .int e0)]) hx hb d_M_act_9 rfl hl (by decide) rfl (fun ls hl => ?_)
  refine lv_aload_n hx hb d_M_act_10 rfl (lv_at hl 1 rfl) ?_
  refine lv_iconst (v := 0) hx hb d_M_act_11 (by decide) ?_
  refine va_put (D := D) (ci := 5) (v := .int 0) (ty := .int) (C := R_M) (T := F_M) (N := 24) hx hb hts i_M t_M t_M_ok n_M hown hK hP hD hS 0 rfl rfl 22 (by decide) (hts _ tw_316) (fun _ h9 => h9) rfl (t_M_ok 22 (by decide)) rfl rfl (Nat.le_of_ble_eq_true rfl) d_M_act_12 (fun H locs hP hD hS => ?_)
  have hP : va_P D classes ((wM cA h) (pt (th M) 0 22 0)) H := hP
  have hD : va_D A ((wM cA h) (pt (th M) 0 22 0)) := hD
  refine lv_iload_n hx hb d_M_act_15 rfl (lv_at hl 2 rfl) ?_
  refine cS (rr := (sM_isEvent e0)) (X' := (pt (th M) 0 22 0)) (c_M_isEvent l D cA (wM cA h) (pt (th M) 0 22 0) e0) lk_M_96 hx hb hml hown hts hKK hP hD hS hA hl.1 ⟨by decide, by decide⟩ ⟨Nat.le_refl _, Nat.le_refl _⟩ rfl rfl rfl (Nat.le_of_ble_eq_true rfl) d_M_act_16 (fun H locs hP hD hS => ?_)
  refine lv_if_eq (tgt := 35) hx hb d_M_act_19 (by decide) (fun c_19 => ?_) (fun c_19 => ?_)
  · refine lv_iload_n hx hb d_M_act_35 rfl (lv_at hl 2 rfl) ?_
    refine cS (rr := (sM_isEvent e0)) (X' := (pt (th M) 0 22 0)) (c_M_isEvent l D cA (wM cA h) (pt (th M) 0 22 0) e0) lk_M_96 hx hb hml hown hts hKK hP hD hS hA hl.1 ⟨by decide, by decide⟩ ⟨Nat.le_refl _, Nat.le_refl _⟩ rfl rfl rfl (Nat.le_of_ble_eq_true rfl) d_M_act_36 (fun H locs hP hD hS => ?_)
    refine lv_if_ne (tgt := 47) hx hb d_M_act_39 (by decide) (fun c_39 => ?_) (fun c_39 => ?_)
    · exact absurd c_19 c_39
    · refine lv_bipush (v := 16) hx hb d_M_act_42 (by decide) ?_
      refine lv_goto (tgt := 58) hx hb d_M_act_44 (by decide) ?_
      exact hend _ _ _ _ _ _ (by rw [sM_act, if_pos c_19] <;> rfl) hP hS d_M_act_58
  · have hi := sM_isEvent_in c_19
    refine lv_iload_n hx hb d_M_act_22 rfl (lv_at hl 0 rfl) ?_
    refine lv_if_eq (tgt := 35) hx hb d_M_act_23 (by decide) (fun c_23 => ?_) (fun c_23 => ?_)
    · refine lv_iload_n hx hb d_M_act_35 rfl (lv_at hl 2 rfl) ?_
      refine cS (rr := (sM_isEvent e0)) (X' := (pt (th M) 0 22 0)) (c_M_isEvent l D cA (wM cA h) (pt (th M) 0 22 0) e0) lk_M_96 hx hb hml hown hts hKK hP hD hS hA hl.1 ⟨by decide, by decide⟩ ⟨Nat.le_refl _, Nat.le_refl _⟩ rfl rfl rfl (Nat.le_of_ble_eq_true rfl) d_M_act_36 (fun H locs hP hD hS => ?_)
      refine lv_if_ne (tgt := 47) hx hb d_M_act_39 (by decide) (fun c_39 => ?_) (fun c_39 => ?_)
      · refine lv_iload_n hx hb d_M_act_47 rfl (lv_at hl 0 rfl) ?_
        refine lv_if_ne (tgt := 56) hx hb d_M_act_48 (by decide) (fun c_48 => ?_) (fun c_48 => ?_)
        · exact absurd c_23 c_48
        · refine lv_bipush (v := 22) hx hb d_M_act_51 (by decide) ?_
          refine lv_goto (tgt := 58) hx hb d_M_act_53 (by decide) ?_
          exact hend _ _ _ _ _ _ (by rw [sM_act, if_neg c_19, if_pos c_23] <;> rfl) hP hS d_M_act_58
      · exact absurd c_39 c_19
    · refine lv_aload_n hx hb d_M_act_26 rfl (lv_at hl 1 rfl) ?_
      refine va_get (D := D) (ci := 5) (v := .ref (h 14)) (C := R_M) (T := F_M) (N := 24) hx hb hts i_M hown hK hP 0 rfl rfl 19 (by decide) (hts _ tw_313) (fun _ h9 => h9) rfl d_M_act_27 ?_
      refine lv_iload_n hx hb d_M_act_30 rfl (lv_at hl 2 rfl) ?_
      refine va_iald (f := ((th M) 14)) hx hb hK hP 14 0 rfl rfl (by first | assumption | exact vi32_lt (by assumption) (by assumption) | exact vi32_nle (by assumption) (by assumption) | exact vi32_le (by assumption) (by assumption)) d_M_act_31 ?_
      refine lv_if_le (tgt := 59) hx hb d_M_act_32 (by decide) (fun c_32 => ?_) (fun c_32 => ?_)
      · refine lv_aload_n hx hb d_M_act_59 rfl (lv_at hl 1 rfl) ?_
        refine va_get (D := D) (ci := 5) (v := .ref (h 14)) (C := R_M) (T := F_M) (N := 24) hx hb hts i_M hown hK hP 0 rfl rfl 19 (by decide) (hts _ tw_313) (fun _ h9 => h9) rfl d_M_act_60 ?_
        refine lv_iload_n hx hb d_M_act_63 rfl (lv_at hl 2 rfl) ?_
        refine lv_iload_n hx hb d_M_act_64 rfl (lv_at hl 0 rfl) ?_
        refine va_iast (f := ((th M) 14)) hx hb hK hP hD hS 14 0 rfl rfl (by first | assumption | exact vi32_lt (by assumption) (by assumption) | exact vi32_nle (by assumption) (by assumption) | exact vi32_le (by assumption) (by assumption)) d_M_act_65 (fun H locs hP hD hS => ?_)
        have hP : va_P D classes ((wM cA h) (pt (pt (th M) 0 22 0) 14 (ix e0) ((th M) 0 22))) H := hP
        have hD : va_D A ((wM cA h) (pt (pt (th M) 0 22 0) 14 (ix e0) ((th M) 0 22))) := hD
        refine lv_aload_n hx hb d_M_act_66 rfl (lv_at hl 1 rfl) ?_
        refine va_get (D := D) (ci := 5) (v := .ref (h 15)) (C := R_M) (T := F_M) (N := 24) hx hb hts i_M hown hK hP 0 rfl rfl 20 (by decide) (hts _ tw_314) (fun _ h9 => h9) rfl d_M_act_67 ?_
        refine lv_iload_n hx hb d_M_act_70 rfl (lv_at hl 2 rfl) ?_
        refine lv_iconst (v := 0) hx hb d_M_act_71 (by decide) ?_
        refine va_zast (f := ((th M) 15)) hx hb hK hP hD hS 15 1 rfl rfl (by first | assumption | exact vi32_lt (by assumption) (by assumption) | exact vi32_nle (by assumption) (by assumption) | exact vi32_le (by assumption) (by assumption)) d_M_act_72 (fun H locs hP hD hS => ?_)
        have hP : va_P D classes ((wM cA h) (pt (pt (pt (th M) 0 22 0) 14 (ix e0) ((th M) 0 22)) 15 (ix e0) (nz 0))) H := hP
        have hD : va_D A ((wM cA h) (pt (pt (pt (th M) 0 22 0) 14 (ix e0) ((th M) 0 22)) 15 (ix e0) (nz 0))) := hD
        refine lv_iconst (v := 0) hx hb d_M_act_73 (by decide) ?_
        refine lv_istore_n (lv' := [(3, .int 0), (2, .int ((th M) 0 22)), (0, .ref (h 0)), (1, .int e0)]) hx hb d_M_act_74 rfl hl (by decide) rfl (fun ls hl => ?_)
        obtain ⟨N, hN, eN⟩ := hs
        have eN : (th M) 0 22 = nI N := eN
        have eN2 : ((th M) 0 22).toNatClampNeg = N := by rw [eN]; exact nI_clamp (by omega)
        have loop : ∀ (n k : Nat) (x3 : Int32) (ls : Array Slot) (H : Heap) (locs : List Loc), k ≤ N → N < k + n → x3 = nI k → va_P D classes (wM cA h (sM_cp (pt (pt (pt (th M) 0 22 0) 14 (ix e0) ((th M) 0 22)) 15 (ix e0) (nz 0)) e0 k)) H → va_D A (wM cA h (sM_cp (pt (pt (pt (th M) 0 22 0) 14 (ix e0) ((th M) 0 22)) 15 (ix e0) (nz 0)) e0 k)) → va_S A s.heap H locs → lv_has ls 4 [(0, .ref (h 0)), (1, .int e0), (2, .int ((th M) 0 22)), (3, .int x3)] → W p l e (rmZ 2 42) s m ([.ref (h 0), .int e0] : List Value).toArray below meth c H locs 0 0 Q (F0 m 75 ls []) := by
          intro n
          induction n with
          | zero => intro k x3 ls H locs h1 h2; exact absurd h2 (by omega)
          | succ n ih =>
            intro k x3 ls H locs h1 h2 e3 hP hD hS hl
            refine lv_iload_n hx hb d_M_act_75 rfl (lv_at hl 3 rfl) ?_
            refine lv_iload_n hx hb d_M_act_76 rfl (lv_at hl 2 rfl) ?_
            refine lv_icmp_ge (tgt := 104) hx hb d_M_act_77 (by decide) (fun c_77 => ?_) (fun c_77 => ?_)
            · have hk : k = N := lp_ge eN (by omega) e3 h1 c_77
              refine lv_iconst (v := 0) hx hb d_M_act_104 (by decide) ?_
              exact hend _ _ _ _ _ _ (by rw [sM_act, if_neg c_19, if_neg c_23, if_pos c_32, hk, show ix ((th M) 0 22) = N from eN2]) hP hS d_M_act_105
            · have hk : k < N := lp_lt eN (by omega) e3 h1 c_77
              have hj : vp_in x3 256 := lp_in (by decide) e3 (by omega)
              have hq : vp_in (256 * e0 + x3) 8192 := ac_in hi e3 (by omega)
              have ek : x3.toNatClampNeg = k := lp_ix e3 (by omega)
              refine lv_aload_n hx hb d_M_act_80 rfl (lv_at hl 0 rfl) ?_
              refine va_get (D := D) (ci := 5) (v := .ref (h 16)) (C := R_M) (T := F_M) (N := 24) hx hb hts i_M hown hK hP 0 rfl rfl 21 (by decide) (hts _ tw_315) (fun _ h9 => h9) rfl d_M_act_81 ?_
              refine lv_sipush (v := 256) hx hb d_M_act_84 (by decide) ?_
              refine lv_iload_n hx hb d_M_act_87 rfl (lv_at hl 1 rfl) ?_
              refine lv_imul hx hb d_M_act_88 ?_
              refine lv_iload_n hx hb d_M_act_89 rfl (lv_at hl 3 rfl) ?_
              refine lv_iadd hx hb d_M_act_90 ?_
              refine lv_aload_n hx hb d_M_act_91 rfl (lv_at hl 0 rfl) ?_
              refine va_get (D := D) (ci := 5) (v := .ref (h 17)) (C := R_M) (T := F_M) (N := 24) hx hb hts i_M hown hK hP 0 rfl rfl 23 (by decide) (hts _ tw_317) (fun _ h9 => h9) rfl d_M_act_92 ?_
              refine lv_iload_n hx hb d_M_act_95 rfl (lv_at hl 3 rfl) ?_
              refine va_bald (f := ((sM_cp (pt (pt (pt (th M) 0 22 0) 14 (ix e0) ((th M) 0 22)) 15 (ix e0) (nz 0)) e0 k) 17)) hx hb hK hP 17 2 rfl rfl (by first | assumption | exact vi256_lt (by assumption) (by assumption) | exact vi256_nle (by assumption) (by assumption) | exact vi256_le (by assumption) (by assumption)) d_M_act_96 ?_
              refine va_bast (f := ((sM_cp (pt (pt (pt (th M) 0 22 0) 14 (ix e0) ((th M) 0 22)) 15 (ix e0) (nz 0)) e0 k) 16)) hx hb hK hP hD hS 16 2 rfl rfl (by first | assumption) d_M_act_97 (fun H locs hP hD hS => ?_)
              have hP : va_P D classes ((wM cA h) (pt (sM_cp (pt (pt (pt (th M) 0 22 0) 14 (ix e0) ((th M) 0 22)) 15 (ix e0) (nz 0)) e0 k) 16 (ix ((256 * e0) + x3)) (nb (((sM_cp (pt (pt (pt (th M) 0 22 0) 14 (ix e0) ((th M) 0 22)) 15 (ix e0) (nz 0)) e0 k) 17) (ix x3))))) H := hP
              have hD : va_D A ((wM cA h) (pt (sM_cp (pt (pt (pt (th M) 0 22 0) 14 (ix e0) ((th M) 0 22)) 15 (ix e0) (nz 0)) e0 k) 16 (ix ((256 * e0) + x3)) (nb (((sM_cp (pt (pt (pt (th M) 0 22 0) 14 (ix e0) ((th M) 0 22)) 15 (ix e0) (nz 0)) e0 k) 17) (ix x3))))) := hD
              refine lv_iinc (v := (x3 + 1)) (lv' := [(3, .int (x3 + 1)), (0, .ref (h 0)), (1, .int e0), (2, .int ((th M) 0 22))]) hx hb d_M_act_98 hl (k := 3) rfl rfl (by decide) rfl (fun ls hl => ?_)
              refine lv_goto (tgt := 75) hx hb d_M_act_101 (by decide) ?_
              have eS : (pt (sM_cp (pt (pt (pt (th M) 0 22 0) 14 (ix e0) ((th M) 0 22)) 15 (ix e0) (nz 0)) e0 k) 16 (ix ((256 * e0) + x3)) (nb (((sM_cp (pt (pt (pt (th M) 0 22 0) 14 (ix e0) ((th M) 0 22)) 15 (ix e0) (nz 0)) e0 k) 17) (ix x3)))) = sM_cp (pt (pt (pt (th M) 0 22 0) 14 (ix e0) ((th M) 0 22)) 15 (ix e0) (nz 0)) e0 (k + 1) := by simp only [ix, ek]; rw [e3]; rfl
              exact ih (k + 1) _ _ _ _ (by omega) (by omega) (by rw [e3]; exact nI_1 k) (eS ▸ hP) (eS ▸ hD) hS (lv_sub hl [1, 2, 3, 0] rfl)
        exact loop (N + 1) 0 _ _ _ _ (Nat.zero_le _) (by omega) nI_0.symm hP hD hS (lv_sub hl [2, 3, 1, 0] rfl)
      · refine lv_iload_n hx hb d_M_act_35 rfl (lv_at hl 2 rfl) ?_
        refine cS (rr := (sM_isEvent e0)) (X' := (pt (th M) 0 22 0)) (c_M_isEvent l D cA (wM cA h) (pt (th M) 0 22 0) e0) lk_M_96 hx hb hml hown hts hKK hP hD hS hA hl.1 ⟨by decide, by decide⟩ ⟨Nat.le_refl _, Nat.le_refl _⟩ rfl rfl rfl (Nat.le_of_ble_eq_true rfl) d_M_act_36 (fun H locs hP hD hS => ?_)
        refine lv_if_ne (tgt := 47) hx hb d_M_act_39 (by decide) (fun c_39 => ?_) (fun c_39 => ?_)
        · refine lv_iload_n hx hb d_M_act_47 rfl (lv_at hl 0 rfl) ?_
          refine lv_if_ne (tgt := 56) hx hb d_M_act_48 (by decide) (fun c_48 => ?_) (fun c_48 => ?_)
          · refine lv_bipush (v := 29) hx hb d_M_act_56 (by decide) ?_
            exact hend _ _ _ _ _ _ (by rw [sM_act, if_neg c_19, if_neg c_23, if_neg c_32] <;> rfl) hP hS d_M_act_58
          · exact absurd c_48 c_23
        · exact absurd c_39 c_19
set_option maxHeartbeats 4000000 in
set_option maxRecDepth 100000 in
theorem c_M_watch (l : Launch) (D : va_G) (cA : Nat → ClassId) (h : Nat → Nat) (M : Sg) (hp : ∀ k, k < 256 → vp_in ((sM_it (pt (th M) 0 12 0) k).2 5 k) 32) (hw : ∀ k, k < 256 → ¬ (sM_it (pt (th M) 0 12 0) k).2 0 13 = 64 → vp_in ((sM_it (pt (th M) 0 12 0) k).2 0 13) 64) : Ct l y_M_watch b_M_watch 5 (some .int) 1 22 D cA [.ref (h 0)] (wM cA h) M (sM_watch (th M)) := by
  refine Ct.of rfl rfl (by decide +kernel) (Nat.le_of_ble_eq_true rfl) ?_
  intro p e s m below meth c A Q ls hx hb hml hown hts hKK hP hD hA hS hend hl
  have hown : s.vm.findClass R_M = some m.cls := hown
  have hl : lv_has ls 5 [(0, .ref (h 0))] := hl
  have hK := hKK.1
  refine lv_aload_n hx hb d_M_watch_0 rfl (lv_at hl 0 rfl) ?_
  refine lv_iconst (v := 0) hx hb d_M_watch_1 (by decide) ?_
  refine va_put (D := D) (ci := 5) (v := .int 0) (ty := .int) (C := R_M) (T := F_M) (N := 24) hx hb hts i_M t_M t_M_ok n_M hown hK hP hD hS 0 rfl rfl 0 (by decide) (hts _ tw_294) (fun _ h9 => h9) rfl (t_M_ok 0 (by decide)) rfl rfl (Nat.le_of_ble_eq_true rfl) d_M_watch_2 (fun H locs hP hD hS => ?_)
  have hP : va_P D classes ((wM cA h) (th M)) H := hP
  have hD : va_D A ((wM cA h) (th M)) := hD
  refine lv_iconst (v := 0) hx hb d_M_watch_5 (by decide) ?_
  refine lv_istore_n (lv' := [(1, .int 0), (0, .ref (h 0))]) hx hb d_M_watch_6 rfl hl (by decide) rfl (fun ls hl => ?_)
  refine lv_aload_n hx hb d_M_watch_7 rfl (lv_at hl 1 rfl) ?_
  refine lv_iconst (v := 0) hx hb d_M_watch_8 (by decide) ?_
  refine va_put (D := D) (ci := 5) (v := .int 0) (ty := .boolean) (C := R_M) (T := F_M) (N := 24) hx hb hts i_M t_M t_M_ok n_M hown hK hP hD hS 0 rfl rfl 12 (by decide) (hts _ tw_306) (fun _ h9 => h9) rfl (t_M_ok 12 (by decide)) isZ_0.nar isZ_0.fit (Nat.le_of_ble_eq_true rfl) d_M_watch_9 (fun H locs hP hD hS => ?_)
  have hP : va_P D classes ((wM cA h) (pt (th M) 0 12 0)) H := hP
  have hD : va_D A ((wM cA h) (pt (th M) 0 12 0)) := hD
  refine lv_iconst (v := 0) hx hb d_M_watch_12 (by decide) ?_
  refine lv_istore_n (lv' := [(2, .int 0), (1, .int 0), (0, .ref (h 0))]) hx hb d_M_watch_13 rfl hl (by decide) rfl (fun ls hl => ?_)
  have loop : ∀ (n k : Nat) (x1 x2 : Int32) (Y : Sg) (ls : Array Slot) (H : Heap) (locs : List Loc), k ≤ 256 → 256 < k + n → x2 = nI k → sM_it (pt (th M) 0 12 0) k = (x1, Y) → va_P D classes (wM cA h Y) H → va_D A (wM cA h Y) → va_S A s.heap H locs → lv_has ls 5 [(0, .ref (h 0)), (1, .int x1), (2, .int x2)] → W p l e (rmZ 1 22) s m ([.ref (h 0)] : List Value).toArray below meth c H locs 0 0 Q (F0 m 14 ls []) := by
    intro n
    induction n with
    | zero => intro k x1 x2 Y ls H locs h1 h2; exact absurd h2 (by omega)
    | succ n ih =>
      intro k x1 x2 Y ls H locs h1 h2 e2 eY hP hD hS hl
      refine lv_iload_n hx hb d_M_watch_14 rfl (lv_at hl 2 rfl) ?_
      refine lv_sipush (v := 256) hx hb d_M_watch_15 (by decide) ?_
      refine lv_icmp_ge (tgt := 150) hx hb d_M_watch_18 (by decide) (fun c_18 => ?_) (fun c_18 => ?_)
      · have hk : k = 256 := lp_ge rfl (by decide) e2 h1 c_18
        refine lv_aload_n hx hb d_M_watch_150 rfl (lv_at hl 0 rfl) ?_
        refine lv_dup hx hb d_M_watch_151 rfl ?_
        refine va_get (D := D) (ci := 5) (v := .int (Y 0 11)) (C := R_M) (T := F_M) (N := 24) hx hb hts i_M hown hK hP 0 rfl rfl 11 (by decide) (hts _ tw_305) (fun _ h9 => h9) rfl d_M_watch_152 ?_
        refine lv_iload_n hx hb d_M_watch_155 rfl (lv_at hl 1 rfl) ?_
        refine lv_iadd hx hb d_M_watch_156 ?_
        refine va_put (D := D) (ci := 5) (v := .int ((Y 0 11) + x1)) (ty := .int) (C := R_M) (T := F_M) (N := 24) hx hb hts i_M t_M t_M_ok n_M hown hK hP hD hS 0 rfl rfl 11 (by decide) (hts _ tw_305) (fun _ h9 => h9) rfl (t_M_ok 11 (by decide)) rfl rfl (Nat.le_of_ble_eq_true rfl) d_M_watch_157 (fun H locs hP hD hS => ?_)
        have hP : va_P D classes ((wM cA h) (pt Y 0 11 ((Y 0 11) + x1))) H := hP
        have hD : va_D A ((wM cA h) (pt Y 0 11 ((Y 0 11) + x1))) := hD
        refine lv_iload_n hx hb d_M_watch_160 rfl (lv_at hl 1 rfl) ?_
        exact hend _ _ _ _ _ _ (by rw [sM_watch, sM_w, ← hk, eY]) hP hS d_M_watch_161
      · have hk : k < 256 := lp_lt rfl (by decide) e2 h1 c_18
        have hi : vp_in x2 256 := lp_in (by decide) e2 hk
        have ek : x2.toNatClampNeg = k := lp_ix e2 (by omega)
        have hpk : vp_in (Y 5 (ix x2)) 32 := by have := hp k hk; rw [eY] at this; rw [ix, ek]; exact this
        have hwk : ¬ Y 0 13 = 64 → vp_in (Y 0 13) 64 := by have := hw k hk; rw [eY] at this; exact this
        refine lv_aload_n hx hb d_M_watch_21 rfl (lv_at hl 0 rfl) ?_
        refine va_get (D := D) (ci := 5) (v := .ref (h 1)) (C := R_M) (T := F_M) (N := 24) hx hb hts i_M hown hK hP 0 rfl rfl 1 (by decide) (hts _ tw_295) (fun _ h9 => h9) rfl d_M_watch_22 ?_
        refine lv_aload_n hx hb d_M_watch_25 rfl (lv_at hl 0 rfl) ?_
        refine va_get (D := D) (ci := 5) (v := .ref (h 5)) (C := R_M) (T := F_M) (N := 24) hx hb hts i_M hown hK hP 0 rfl rfl 5 (by decide) (hts _ tw_299) (fun _ h9 => h9) rfl d_M_watch_26 ?_
        refine lv_iload_n hx hb d_M_watch_29 rfl (lv_at hl 2 rfl) ?_
        refine va_iald (f := (Y 5)) hx hb hK hP 5 0 rfl rfl (by first | assumption | exact vi256_lt (by assumption) (by assumption) | exact vi256_nle (by assumption) (by assumption) | exact vi256_le (by assumption) (by assumption)) d_M_watch_30 ?_
        refine va_iald (f := (Y 1)) hx hb hK hP 1 0 rfl rfl (by first | assumption | exact vi32_lt (by assumption) (by assumption) | exact vi32_nle (by assumption) (by assumption) | exact vi32_le (by assumption) (by assumption)) d_M_watch_31 ?_
        refine lv_istore_n (lv' := [(3, .int ((Y 1) (ix ((Y 5) (ix x2))))), (0, .ref (h 0)), (1, .int x1), (2, .int x2)]) hx hb d_M_watch_32 rfl hl (by decide) rfl (fun ls hl => ?_)
        refine lv_aload_n hx hb d_M_watch_33 rfl (lv_at hl 1 rfl) ?_
        refine va_get (D := D) (ci := 5) (v := .ref (h 2)) (C := R_M) (T := F_M) (N := 24) hx hb hts i_M hown hK hP 0 rfl rfl 2 (by decide) (hts _ tw_296) (fun _ h9 => h9) rfl d_M_watch_34 ?_
        refine lv_iload_n hx hb d_M_watch_37 rfl (lv_at hl 3 rfl) ?_
        refine va_zald (f := (Y 2)) hx hb hK hP 2 1 rfl rfl (by first | assumption | exact vi256_lt (by assumption) (by assumption) | exact vi256_nle (by assumption) (by assumption) | exact vi256_le (by assumption) (by assumption)) d_M_watch_38 ?_
        refine lv_if_eq (tgt := 144) hx hb d_M_watch_39 (by decide) (fun c_39 => ?_) (fun c_39 => ?_)
        · refine lv_iinc (v := (x2 + 1)) (lv' := [(2, .int (x2 + 1)), (3, .int ((Y 1) (ix ((Y 5) (ix x2))))), (0, .ref (h 0)), (1, .int x1)]) hx hb d_M_watch_144 hl (k := 3) rfl rfl (by decide) rfl (fun ls hl => ?_)
          refine lv_goto (tgt := 14) hx hb d_M_watch_147 (by decide) ?_
          have eS : sM_it (pt (th M) 0 12 0) (k + 1) = (x1, Y) := by show sM_step (sM_it (pt (th M) 0 12 0) k).2 (sM_it (pt (th M) 0 12 0) k).1 k = _; rw [eY]; show sM_step Y x1 k = _; rw [← ek, sM_step, if_pos c_39]
          exact ih (k + 1) _ _ _ _ _ _ (by omega) (by omega) (by rw [e2]; exact nI_1 k) eS hP hD hS (lv_sub hl [2, 3, 0] rfl)
        · refine lv_aload_n hx hb d_M_watch_42 rfl (lv_at hl 1 rfl) ?_
          refine va_get (D := D) (ci := 5) (v := .ref (h 3)) (C := R_M) (T := F_M) (N := 24) hx hb hts i_M hown hK hP 0 rfl rfl 3 (by decide) (hts _ tw_297) (fun _ h9 => h9) rfl d_M_watch_43 ?_
          refine lv_iload_n hx hb d_M_watch_46 rfl (lv_at hl 3 rfl) ?_
          refine va_zald (f := (Y 3)) hx hb hK hP 3 1 rfl rfl (by first | assumption | exact vi256_lt (by assumption) (by assumption) | exact vi256_nle (by assumption) (by assumption) | exact vi256_le (by assumption) (by assumption)) d_M_watch_47 ?_
          refine lv_if_eq (tgt := 144) hx hb d_M_watch_48 (by decide) (fun c_48 => ?_) (fun c_48 => ?_)
          · refine lv_iinc (v := (x2 + 1)) (lv' := [(2, .int (x2 + 1)), (3, .int ((Y 1) (ix ((Y 5) (ix x2))))), (0, .ref (h 0)), (1, .int x1)]) hx hb d_M_watch_144 hl (k := 3) rfl rfl (by decide) rfl (fun ls hl => ?_)
            refine lv_goto (tgt := 14) hx hb d_M_watch_147 (by decide) ?_
            have eS : sM_it (pt (th M) 0 12 0) (k + 1) = (x1, Y) := by show sM_step (sM_it (pt (th M) 0 12 0) k).2 (sM_it (pt (th M) 0 12 0) k).1 k = _; rw [eY]; show sM_step Y x1 k = _; rw [← ek, sM_step, if_neg c_39, if_pos c_48]
            exact ih (k + 1) _ _ _ _ _ _ (by omega) (by omega) (by rw [e2]; exact nI_1 k) eS hP hD hS (lv_sub hl [2, 3, 0] rfl)
          · refine lv_aload_n hx hb d_M_watch_51 rfl (lv_at hl 1 rfl) ?_
            refine va_get (D := D) (ci := 5) (v := .ref (h 10)) (C := R_M) (T := F_M) (N := 24) hx hb hts i_M hown hK hP 0 rfl rfl 10 (by decide) (hts _ tw_304) (fun _ h9 => h9) rfl d_M_watch_52 ?_
            refine lv_iload_n hx hb d_M_watch_55 rfl (lv_at hl 3 rfl) ?_
            refine lv_iload_n hx hb d_M_watch_56 rfl (lv_at hl 0 rfl) ?_
            refine lv_aload_n hx hb d_M_watch_57 rfl (lv_at hl 1 rfl) ?_
            refine va_get (D := D) (ci := 5) (v := .ref (h 7)) (C := R_M) (T := F_M) (N := 24) hx hb hts i_M hown hK hP 0 rfl rfl 7 (by decide) (hts _ tw_301) (fun _ h9 => h9) rfl d_M_watch_58 ?_
            refine lv_iload_n hx hb d_M_watch_61 rfl (lv_at hl 3 rfl) ?_
            refine va_iald (f := (Y 7)) hx hb hK hP 7 0 rfl rfl (by first | assumption | exact vi256_lt (by assumption) (by assumption) | exact vi256_nle (by assumption) (by assumption) | exact vi256_le (by assumption) (by assumption)) d_M_watch_62 ?_
            refine lv_aload_n hx hb d_M_watch_63 rfl (lv_at hl 1 rfl) ?_
            refine va_get (D := D) (ci := 5) (v := .ref (h 8)) (C := R_M) (T := F_M) (N := 24) hx hb hts i_M hown hK hP 0 rfl rfl 8 (by decide) (hts _ tw_302) (fun _ h9 => h9) rfl d_M_watch_64 ?_
            refine lv_iload_n hx hb d_M_watch_67 rfl (lv_at hl 3 rfl) ?_
            refine va_iald (f := (Y 8)) hx hb hK hP 8 0 rfl rfl (by first | assumption | exact vi256_lt (by assumption) (by assumption) | exact vi256_nle (by assumption) (by assumption) | exact vi256_le (by assumption) (by assumption)) d_M_watch_68 ?_
            refine cS (rr := (sM_isIn ((Y 1) (ix ((Y 5) (ix x2)))) ((Y 7) (ix x2)) ((Y 8) (ix x2)))) (X' := Y) (c_M_isIn l D cA (wM cA h) Y ((Y 1) (ix ((Y 5) (ix x2)))) ((Y 7) (ix x2)) ((Y 8) (ix x2))) lk_M_67 hx hb hml hown hts hKK hP hD hS hA hl.1 ⟨by decide, by decide⟩ ⟨Nat.le_refl _, Nat.le_refl _⟩ rfl rfl rfl (Nat.le_of_ble_eq_true rfl) d_M_watch_69 (fun H locs hP hD hS => ?_)
            refine lv_if_eq (tgt := 79) hx hb d_M_watch_72 (by decide) (fun c_72 => ?_) (fun c_72 => ?_)
            · have hc : sM_c Y (Y 1 (ix (Y 5 (ix x2)))) (ix x2) = Y 10 (ix x2) + 1 := by rw [sM_c, if_pos c_72]
              refine lv_aload_n hx hb d_M_watch_79 rfl (lv_at hl 1 rfl) ?_
              refine va_get (D := D) (ci := 5) (v := .ref (h 10)) (C := R_M) (T := F_M) (N := 24) hx hb hts i_M hown hK hP 0 rfl rfl 10 (by decide) (hts _ tw_304) (fun _ h9 => h9) rfl d_M_watch_80 ?_
              refine lv_iload_n hx hb d_M_watch_83 rfl (lv_at hl 3 rfl) ?_
              refine va_iald (f := (Y 10)) hx hb hK hP 10 0 rfl rfl (by first | assumption | exact vi256_lt (by assumption) (by assumption) | exact vi256_nle (by assumption) (by assumption) | exact vi256_le (by assumption) (by assumption)) d_M_watch_84 ?_
              refine lv_iconst (v := 1) hx hb d_M_watch_85 (by decide) ?_
              refine lv_iadd hx hb d_M_watch_86 ?_
              refine va_iast (f := (Y 10)) hx hb hK hP hD hS 10 0 rfl rfl (by first | assumption | exact vi256_lt (by assumption) (by assumption) | exact vi256_nle (by assumption) (by assumption) | exact vi256_le (by assumption) (by assumption)) d_M_watch_87 (fun H locs hP hD hS => ?_)
              have hP : va_P D classes ((wM cA h) (pt Y 10 (ix x2) (((Y 10) (ix x2)) + 1))) H := hP
              have hD : va_D A ((wM cA h) (pt Y 10 (ix x2) (((Y 10) (ix x2)) + 1))) := hD
              refine lv_aload_n hx hb d_M_watch_88 rfl (lv_at hl 1 rfl) ?_
              refine va_get (D := D) (ci := 5) (v := .ref (h 10)) (C := R_M) (T := F_M) (N := 24) hx hb hts i_M hown hK hP 0 rfl rfl 10 (by decide) (hts _ tw_304) (fun _ h9 => h9) rfl d_M_watch_89 ?_
              refine lv_iload_n hx hb d_M_watch_92 rfl (lv_at hl 3 rfl) ?_
              refine va_iald (f := (upd (Y 10) (ix x2) (((Y 10) (ix x2)) + 1))) hx hb hK hP 10 0 rfl rfl (by first | assumption | exact vi256_lt (by assumption) (by assumption) | exact vi256_nle (by assumption) (by assumption) | exact vi256_le (by assumption) (by assumption)) d_M_watch_93 ?_
              refine lv_topi (fun yc ey => ?_)
              rw [pk_us] at ey
              subst ey
              refine lv_aload_n hx hb d_M_watch_94 rfl (lv_at hl 1 rfl) ?_
              refine va_get (D := D) (ci := 5) (v := .ref (h 6)) (C := R_M) (T := F_M) (N := 24) hx hb hts i_M hown hK hP 0 rfl rfl 6 (by decide) (hts _ tw_300) (fun _ h9 => h9) rfl d_M_watch_95 ?_
              refine lv_iload_n hx hb d_M_watch_98 rfl (lv_at hl 3 rfl) ?_
              refine va_iald (f := (Y 6)) hx hb hK hP 6 0 rfl rfl (by first | assumption | exact vi256_lt (by assumption) (by assumption) | exact vi256_nle (by assumption) (by assumption) | exact vi256_le (by assumption) (by assumption)) d_M_watch_99 ?_
              refine lv_icmp_ne (tgt := 144) hx hb d_M_watch_100 (by decide) (fun c_100 => ?_) (fun c_100 => ?_)
              · refine lv_iinc (v := (x2 + 1)) (lv' := [(2, .int (x2 + 1)), (3, .int ((Y 1) (ix ((Y 5) (ix x2))))), (0, .ref (h 0)), (1, .int x1)]) hx hb d_M_watch_144 hl (k := 3) rfl rfl (by decide) rfl (fun ls hl => ?_)
                refine lv_goto (tgt := 14) hx hb d_M_watch_147 (by decide) ?_
                have eS : sM_it (pt (th M) 0 12 0) (k + 1) = (x1, (pt Y 10 (ix x2) (((Y 10) (ix x2)) + 1))) := by show sM_step (sM_it (pt (th M) 0 12 0) k).2 (sM_it (pt (th M) 0 12 0) k).1 k = _; rw [eY]; show sM_step Y x1 k = _; rw [← ek, sM_step, if_neg c_39, if_neg c_48, hc, if_neg c_100]
                exact ih (k + 1) _ _ _ _ _ _ (by omega) (by omega) (by rw [e2]; exact nI_1 k) eS hP hD hS (lv_sub hl [2, 3, 0] rfl)
              · refine lv_aload_n hx hb d_M_watch_103 rfl (lv_at hl 1 rfl) ?_
                refine lv_aload_n hx hb d_M_watch_104 rfl (lv_at hl 1 rfl) ?_
                refine va_get (D := D) (ci := 5) (v := .ref (h 9)) (C := R_M) (T := F_M) (N := 24) hx hb hts i_M hown hK hP 0 rfl rfl 9 (by decide) (hts _ tw_303) (fun _ h9 => h9) rfl d_M_watch_105 ?_
                refine lv_iload_n hx hb d_M_watch_108 rfl (lv_at hl 3 rfl) ?_
                refine va_iald (f := (Y 9)) hx hb hK hP 9 0 rfl rfl (by first | assumption | exact vi256_lt (by assumption) (by assumption) | exact vi256_nle (by assumption) (by assumption) | exact vi256_le (by assumption) (by assumption)) d_M_watch_109 ?_
                refine lv_iload_n hx hb d_M_watch_110 rfl (lv_at hl 0 rfl) ?_
                refine cV (rr := ((sM_waits (pt Y 10 (ix x2) (((Y 10) (ix x2)) + 1)) ((Y 9) (ix x2)) ((Y 1) (ix ((Y 5) (ix x2)))))).1) (X' := (((sM_waits (pt Y 10 (ix x2) (((Y 10) (ix x2)) + 1)) ((Y 9) (ix x2)) ((Y 1) (ix ((Y 5) (ix x2)))))).2)) (c_M_waits l D cA h (pt Y 10 (ix x2) (((Y 10) (ix x2)) + 1)) ((Y 9) (ix x2)) ((Y 1) (ix ((Y 5) (ix x2)))) hwk) lk_M_89 hx hb hml hown hts hKK hP hD hS hA hl.1 0 rfl rfl rfl ⟨by decide, by decide⟩ ⟨Nat.le_refl _, Nat.le_refl _⟩ rfl wM_adr rfl (Nat.le_of_ble_eq_true rfl) d_M_watch_111 (fun H locs hP hD hS => ?_)
                refine lv_istore (lv' := [(4, .int (((sM_waits (pt Y 10 (ix x2) (((Y 10) (ix x2)) + 1)) ((Y 9) (ix x2)) ((Y 1) (ix ((Y 5) (ix x2)))))).1)), (3, .int ((Y 1) (ix ((Y 5) (ix x2))))), (0, .ref (h 0)), (1, .int x1), (2, .int x2)]) hx hb d_M_watch_114 hl (by decide) rfl (fun ls hl => ?_)
                refine lv_aload_n hx hb d_M_watch_116 rfl (lv_at hl 2 rfl) ?_
                refine lv_aload_n hx hb d_M_watch_117 rfl (lv_at hl 2 rfl) ?_
                refine va_get (D := D) (ci := 5) (v := .int ((((sM_waits (pt Y 10 (ix x2) (((Y 10) (ix x2)) + 1)) ((Y 9) (ix x2)) ((Y 1) (ix ((Y 5) (ix x2)))))).2) 0 12)) (C := R_M) (T := F_M) (N := 24) hx hb hts i_M hown hK hP 0 rfl rfl 12 (by decide) (hts _ tw_306) (fun _ h9 => h9) rfl d_M_watch_118 ?_
                refine lv_if_ne (tgt := 133) hx hb d_M_watch_121 (by decide) (fun c_121 => ?_) (fun c_121 => ?_)
                · refine lv_iconst (v := 1) hx hb d_M_watch_133 (by decide) ?_
                  refine lv_goto (tgt := 138) hx hb d_M_watch_134 (by decide) ?_
                  refine va_put (D := D) (ci := 5) (v := .int 1) (ty := .boolean) (C := R_M) (T := F_M) (N := 24) hx hb hts i_M t_M t_M_ok n_M hown hK hP hD hS 0 rfl rfl 12 (by decide) (hts _ tw_306) (fun _ h9 => h9) rfl (t_M_ok 12 (by decide)) isZ_1.nar isZ_1.fit (Nat.le_of_ble_eq_true rfl) d_M_watch_138 (fun H locs hP hD hS => ?_)
                  have hP : va_P D classes ((wM cA h) (pt (((sM_waits (pt Y 10 (ix x2) (((Y 10) (ix x2)) + 1)) ((Y 9) (ix x2)) ((Y 1) (ix ((Y 5) (ix x2)))))).2) 0 12 1)) H := hP
                  have hD : va_D A ((wM cA h) (pt (((sM_waits (pt Y 10 (ix x2) (((Y 10) (ix x2)) + 1)) ((Y 9) (ix x2)) ((Y 1) (ix ((Y 5) (ix x2)))))).2) 0 12 1)) := hD
                  refine lv_iinc (v := (x1 + 1)) (lv' := [(1, .int (x1 + 1)), (4, .int (((sM_waits (pt Y 10 (ix x2) (((Y 10) (ix x2)) + 1)) ((Y 9) (ix x2)) ((Y 1) (ix ((Y 5) (ix x2)))))).1)), (3, .int ((Y 1) (ix ((Y 5) (ix x2))))), (0, .ref (h 0)), (2, .int x2)]) hx hb d_M_watch_141 hl (k := 3) rfl rfl (by decide) rfl (fun ls hl => ?_)
                  refine lv_iinc (v := (x2 + 1)) (lv' := [(2, .int (x2 + 1)), (1, .int (x1 + 1)), (4, .int (((sM_waits (pt Y 10 (ix x2) (((Y 10) (ix x2)) + 1)) ((Y 9) (ix x2)) ((Y 1) (ix ((Y 5) (ix x2)))))).1)), (3, .int ((Y 1) (ix ((Y 5) (ix x2))))), (0, .ref (h 0))]) hx hb d_M_watch_144 hl (k := 4) rfl rfl (by decide) rfl (fun ls hl => ?_)
                  refine lv_goto (tgt := 14) hx hb d_M_watch_147 (by decide) ?_
                  have eS : sM_it (pt (th M) 0 12 0) (k + 1) = ((x1 + 1), (pt (((sM_waits (pt Y 10 (ix x2) (((Y 10) (ix x2)) + 1)) ((Y 9) (ix x2)) ((Y 1) (ix ((Y 5) (ix x2)))))).2) 0 12 1)) := by show sM_step (sM_it (pt (th M) 0 12 0) k).2 (sM_it (pt (th M) 0 12 0) k).1 k = _; rw [eY]; show sM_step Y x1 k = _; rw [← ek, sM_step, if_neg c_39, if_neg c_48, hc, if_pos c_100, sM_lk, if_neg c_121]
                  exact ih (k + 1) _ _ _ _ _ _ (by omega) (by omega) (by rw [e2]; exact nI_1 k) eS hP hD hS (lv_sub hl [4, 1, 0] rfl)
                · refine lv_aload_n hx hb d_M_watch_124 rfl (lv_at hl 2 rfl) ?_
                  refine va_get (D := D) (ci := 5) (v := .ref (h 4)) (C := R_M) (T := F_M) (N := 24) hx hb hts i_M hown hK hP 0 rfl rfl 4 (by decide) (hts _ tw_298) (fun _ h9 => h9) rfl d_M_watch_125 ?_
                  refine lv_iload_n hx hb d_M_watch_128 rfl (lv_at hl 4 rfl) ?_
                  refine va_zald (f := ((((sM_waits (pt Y 10 (ix x2) (((Y 10) (ix x2)) + 1)) ((Y 9) (ix x2)) ((Y 1) (ix ((Y 5) (ix x2)))))).2) 4)) hx hb hK hP 4 1 rfl rfl (by first | assumption | exact vi256_lt (by assumption) (by assumption) | exact vi256_nle (by assumption) (by assumption) | exact vi256_le (by assumption) (by assumption)) d_M_watch_129 ?_
                  refine lv_if_eq (tgt := 137) hx hb d_M_watch_130 (by decide) (fun c_130 => ?_) (fun c_130 => ?_)
                  · refine lv_iconst (v := 0) hx hb d_M_watch_137 (by decide) ?_
                    refine va_put (D := D) (ci := 5) (v := .int 0) (ty := .boolean) (C := R_M) (T := F_M) (N := 24) hx hb hts i_M t_M t_M_ok n_M hown hK hP hD hS 0 rfl rfl 12 (by decide) (hts _ tw_306) (fun _ h9 => h9) rfl (t_M_ok 12 (by decide)) isZ_0.nar isZ_0.fit (Nat.le_of_ble_eq_true rfl) d_M_watch_138 (fun H locs hP hD hS => ?_)
                    have hP : va_P D classes ((wM cA h) (pt (((sM_waits (pt Y 10 (ix x2) (((Y 10) (ix x2)) + 1)) ((Y 9) (ix x2)) ((Y 1) (ix ((Y 5) (ix x2)))))).2) 0 12 0)) H := hP
                    have hD : va_D A ((wM cA h) (pt (((sM_waits (pt Y 10 (ix x2) (((Y 10) (ix x2)) + 1)) ((Y 9) (ix x2)) ((Y 1) (ix ((Y 5) (ix x2)))))).2) 0 12 0)) := hD
                    refine lv_iinc (v := (x1 + 1)) (lv' := [(1, .int (x1 + 1)), (4, .int (((sM_waits (pt Y 10 (ix x2) (((Y 10) (ix x2)) + 1)) ((Y 9) (ix x2)) ((Y 1) (ix ((Y 5) (ix x2)))))).1)), (3, .int ((Y 1) (ix ((Y 5) (ix x2))))), (0, .ref (h 0)), (2, .int x2)]) hx hb d_M_watch_141 hl (k := 3) rfl rfl (by decide) rfl (fun ls hl => ?_)
                    refine lv_iinc (v := (x2 + 1)) (lv' := [(2, .int (x2 + 1)), (1, .int (x1 + 1)), (4, .int (((sM_waits (pt Y 10 (ix x2) (((Y 10) (ix x2)) + 1)) ((Y 9) (ix x2)) ((Y 1) (ix ((Y 5) (ix x2)))))).1)), (3, .int ((Y 1) (ix ((Y 5) (ix x2))))), (0, .ref (h 0))]) hx hb d_M_watch_144 hl (k := 4) rfl rfl (by decide) rfl (fun ls hl => ?_)
                    refine lv_goto (tgt := 14) hx hb d_M_watch_147 (by decide) ?_
                    have eS : sM_it (pt (th M) 0 12 0) (k + 1) = ((x1 + 1), (pt (((sM_waits (pt Y 10 (ix x2) (((Y 10) (ix x2)) + 1)) ((Y 9) (ix x2)) ((Y 1) (ix ((Y 5) (ix x2)))))).2) 0 12 0)) := by show sM_step (sM_it (pt (th M) 0 12 0) k).2 (sM_it (pt (th M) 0 12 0) k).1 k = _; rw [eY]; show sM_step Y x1 k = _; rw [← ek, sM_step, if_neg c_39, if_neg c_48, hc, if_pos c_100, sM_lk, if_pos c_121, if_pos c_130]
                    exact ih (k + 1) _ _ _ _ _ _ (by omega) (by omega) (by rw [e2]; exact nI_1 k) eS hP hD hS (lv_sub hl [4, 1, 0] rfl)
                  · refine lv_iconst (v := 1) hx hb d_M_watch_133 (by decide) ?_
                    refine lv_goto (tgt := 138) hx hb d_M_watch_134 (by decide) ?_
                    refine va_put (D := D) (ci := 5) (v := .int 1) (ty := .boolean) (C := R_M) (T := F_M) (N := 24) hx hb hts i_M t_M t_M_ok n_M hown hK hP hD hS 0 rfl rfl 12 (by decide) (hts _ tw_306) (fun _ h9 => h9) rfl (t_M_ok 12 (by decide)) isZ_1.nar isZ_1.fit (Nat.le_of_ble_eq_true rfl) d_M_watch_138 (fun H locs hP hD hS => ?_)
                    have hP : va_P D classes ((wM cA h) (pt (((sM_waits (pt Y 10 (ix x2) (((Y 10) (ix x2)) + 1)) ((Y 9) (ix x2)) ((Y 1) (ix ((Y 5) (ix x2)))))).2) 0 12 1)) H := hP
                    have hD : va_D A ((wM cA h) (pt (((sM_waits (pt Y 10 (ix x2) (((Y 10) (ix x2)) + 1)) ((Y 9) (ix x2)) ((Y 1) (ix ((Y 5) (ix x2)))))).2) 0 12 1)) := hD
                    refine lv_iinc (v := (x1 + 1)) (lv' := [(1, .int (x1 + 1)), (4, .int (((sM_waits (pt Y 10 (ix x2) (((Y 10) (ix x2)) + 1)) ((Y 9) (ix x2)) ((Y 1) (ix ((Y 5) (ix x2)))))).1)), (3, .int ((Y 1) (ix ((Y 5) (ix x2))))), (0, .ref (h 0)), (2, .int x2)]) hx hb d_M_watch_141 hl (k := 3) rfl rfl (by decide) rfl (fun ls hl => ?_)
                    refine lv_iinc (v := (x2 + 1)) (lv' := [(2, .int (x2 + 1)), (1, .int (x1 + 1)), (4, .int (((sM_waits (pt Y 10 (ix x2) (((Y 10) (ix x2)) + 1)) ((Y 9) (ix x2)) ((Y 1) (ix ((Y 5) (ix x2)))))).1)), (3, .int ((Y 1) (ix ((Y 5) (ix x2))))), (0, .ref (h 0))]) hx hb d_M_watch_144 hl (k := 4) rfl rfl (by decide) rfl (fun ls hl => ?_)
                    refine lv_goto (tgt := 14) hx hb d_M_watch_147 (by decide) ?_
                    have eS : sM_it (pt (th M) 0 12 0) (k + 1) = ((x1 + 1), (pt (((sM_waits (pt Y 10 (ix x2) (((Y 10) (ix x2)) + 1)) ((Y 9) (ix x2)) ((Y 1) (ix ((Y 5) (ix x2)))))).2) 0 12 1)) := by show sM_step (sM_it (pt (th M) 0 12 0) k).2 (sM_it (pt (th M) 0 12 0) k).1 k = _; rw [eY]; show sM_step Y x1 k = _; rw [← ek, sM_step, if_neg c_39, if_neg c_48, hc, if_pos c_100, sM_lk, if_pos c_121, if_neg c_130]
                    exact ih (k + 1) _ _ _ _ _ _ (by omega) (by omega) (by rw [e2]; exact nI_1 k) eS hP hD hS (lv_sub hl [4, 1, 0] rfl)
            · have hc : sM_c Y (Y 1 (ix (Y 5 (ix x2)))) (ix x2) = 0 := by rw [sM_c, if_neg c_72]
              refine lv_iconst (v := 0) hx hb d_M_watch_75 (by decide) ?_
              refine lv_goto (tgt := 87) hx hb d_M_watch_76 (by decide) ?_
              refine va_iast (f := (Y 10)) hx hb hK hP hD hS 10 0 rfl rfl (by first | assumption | exact vi256_lt (by assumption) (by assumption) | exact vi256_nle (by assumption) (by assumption) | exact vi256_le (by assumption) (by assumption)) d_M_watch_87 (fun H locs hP hD hS => ?_)
              have hP : va_P D classes ((wM cA h) (pt Y 10 (ix x2) 0)) H := hP
              have hD : va_D A ((wM cA h) (pt Y 10 (ix x2) 0)) := hD
              refine lv_aload_n hx hb d_M_watch_88 rfl (lv_at hl 1 rfl) ?_
              refine va_get (D := D) (ci := 5) (v := .ref (h 10)) (C := R_M) (T := F_M) (N := 24) hx hb hts i_M hown hK hP 0 rfl rfl 10 (by decide) (hts _ tw_304) (fun _ h9 => h9) rfl d_M_watch_89 ?_
              refine lv_iload_n hx hb d_M_watch_92 rfl (lv_at hl 3 rfl) ?_
              refine va_iald (f := (upd (Y 10) (ix x2) 0)) hx hb hK hP 10 0 rfl rfl (by first | assumption | exact vi256_lt (by assumption) (by assumption) | exact vi256_nle (by assumption) (by assumption) | exact vi256_le (by assumption) (by assumption)) d_M_watch_93 ?_
              refine lv_topi (fun yc ey => ?_)
              rw [pk_us] at ey
              subst ey
              refine lv_aload_n hx hb d_M_watch_94 rfl (lv_at hl 1 rfl) ?_
              refine va_get (D := D) (ci := 5) (v := .ref (h 6)) (C := R_M) (T := F_M) (N := 24) hx hb hts i_M hown hK hP 0 rfl rfl 6 (by decide) (hts _ tw_300) (fun _ h9 => h9) rfl d_M_watch_95 ?_
              refine lv_iload_n hx hb d_M_watch_98 rfl (lv_at hl 3 rfl) ?_
              refine va_iald (f := (Y 6)) hx hb hK hP 6 0 rfl rfl (by first | assumption | exact vi256_lt (by assumption) (by assumption) | exact vi256_nle (by assumption) (by assumption) | exact vi256_le (by assumption) (by assumption)) d_M_watch_99 ?_
              refine lv_icmp_ne (tgt := 144) hx hb d_M_watch_100 (by decide) (fun c_100 => ?_) (fun c_100 => ?_)
              · refine lv_iinc (v := (x2 + 1)) (lv' := [(2, .int (x2 + 1)), (3, .int ((Y 1) (ix ((Y 5) (ix x2))))), (0, .ref (h 0)), (1, .int x1)]) hx hb d_M_watch_144 hl (k := 3) rfl rfl (by decide) rfl (fun ls hl => ?_)
                refine lv_goto (tgt := 14) hx hb d_M_watch_147 (by decide) ?_
                have eS : sM_it (pt (th M) 0 12 0) (k + 1) = (x1, (pt Y 10 (ix x2) 0)) := by show sM_step (sM_it (pt (th M) 0 12 0) k).2 (sM_it (pt (th M) 0 12 0) k).1 k = _; rw [eY]; show sM_step Y x1 k = _; rw [← ek, sM_step, if_neg c_39, if_neg c_48, hc, if_neg c_100]
                exact ih (k + 1) _ _ _ _ _ _ (by omega) (by omega) (by rw [e2]; exact nI_1 k) eS hP hD hS (lv_sub hl [2, 3, 0] rfl)
              · refine lv_aload_n hx hb d_M_watch_103 rfl (lv_at hl 1 rfl) ?_
                refine lv_aload_n hx hb d_M_watch_104 rfl (lv_at hl 1 rfl) ?_
                refine va_get (D := D) (ci := 5) (v := .ref (h 9)) (C := R_M) (T := F_M) (N := 24) hx hb hts i_M hown hK hP 0 rfl rfl 9 (by decide) (hts _ tw_303) (fun _ h9 => h9) rfl d_M_watch_105 ?_
                refine lv_iload_n hx hb d_M_watch_108 rfl (lv_at hl 3 rfl) ?_
                refine va_iald (f := (Y 9)) hx hb hK hP 9 0 rfl rfl (by first | assumption | exact vi256_lt (by assumption) (by assumption) | exact vi256_nle (by assumption) (by assumption) | exact vi256_le (by assumption) (by assumption)) d_M_watch_109 ?_
                refine lv_iload_n hx hb d_M_watch_110 rfl (lv_at hl 0 rfl) ?_
                refine cV (rr := ((sM_waits (pt Y 10 (ix x2) 0) ((Y 9) (ix x2)) ((Y 1) (ix ((Y 5) (ix x2)))))).1) (X' := (((sM_waits (pt Y 10 (ix x2) 0) ((Y 9) (ix x2)) ((Y 1) (ix ((Y 5) (ix x2)))))).2)) (c_M_waits l D cA h (pt Y 10 (ix x2) 0) ((Y 9) (ix x2)) ((Y 1) (ix ((Y 5) (ix x2)))) hwk) lk_M_89 hx hb hml hown hts hKK hP hD hS hA hl.1 0 rfl rfl rfl ⟨by decide, by decide⟩ ⟨Nat.le_refl _, Nat.le_refl _⟩ rfl wM_adr rfl (Nat.le_of_ble_eq_true rfl) d_M_watch_111 (fun H locs hP hD hS => ?_)
                refine lv_istore (lv' := [(4, .int (((sM_waits (pt Y 10 (ix x2) 0) ((Y 9) (ix x2)) ((Y 1) (ix ((Y 5) (ix x2)))))).1)), (3, .int ((Y 1) (ix ((Y 5) (ix x2))))), (0, .ref (h 0)), (1, .int x1), (2, .int x2)]) hx hb d_M_watch_114 hl (by decide) rfl (fun ls hl => ?_)
                refine lv_aload_n hx hb d_M_watch_116 rfl (lv_at hl 2 rfl) ?_
                refine lv_aload_n hx hb d_M_watch_117 rfl (lv_at hl 2 rfl) ?_
                refine va_get (D := D) (ci := 5) (v := .int ((((sM_waits (pt Y 10 (ix x2) 0) ((Y 9) (ix x2)) ((Y 1) (ix ((Y 5) (ix x2)))))).2) 0 12)) (C := R_M) (T := F_M) (N := 24) hx hb hts i_M hown hK hP 0 rfl rfl 12 (by decide) (hts _ tw_306) (fun _ h9 => h9) rfl d_M_watch_118 ?_
                refine lv_if_ne (tgt := 133) hx hb d_M_watch_121 (by decide) (fun c_121 => ?_) (fun c_121 => ?_)
                · refine lv_iconst (v := 1) hx hb d_M_watch_133 (by decide) ?_
                  refine lv_goto (tgt := 138) hx hb d_M_watch_134 (by decide) ?_
                  refine va_put (D := D) (ci := 5) (v := .int 1) (ty := .boolean) (C := R_M) (T := F_M) (N := 24) hx hb hts i_M t_M t_M_ok n_M hown hK hP hD hS 0 rfl rfl 12 (by decide) (hts _ tw_306) (fun _ h9 => h9) rfl (t_M_ok 12 (by decide)) isZ_1.nar isZ_1.fit (Nat.le_of_ble_eq_true rfl) d_M_watch_138 (fun H locs hP hD hS => ?_)
                  have hP : va_P D classes ((wM cA h) (pt (((sM_waits (pt Y 10 (ix x2) 0) ((Y 9) (ix x2)) ((Y 1) (ix ((Y 5) (ix x2)))))).2) 0 12 1)) H := hP
                  have hD : va_D A ((wM cA h) (pt (((sM_waits (pt Y 10 (ix x2) 0) ((Y 9) (ix x2)) ((Y 1) (ix ((Y 5) (ix x2)))))).2) 0 12 1)) := hD
                  refine lv_iinc (v := (x1 + 1)) (lv' := [(1, .int (x1 + 1)), (4, .int (((sM_waits (pt Y 10 (ix x2) 0) ((Y 9) (ix x2)) ((Y 1) (ix ((Y 5) (ix x2)))))).1)), (3, .int ((Y 1) (ix ((Y 5) (ix x2))))), (0, .ref (h 0)), (2, .int x2)]) hx hb d_M_watch_141 hl (k := 3) rfl rfl (by decide) rfl (fun ls hl => ?_)
                  refine lv_iinc (v := (x2 + 1)) (lv' := [(2, .int (x2 + 1)), (1, .int (x1 + 1)), (4, .int (((sM_waits (pt Y 10 (ix x2) 0) ((Y 9) (ix x2)) ((Y 1) (ix ((Y 5) (ix x2)))))).1)), (3, .int ((Y 1) (ix ((Y 5) (ix x2))))), (0, .ref (h 0))]) hx hb d_M_watch_144 hl (k := 4) rfl rfl (by decide) rfl (fun ls hl => ?_)
                  refine lv_goto (tgt := 14) hx hb d_M_watch_147 (by decide) ?_
                  have eS : sM_it (pt (th M) 0 12 0) (k + 1) = ((x1 + 1), (pt (((sM_waits (pt Y 10 (ix x2) 0) ((Y 9) (ix x2)) ((Y 1) (ix ((Y 5) (ix x2)))))).2) 0 12 1)) := by show sM_step (sM_it (pt (th M) 0 12 0) k).2 (sM_it (pt (th M) 0 12 0) k).1 k = _; rw [eY]; show sM_step Y x1 k = _; rw [← ek, sM_step, if_neg c_39, if_neg c_48, hc, if_pos c_100, sM_lk, if_neg c_121]
                  exact ih (k + 1) _ _ _ _ _ _ (by omega) (by omega) (by rw [e2]; exact nI_1 k) eS hP hD hS (lv_sub hl [4, 1, 0] rfl)
                · refine lv_aload_n hx hb d_M_watch_124 rfl (lv_at hl 2 rfl) ?_
                  refine va_get (D := D) (ci := 5) (v := .ref (h 4)) (C := R_M) (T := F_M) (N := 24) hx hb hts i_M hown hK hP 0 rfl rfl 4 (by decide) (hts _ tw_298) (fun _ h9 => h9) rfl d_M_watch_125 ?_
                  refine lv_iload_n hx hb d_M_watch_128 rfl (lv_at hl 4 rfl) ?_
                  refine va_zald (f := ((((sM_waits (pt Y 10 (ix x2) 0) ((Y 9) (ix x2)) ((Y 1) (ix ((Y 5) (ix x2)))))).2) 4)) hx hb hK hP 4 1 rfl rfl (by first | assumption | exact vi256_lt (by assumption) (by assumption) | exact vi256_nle (by assumption) (by assumption) | exact vi256_le (by assumption) (by assumption)) d_M_watch_129 ?_
                  refine lv_if_eq (tgt := 137) hx hb d_M_watch_130 (by decide) (fun c_130 => ?_) (fun c_130 => ?_)
                  · refine lv_iconst (v := 0) hx hb d_M_watch_137 (by decide) ?_
                    refine va_put (D := D) (ci := 5) (v := .int 0) (ty := .boolean) (C := R_M) (T := F_M) (N := 24) hx hb hts i_M t_M t_M_ok n_M hown hK hP hD hS 0 rfl rfl 12 (by decide) (hts _ tw_306) (fun _ h9 => h9) rfl (t_M_ok 12 (by decide)) isZ_0.nar isZ_0.fit (Nat.le_of_ble_eq_true rfl) d_M_watch_138 (fun H locs hP hD hS => ?_)
                    have hP : va_P D classes ((wM cA h) (pt (((sM_waits (pt Y 10 (ix x2) 0) ((Y 9) (ix x2)) ((Y 1) (ix ((Y 5) (ix x2)))))).2) 0 12 0)) H := hP
                    have hD : va_D A ((wM cA h) (pt (((sM_waits (pt Y 10 (ix x2) 0) ((Y 9) (ix x2)) ((Y 1) (ix ((Y 5) (ix x2)))))).2) 0 12 0)) := hD
                    refine lv_iinc (v := (x1 + 1)) (lv' := [(1, .int (x1 + 1)), (4, .int (((sM_waits (pt Y 10 (ix x2) 0) ((Y 9) (ix x2)) ((Y 1) (ix ((Y 5) (ix x2)))))).1)), (3, .int ((Y 1) (ix ((Y 5) (ix x2))))), (0, .ref (h 0)), (2, .int x2)]) hx hb d_M_watch_141 hl (k := 3) rfl rfl (by decide) rfl (fun ls hl => ?_)
                    refine lv_iinc (v := (x2 + 1)) (lv' := [(2, .int (x2 + 1)), (1, .int (x1 + 1)), (4, .int (((sM_waits (pt Y 10 (ix x2) 0) ((Y 9) (ix x2)) ((Y 1) (ix ((Y 5) (ix x2)))))).1)), (3, .int ((Y 1) (ix ((Y 5) (ix x2))))), (0, .ref (h 0))]) hx hb d_M_watch_144 hl (k := 4) rfl rfl (by decide) rfl (fun ls hl => ?_)
                    refine lv_goto (tgt := 14) hx hb d_M_watch_147 (by decide) ?_
                    have eS : sM_it (pt (th M) 0 12 0) (k + 1) = ((x1 + 1), (pt (((sM_waits (pt Y 10 (ix x2) 0) ((Y 9) (ix x2)) ((Y 1) (ix ((Y 5) (ix x2)))))).2) 0 12 0)) := by show sM_step (sM_it (pt (th M) 0 12 0) k).2 (sM_it (pt (th M) 0 12 0) k).1 k = _; rw [eY]; show sM_step Y x1 k = _; rw [← ek, sM_step, if_neg c_39, if_neg c_48, hc, if_pos c_100, sM_lk, if_pos c_121, if_pos c_130]
                    exact ih (k + 1) _ _ _ _ _ _ (by omega) (by omega) (by rw [e2]; exact nI_1 k) eS hP hD hS (lv_sub hl [4, 1, 0] rfl)
                  · refine lv_iconst (v := 1) hx hb d_M_watch_133 (by decide) ?_
                    refine lv_goto (tgt := 138) hx hb d_M_watch_134 (by decide) ?_
                    refine va_put (D := D) (ci := 5) (v := .int 1) (ty := .boolean) (C := R_M) (T := F_M) (N := 24) hx hb hts i_M t_M t_M_ok n_M hown hK hP hD hS 0 rfl rfl 12 (by decide) (hts _ tw_306) (fun _ h9 => h9) rfl (t_M_ok 12 (by decide)) isZ_1.nar isZ_1.fit (Nat.le_of_ble_eq_true rfl) d_M_watch_138 (fun H locs hP hD hS => ?_)
                    have hP : va_P D classes ((wM cA h) (pt (((sM_waits (pt Y 10 (ix x2) 0) ((Y 9) (ix x2)) ((Y 1) (ix ((Y 5) (ix x2)))))).2) 0 12 1)) H := hP
                    have hD : va_D A ((wM cA h) (pt (((sM_waits (pt Y 10 (ix x2) 0) ((Y 9) (ix x2)) ((Y 1) (ix ((Y 5) (ix x2)))))).2) 0 12 1)) := hD
                    refine lv_iinc (v := (x1 + 1)) (lv' := [(1, .int (x1 + 1)), (4, .int (((sM_waits (pt Y 10 (ix x2) 0) ((Y 9) (ix x2)) ((Y 1) (ix ((Y 5) (ix x2)))))).1)), (3, .int ((Y 1) (ix ((Y 5) (ix x2))))), (0, .ref (h 0)), (2, .int x2)]) hx hb d_M_watch_141 hl (k := 3) rfl rfl (by decide) rfl (fun ls hl => ?_)
                    refine lv_iinc (v := (x2 + 1)) (lv' := [(2, .int (x2 + 1)), (1, .int (x1 + 1)), (4, .int (((sM_waits (pt Y 10 (ix x2) 0) ((Y 9) (ix x2)) ((Y 1) (ix ((Y 5) (ix x2)))))).1)), (3, .int ((Y 1) (ix ((Y 5) (ix x2))))), (0, .ref (h 0))]) hx hb d_M_watch_144 hl (k := 4) rfl rfl (by decide) rfl (fun ls hl => ?_)
                    refine lv_goto (tgt := 14) hx hb d_M_watch_147 (by decide) ?_
                    have eS : sM_it (pt (th M) 0 12 0) (k + 1) = ((x1 + 1), (pt (((sM_waits (pt Y 10 (ix x2) 0) ((Y 9) (ix x2)) ((Y 1) (ix ((Y 5) (ix x2)))))).2) 0 12 1)) := by show sM_step (sM_it (pt (th M) 0 12 0) k).2 (sM_it (pt (th M) 0 12 0) k).1 k = _; rw [eY]; show sM_step Y x1 k = _; rw [← ek, sM_step, if_neg c_39, if_neg c_48, hc, if_pos c_100, sM_lk, if_pos c_121, if_neg c_130]
                    exact ih (k + 1) _ _ _ _ _ _ (by omega) (by omega) (by rw [e2]; exact nI_1 k) eS hP hD hS (lv_sub hl [4, 1, 0] rfl)
  exact loop 257 0 _ _ _ _ _ _ (by decide) (by decide) nI_0.symm rfl hP hD hS (lv_sub hl [2, 1, 0] rfl)
end
section
theorem lk_C_60 : LkV R_C 60 R_L y_L_watch b_L_watch 7 (some .boolean) 2 := LkV.of tw_192 tw_193 tw_194 tw_4 tw_195 (by decide +kernel)
theorem lk_L_60 : LkV R_L 60 R_E y_E_raise b_E_raise 4 (some .boolean) 2 := LkV.of tw_206 tw_207 tw_208 tw_3 tw_209 (by decide +kernel)
set_option maxHeartbeats 4000000 in
set_option maxRecDepth 100000 in
theorem c_L_watch (l : Launch) (D : va_G) (cA : Nat → ClassId) (h : Nat → Nat) (Rw X : Sg) (hp : ∀ k, k < 256 → vp_in ((sL_it X k).2 11 k) 32) (hr : ∀ k, k < 256 → vp_in (sE_k (sL_it X k).2) 64) (hz : isZ (sL_watch X).1) : Ct l y_L_watch b_L_watch 7 (some .boolean) 1 23 D cA [.ref (h 7), .ref (h 1), .ref (h 3)] (wC cA h Rw) X (sL_watch X) := by
  refine Ct.of rfl hz.nar (by decide +kernel) (Nat.le_of_ble_eq_true rfl) ?_
  intro p e s m below meth c A Q ls hx hb hml hown hts hKK hP hD hA hS hend hl
  have hown : s.vm.findClass R_L = some m.cls := hown
  have hl : lv_has ls 7 [(0, .ref (h 7)), (1, .ref (h 1)), (2, .ref (h 3))] := hl
  have hK := hKK.1
  refine lv_iconst (v := 0) hx hb d_L_watch_0 (by decide) ?_
  refine lv_istore_n (lv' := [(3, .int 0), (0, .ref (h 7)), (1, .ref (h 1)), (2, .ref (h 3))]) hx hb d_L_watch_1 rfl hl (by decide) rfl (fun ls hl => ?_)
  refine lv_iconst (v := 0) hx hb d_L_watch_2 (by decide) ?_
  refine lv_istore (lv' := [(4, .int 0), (3, .int 0), (0, .ref (h 7)), (1, .ref (h 1)), (2, .ref (h 3))]) hx hb d_L_watch_3 hl (by decide) rfl (fun ls hl => ?_)
  have loop : ∀ (n k : Nat) (x3 x4 : Int32) (Y : Sg) (ls : Array Slot) (H : Heap) (locs : List Loc), k ≤ 256 → 256 < k + n → x4 = nI k → sL_it X k = (x3, Y) → va_P D classes (wC cA h Rw Y) H → va_D A (wC cA h Rw Y) → va_S A s.heap H locs → lv_has ls 7 [(0, .ref (h 7)), (1, .ref (h 1)), (2, .ref (h 3)), (3, .int x3), (4, .int x4)] → W p l e (rmZ 1 23) s m ([.ref (h 7), .ref (h 1), .ref (h 3)] : List Value).toArray below meth c H locs 0 0 Q (F0 m 5 ls []) := by
    intro n
    induction n with
    | zero => intro k x3 x4 Y ls H locs h1 h2; exact absurd h2 (by omega)
    | succ n ih =>
      intro k x3 x4 Y ls H locs h1 h2 e4 eY hP hD hS hl
      refine lv_iload hx hb d_L_watch_5 (lv_at hl 4 rfl) ?_
      refine lv_sipush (v := 256) hx hb d_L_watch_7 (by decide) ?_
      refine lv_icmp_ge (tgt := 153) hx hb d_L_watch_10 (by decide) (fun c_10 => ?_) (fun c_10 => ?_)
      · have hk : k = 256 := lp_ge rfl (by decide) e4 h1 c_10
        refine lv_iload_n hx hb d_L_watch_153 rfl (lv_at hl 3 rfl) ?_
        exact hend _ _ _ _ _ _ (by rw [sL_watch, ← hk, eY]) hP hS d_L_watch_154
      · have hk : k < 256 := lp_lt rfl (by decide) e4 h1 c_10
        have hi : vp_in x4 256 := lp_in (by decide) e4 hk
        have ek : x4.toNatClampNeg = k := lp_ix e4 (by omega)
        have hpk : vp_in (Y 11 (ix x4)) 32 := by have := hp k hk; rw [eY] at this; rw [ix, ek]; exact this
        have hrk : vp_in (sE_k Y) 64 := by have := hr k hk; rw [eY] at this; exact this
        refine lv_aload_n hx hb d_L_watch_13 rfl (lv_at hl 0 rfl) ?_
        refine va_get (D := D) (ci := 3) (v := .ref (h 8)) (C := R_L) (T := F_L) (N := 11) hx hb hts i_L hown hK hP 7 rfl rfl 0 (by decide) (hts _ tw_67) (fun _ h9 => h9) rfl d_L_watch_14 ?_
        refine lv_iload hx hb d_L_watch_17 (lv_at hl 4 rfl) ?_
        refine va_zald (f := (Y 8)) hx hb hK hP 8 1 rfl rfl (by first | assumption | exact vi256_lt (by assumption) (by assumption) | exact vi256_nle (by assumption) (by assumption) | exact vi256_le (by assumption) (by assumption)) d_L_watch_19 ?_
        refine lv_if_eq (tgt := 147) hx hb d_L_watch_20 (by decide) (fun c_20 => ?_) (fun c_20 => ?_)
        · refine lv_iinc (v := (x4 + 1)) (lv' := [(4, .int (x4 + 1)), (0, .ref (h 7)), (1, .ref (h 1)), (2, .ref (h 3)), (3, .int x3)]) hx hb d_L_watch_147 hl (k := 4) rfl rfl (by decide) rfl (fun ls hl => ?_)
          refine lv_goto (tgt := 5) hx hb d_L_watch_150 (by decide) ?_
          have eS : sL_it X (k + 1) = (x3, Y) := by show sL_step (sL_it X k).2 (sL_it X k).1 k = _; rw [eY]; show sL_step Y x3 k = _; rw [← ek, sL_step, if_pos c_20]
          exact ih (k + 1) _ _ _ _ _ _ (by omega) (by omega) (by rw [e4]; exact nI_1 k) eS hP hD hS (lv_sub hl [1, 2, 3, 4, 0] rfl)
        · refine lv_aload_n hx hb d_L_watch_23 rfl (lv_at hl 0 rfl) ?_
          refine va_get (D := D) (ci := 3) (v := .ref (h 9)) (C := R_L) (T := F_L) (N := 11) hx hb hts i_L hown hK hP 7 rfl rfl 1 (by decide) (hts _ tw_68) (fun _ h9 => h9) rfl d_L_watch_24 ?_
          refine lv_iload hx hb d_L_watch_27 (lv_at hl 4 rfl) ?_
          refine va_zald (f := (Y 9)) hx hb hK hP 9 1 rfl rfl (by first | assumption | exact vi256_lt (by assumption) (by assumption) | exact vi256_nle (by assumption) (by assumption) | exact vi256_le (by assumption) (by assumption)) d_L_watch_29 ?_
          refine lv_if_ne (tgt := 36) hx hb d_L_watch_30 (by decide) (fun c_30 => ?_) (fun c_30 => ?_)
          · refine lv_aload_n hx hb d_L_watch_36 rfl (lv_at hl 1 rfl) ?_
            refine lv_aload_n hx hb d_L_watch_37 rfl (lv_at hl 0 rfl) ?_
            refine va_get (D := D) (ci := 3) (v := .ref (h 11)) (C := R_L) (T := F_L) (N := 11) hx hb hts i_L hown hK hP 7 rfl rfl 3 (by decide) (hts _ tw_72) (fun _ h9 => h9) rfl d_L_watch_38 ?_
            refine lv_iload hx hb d_L_watch_41 (lv_at hl 4 rfl) ?_
            refine va_iald (f := (Y 11)) hx hb hK hP 11 0 rfl rfl (by first | assumption | exact vi256_lt (by assumption) (by assumption) | exact vi256_nle (by assumption) (by assumption) | exact vi256_le (by assumption) (by assumption)) d_L_watch_43 ?_
            refine cF (q0 := 1) (rr := (Y 2 (ix (Y 11 (ix x4))))) (X' := Y) (c_N_value l D cA h Rw Y (Y 11 (ix x4)) hpk) hx hb hml hown hts hKK hP hD hS hA hl.1 rfl ⟨by decide, by decide⟩ ⟨Nat.le_refl _, Nat.le_refl _⟩ rfl wC_adr rfl (Nat.le_of_ble_eq_true rfl) d_L_watch_44 (fun H locs hP hD hS => ?_)
            refine lv_istore (lv' := [(5, .int (Y 2 (ix (Y 11 (ix x4))))), (0, .ref (h 7)), (1, .ref (h 1)), (2, .ref (h 3)), (3, .int x3), (4, .int x4)]) hx hb d_L_watch_49 hl (by decide) rfl (fun ls hl => ?_)
            refine lv_aload_n hx hb d_L_watch_51 rfl (lv_at hl 1 rfl) ?_
            refine va_get (D := D) (ci := 3) (v := .ref (h 16)) (C := R_L) (T := F_L) (N := 11) hx hb hts i_L hown hK hP 7 rfl rfl 8 (by decide) (hts _ tw_80) (fun _ h9 => h9) rfl d_L_watch_52 ?_
            refine lv_iload hx hb d_L_watch_55 (lv_at hl 5 rfl) ?_
            refine lv_iload hx hb d_L_watch_57 (lv_at hl 0 rfl) ?_
            refine lv_aload_n hx hb d_L_watch_59 rfl (lv_at hl 1 rfl) ?_
            refine va_get (D := D) (ci := 3) (v := .ref (h 13)) (C := R_L) (T := F_L) (N := 11) hx hb hts i_L hown hK hP 7 rfl rfl 5 (by decide) (hts _ tw_76) (fun _ h9 => h9) rfl d_L_watch_60 ?_
            refine lv_iload hx hb d_L_watch_63 (lv_at hl 5 rfl) ?_
            refine va_iald (f := (Y 13)) hx hb hK hP 13 0 rfl rfl (by first | assumption | exact vi256_lt (by assumption) (by assumption) | exact vi256_nle (by assumption) (by assumption) | exact vi256_le (by assumption) (by assumption)) d_L_watch_65 ?_
            refine lv_icmp_lt (tgt := 85) hx hb d_L_watch_66 (by decide) (fun c_66 => ?_) (fun c_66 => ?_)
            · have hc : sL_c Y (Y 2 (ix (Y 11 (ix x4)))) (ix x4) = Y 16 (ix x4) + 1 := by rw [sL_c, if_pos c_66]
              refine lv_aload_n hx hb d_L_watch_85 rfl (lv_at hl 1 rfl) ?_
              refine va_get (D := D) (ci := 3) (v := .ref (h 16)) (C := R_L) (T := F_L) (N := 11) hx hb hts i_L hown hK hP 7 rfl rfl 8 (by decide) (hts _ tw_80) (fun _ h9 => h9) rfl d_L_watch_86 ?_
              refine lv_iload hx hb d_L_watch_89 (lv_at hl 5 rfl) ?_
              refine va_iald (f := (Y 16)) hx hb hK hP 16 0 rfl rfl (by first | assumption | exact vi256_lt (by assumption) (by assumption) | exact vi256_nle (by assumption) (by assumption) | exact vi256_le (by assumption) (by assumption)) d_L_watch_91 ?_
              refine lv_iconst (v := 1) hx hb d_L_watch_92 (by decide) ?_
              refine lv_iadd hx hb d_L_watch_93 ?_
              refine va_iast (f := (Y 16)) hx hb hK hP hD hS 16 0 rfl rfl (by first | assumption | exact vi256_lt (by assumption) (by assumption) | exact vi256_nle (by assumption) (by assumption) | exact vi256_le (by assumption) (by assumption)) d_L_watch_94 (fun H locs hP hD hS => ?_)
              have hP : va_P D classes ((wC cA h Rw) (pt Y 16 (ix x4) (((Y 16) (ix x4)) + 1))) H := hP
              have hD : va_D A ((wC cA h Rw) (pt Y 16 (ix x4) (((Y 16) (ix x4)) + 1))) := hD
              refine lv_aload_n hx hb d_L_watch_95 rfl (lv_at hl 1 rfl) ?_
              refine va_get (D := D) (ci := 3) (v := .ref (h 16)) (C := R_L) (T := F_L) (N := 11) hx hb hts i_L hown hK hP 7 rfl rfl 8 (by decide) (hts _ tw_80) (fun _ h9 => h9) rfl d_L_watch_96 ?_
              refine lv_iload hx hb d_L_watch_99 (lv_at hl 5 rfl) ?_
              refine va_iald (f := (upd (Y 16) (ix x4) (((Y 16) (ix x4)) + 1))) hx hb hK hP 16 0 rfl rfl (by first | assumption | exact vi256_lt (by assumption) (by assumption) | exact vi256_nle (by assumption) (by assumption) | exact vi256_le (by assumption) (by assumption)) d_L_watch_101 ?_
              refine lv_topi (fun yc ey => ?_)
              rw [pk_us] at ey
              subst ey
              refine lv_aload_n hx hb d_L_watch_102 rfl (lv_at hl 1 rfl) ?_
              refine va_get (D := D) (ci := 3) (v := .ref (h 12)) (C := R_L) (T := F_L) (N := 11) hx hb hts i_L hown hK hP 7 rfl rfl 4 (by decide) (hts _ tw_74) (fun _ h9 => h9) rfl d_L_watch_103 ?_
              refine lv_iload hx hb d_L_watch_106 (lv_at hl 5 rfl) ?_
              refine va_iald (f := (Y 12)) hx hb hK hP 12 0 rfl rfl (by first | assumption | exact vi256_lt (by assumption) (by assumption) | exact vi256_nle (by assumption) (by assumption) | exact vi256_le (by assumption) (by assumption)) d_L_watch_108 ?_
              refine lv_icmp_ne (tgt := 147) hx hb d_L_watch_109 (by decide) (fun c_109 => ?_) (fun c_109 => ?_)
              · refine lv_iinc (v := (x4 + 1)) (lv' := [(4, .int (x4 + 1)), (5, .int (Y 2 (ix (Y 11 (ix x4))))), (0, .ref (h 7)), (1, .ref (h 1)), (2, .ref (h 3)), (3, .int x3)]) hx hb d_L_watch_147 hl (k := 5) rfl rfl (by decide) rfl (fun ls hl => ?_)
                refine lv_goto (tgt := 5) hx hb d_L_watch_150 (by decide) ?_
                have eS : sL_it X (k + 1) = (x3, (pt Y 16 (ix x4) (((Y 16) (ix x4)) + 1))) := by show sL_step (sL_it X k).2 (sL_it X k).1 k = _; rw [eY]; show sL_step Y x3 k = _; rw [← ek, sL_step, if_neg c_20, if_neg c_30, hc, if_neg c_109]
                exact ih (k + 1) _ _ _ _ _ _ (by omega) (by omega) (by rw [e4]; exact nI_1 k) eS hP hD hS (lv_sub hl [2, 3, 4, 5, 0] rfl)
              · refine lv_aload_n hx hb d_L_watch_112 rfl (lv_at hl 1 rfl) ?_
                refine lv_dup hx hb d_L_watch_113 rfl ?_
                refine va_get (D := D) (ci := 3) (v := .int (Y 7 10)) (C := R_L) (T := F_L) (N := 11) hx hb hts i_L hown hK hP 7 rfl rfl 10 (by decide) (hts _ tw_85) (fun _ h9 => h9) rfl d_L_watch_114 ?_
                refine lv_iconst (v := 1) hx hb d_L_watch_117 (by decide) ?_
                refine lv_iadd hx hb d_L_watch_118 ?_
                refine va_put (D := D) (ci := 3) (v := .int ((Y 7 10) + 1)) (ty := .int) (C := R_L) (T := F_L) (N := 11) hx hb hts i_L t_L t_L_ok n_L hown hK hP hD hS 7 rfl rfl 10 (by decide) (hts _ tw_85) (fun _ h9 => h9) rfl (t_L_ok 10 (by decide)) rfl rfl (Nat.le_of_ble_eq_true rfl) d_L_watch_119 (fun H locs hP hD hS => ?_)
                have hP : va_P D classes ((wC cA h Rw) (pt (pt Y 16 (ix x4) (((Y 16) (ix x4)) + 1)) 7 10 ((Y 7 10) + 1))) H := hP
                have hD : va_D A ((wC cA h Rw) (pt (pt Y 16 (ix x4) (((Y 16) (ix x4)) + 1)) 7 10 ((Y 7 10) + 1))) := hD
                refine lv_aload_n hx hb d_L_watch_122 rfl (lv_at hl 3 rfl) ?_
                refine lv_aload_n hx hb d_L_watch_123 rfl (lv_at hl 1 rfl) ?_
                refine va_get (D := D) (ci := 3) (v := .ref (h 15)) (C := R_L) (T := F_L) (N := 11) hx hb hts i_L hown hK hP 7 rfl rfl 7 (by decide) (hts _ tw_78) (fun _ h9 => h9) rfl d_L_watch_124 ?_
                refine lv_iload hx hb d_L_watch_127 (lv_at hl 5 rfl) ?_
                refine va_iald (f := (Y 15)) hx hb hK hP 15 0 rfl rfl (by first | assumption | exact vi256_lt (by assumption) (by assumption) | exact vi256_nle (by assumption) (by assumption) | exact vi256_le (by assumption) (by assumption)) d_L_watch_129 ?_
                refine lv_iload hx hb d_L_watch_130 (lv_at hl 0 rfl) ?_
                refine cV (rr := ((sE_raise (pt (pt Y 16 (ix x4) (((Y 16) (ix x4)) + 1)) 7 10 ((Y 7 10) + 1)) ((Y 15) (ix x4)) (Y 2 (ix (Y 11 (ix x4)))))).1) (X' := (((sE_raise (pt (pt Y 16 (ix x4) (((Y 16) (ix x4)) + 1)) 7 10 ((Y 7 10) + 1)) ((Y 15) (ix x4)) (Y 2 (ix (Y 11 (ix x4)))))).2)) (c_E_raise l D cA h Rw (pt (pt Y 16 (ix x4) (((Y 16) (ix x4)) + 1)) 7 10 ((Y 7 10) + 1)) ((Y 15) (ix x4)) (Y 2 (ix (Y 11 (ix x4)))) hrk) lk_L_60 hx hb hml hown hts hKK hP hD hS hA hl.1 3 rfl rfl rfl ⟨by decide, by decide⟩ ⟨Nat.le_refl _, Nat.le_refl _⟩ rfl wC_adr rfl (Nat.le_of_ble_eq_true rfl) d_L_watch_132 (fun H locs hP hD hS => ?_)
                refine lv_istore (lv' := [(6, .int (((sE_raise (pt (pt Y 16 (ix x4) (((Y 16) (ix x4)) + 1)) 7 10 ((Y 7 10) + 1)) ((Y 15) (ix x4)) (Y 2 (ix (Y 11 (ix x4)))))).1)), (5, .int (Y 2 (ix (Y 11 (ix x4))))), (0, .ref (h 7)), (1, .ref (h 1)), (2, .ref (h 3)), (3, .int x3), (4, .int x4)]) hx hb d_L_watch_135 hl (by decide) rfl (fun ls hl => ?_)
                refine lv_iload_n hx hb d_L_watch_137 rfl (lv_at hl 5 rfl) ?_
                refine lv_aload_n hx hb d_L_watch_138 rfl (lv_at hl 2 rfl) ?_
                refine va_get (D := D) (ci := 3) (v := .ref (h 10)) (C := R_L) (T := F_L) (N := 11) hx hb hts i_L hown hK hP 7 rfl rfl 2 (by decide) (hts _ tw_70) (fun _ h9 => h9) rfl d_L_watch_139 ?_
                refine lv_iload hx hb d_L_watch_142 (lv_at hl 6 rfl) ?_
                refine va_zald (f := ((((sE_raise (pt (pt Y 16 (ix x4) (((Y 16) (ix x4)) + 1)) 7 10 ((Y 7 10) + 1)) ((Y 15) (ix x4)) (Y 2 (ix (Y 11 (ix x4)))))).2) 10)) hx hb hK hP 10 1 rfl rfl (by first | assumption | exact vi256_lt (by assumption) (by assumption) | exact vi256_nle (by assumption) (by assumption) | exact vi256_le (by assumption) (by assumption)) d_L_watch_144 ?_
                refine lv_ior hx hb d_L_watch_145 ?_
                refine lv_istore_n (lv' := [(3, .int (x3 ||| (((((sE_raise (pt (pt Y 16 (ix x4) (((Y 16) (ix x4)) + 1)) 7 10 ((Y 7 10) + 1)) ((Y 15) (ix x4)) (Y 2 (ix (Y 11 (ix x4)))))).2) 10) (ix x4)))), (6, .int (((sE_raise (pt (pt Y 16 (ix x4) (((Y 16) (ix x4)) + 1)) 7 10 ((Y 7 10) + 1)) ((Y 15) (ix x4)) (Y 2 (ix (Y 11 (ix x4)))))).1)), (5, .int (Y 2 (ix (Y 11 (ix x4))))), (0, .ref (h 7)), (1, .ref (h 1)), (2, .ref (h 3)), (4, .int x4)]) hx hb d_L_watch_146 rfl hl (by decide) rfl (fun ls hl => ?_)
                refine lv_iinc (v := (x4 + 1)) (lv' := [(4, .int (x4 + 1)), (3, .int (x3 ||| (((((sE_raise (pt (pt Y 16 (ix x4) (((Y 16) (ix x4)) + 1)) 7 10 ((Y 7 10) + 1)) ((Y 15) (ix x4)) (Y 2 (ix (Y 11 (ix x4)))))).2) 10) (ix x4)))), (6, .int (((sE_raise (pt (pt Y 16 (ix x4) (((Y 16) (ix x4)) + 1)) 7 10 ((Y 7 10) + 1)) ((Y 15) (ix x4)) (Y 2 (ix (Y 11 (ix x4)))))).1)), (5, .int (Y 2 (ix (Y 11 (ix x4))))), (0, .ref (h 7)), (1, .ref (h 1)), (2, .ref (h 3))]) hx hb d_L_watch_147 hl (k := 6) rfl rfl (by decide) rfl (fun ls hl => ?_)
                refine lv_goto (tgt := 5) hx hb d_L_watch_150 (by decide) ?_
                have eS : sL_it X (k + 1) = ((x3 ||| (((((sE_raise (pt (pt Y 16 (ix x4) (((Y 16) (ix x4)) + 1)) 7 10 ((Y 7 10) + 1)) ((Y 15) (ix x4)) (Y 2 (ix (Y 11 (ix x4)))))).2) 10) (ix x4))), ((sE_raise (pt (pt Y 16 (ix x4) (((Y 16) (ix x4)) + 1)) 7 10 ((Y 7 10) + 1)) ((Y 15) (ix x4)) (Y 2 (ix (Y 11 (ix x4)))))).2) := by show sL_step (sL_it X k).2 (sL_it X k).1 k = _; rw [eY]; show sL_step Y x3 k = _; rw [← ek, sL_step, if_neg c_20, if_neg c_30, hc, if_pos c_109]
                exact ih (k + 1) _ _ _ _ _ _ (by omega) (by omega) (by rw [e4]; exact nI_1 k) eS hP hD hS (lv_sub hl [4, 5, 6, 1, 0] rfl)
            · refine lv_iload hx hb d_L_watch_69 (lv_at hl 0 rfl) ?_
              refine lv_aload_n hx hb d_L_watch_71 rfl (lv_at hl 1 rfl) ?_
              refine va_get (D := D) (ci := 3) (v := .ref (h 14)) (C := R_L) (T := F_L) (N := 11) hx hb hts i_L hown hK hP 7 rfl rfl 6 (by decide) (hts _ tw_77) (fun _ h9 => h9) rfl d_L_watch_72 ?_
              refine lv_iload hx hb d_L_watch_75 (lv_at hl 5 rfl) ?_
              refine va_iald (f := (Y 14)) hx hb hK hP 14 0 rfl rfl (by first | assumption | exact vi256_lt (by assumption) (by assumption) | exact vi256_nle (by assumption) (by assumption) | exact vi256_le (by assumption) (by assumption)) d_L_watch_77 ?_
              refine lv_icmp_gt (tgt := 85) hx hb d_L_watch_78 (by decide) (fun c_78 => ?_) (fun c_78 => ?_)
              · have hc : sL_c Y (Y 2 (ix (Y 11 (ix x4)))) (ix x4) = Y 16 (ix x4) + 1 := by rw [sL_c, if_neg c_66, if_pos c_78]
                refine lv_aload_n hx hb d_L_watch_85 rfl (lv_at hl 1 rfl) ?_
                refine va_get (D := D) (ci := 3) (v := .ref (h 16)) (C := R_L) (T := F_L) (N := 11) hx hb hts i_L hown hK hP 7 rfl rfl 8 (by decide) (hts _ tw_80) (fun _ h9 => h9) rfl d_L_watch_86 ?_
                refine lv_iload hx hb d_L_watch_89 (lv_at hl 5 rfl) ?_
                refine va_iald (f := (Y 16)) hx hb hK hP 16 0 rfl rfl (by first | assumption | exact vi256_lt (by assumption) (by assumption) | exact vi256_nle (by assumption) (by assumption) | exact vi256_le (by assumption) (by assumption)) d_L_watch_91 ?_
                refine lv_iconst (v := 1) hx hb d_L_watch_92 (by decide) ?_
                refine lv_iadd hx hb d_L_watch_93 ?_
                refine va_iast (f := (Y 16)) hx hb hK hP hD hS 16 0 rfl rfl (by first | assumption | exact vi256_lt (by assumption) (by assumption) | exact vi256_nle (by assumption) (by assumption) | exact vi256_le (by assumption) (by assumption)) d_L_watch_94 (fun H locs hP hD hS => ?_)
                have hP : va_P D classes ((wC cA h Rw) (pt Y 16 (ix x4) (((Y 16) (ix x4)) + 1))) H := hP
                have hD : va_D A ((wC cA h Rw) (pt Y 16 (ix x4) (((Y 16) (ix x4)) + 1))) := hD
                refine lv_aload_n hx hb d_L_watch_95 rfl (lv_at hl 1 rfl) ?_
                refine va_get (D := D) (ci := 3) (v := .ref (h 16)) (C := R_L) (T := F_L) (N := 11) hx hb hts i_L hown hK hP 7 rfl rfl 8 (by decide) (hts _ tw_80) (fun _ h9 => h9) rfl d_L_watch_96 ?_
                refine lv_iload hx hb d_L_watch_99 (lv_at hl 5 rfl) ?_
                refine va_iald (f := (upd (Y 16) (ix x4) (((Y 16) (ix x4)) + 1))) hx hb hK hP 16 0 rfl rfl (by first | assumption | exact vi256_lt (by assumption) (by assumption) | exact vi256_nle (by assumption) (by assumption) | exact vi256_le (by assumption) (by assumption)) d_L_watch_101 ?_
                refine lv_topi (fun yc ey => ?_)
                rw [pk_us] at ey
                subst ey
                refine lv_aload_n hx hb d_L_watch_102 rfl (lv_at hl 1 rfl) ?_
                refine va_get (D := D) (ci := 3) (v := .ref (h 12)) (C := R_L) (T := F_L) (N := 11) hx hb hts i_L hown hK hP 7 rfl rfl 4 (by decide) (hts _ tw_74) (fun _ h9 => h9) rfl d_L_watch_103 ?_
                refine lv_iload hx hb d_L_watch_106 (lv_at hl 5 rfl) ?_
                refine va_iald (f := (Y 12)) hx hb hK hP 12 0 rfl rfl (by first | assumption | exact vi256_lt (by assumption) (by assumption) | exact vi256_nle (by assumption) (by assumption) | exact vi256_le (by assumption) (by assumption)) d_L_watch_108 ?_
                refine lv_icmp_ne (tgt := 147) hx hb d_L_watch_109 (by decide) (fun c_109 => ?_) (fun c_109 => ?_)
                · refine lv_iinc (v := (x4 + 1)) (lv' := [(4, .int (x4 + 1)), (5, .int (Y 2 (ix (Y 11 (ix x4))))), (0, .ref (h 7)), (1, .ref (h 1)), (2, .ref (h 3)), (3, .int x3)]) hx hb d_L_watch_147 hl (k := 5) rfl rfl (by decide) rfl (fun ls hl => ?_)
                  refine lv_goto (tgt := 5) hx hb d_L_watch_150 (by decide) ?_
                  have eS : sL_it X (k + 1) = (x3, (pt Y 16 (ix x4) (((Y 16) (ix x4)) + 1))) := by show sL_step (sL_it X k).2 (sL_it X k).1 k = _; rw [eY]; show sL_step Y x3 k = _; rw [← ek, sL_step, if_neg c_20, if_neg c_30, hc, if_neg c_109]
                  exact ih (k + 1) _ _ _ _ _ _ (by omega) (by omega) (by rw [e4]; exact nI_1 k) eS hP hD hS (lv_sub hl [2, 3, 4, 5, 0] rfl)
                · refine lv_aload_n hx hb d_L_watch_112 rfl (lv_at hl 1 rfl) ?_
                  refine lv_dup hx hb d_L_watch_113 rfl ?_
                  refine va_get (D := D) (ci := 3) (v := .int (Y 7 10)) (C := R_L) (T := F_L) (N := 11) hx hb hts i_L hown hK hP 7 rfl rfl 10 (by decide) (hts _ tw_85) (fun _ h9 => h9) rfl d_L_watch_114 ?_
                  refine lv_iconst (v := 1) hx hb d_L_watch_117 (by decide) ?_
                  refine lv_iadd hx hb d_L_watch_118 ?_
                  refine va_put (D := D) (ci := 3) (v := .int ((Y 7 10) + 1)) (ty := .int) (C := R_L) (T := F_L) (N := 11) hx hb hts i_L t_L t_L_ok n_L hown hK hP hD hS 7 rfl rfl 10 (by decide) (hts _ tw_85) (fun _ h9 => h9) rfl (t_L_ok 10 (by decide)) rfl rfl (Nat.le_of_ble_eq_true rfl) d_L_watch_119 (fun H locs hP hD hS => ?_)
                  have hP : va_P D classes ((wC cA h Rw) (pt (pt Y 16 (ix x4) (((Y 16) (ix x4)) + 1)) 7 10 ((Y 7 10) + 1))) H := hP
                  have hD : va_D A ((wC cA h Rw) (pt (pt Y 16 (ix x4) (((Y 16) (ix x4)) + 1)) 7 10 ((Y 7 10) + 1))) := hD
                  refine lv_aload_n hx hb d_L_watch_122 rfl (lv_at hl 3 rfl) ?_
                  refine lv_aload_n hx hb d_L_watch_123 rfl (lv_at hl 1 rfl) ?_
                  refine va_get (D := D) (ci := 3) (v := .ref (h 15)) (C := R_L) (T := F_L) (N := 11) hx hb hts i_L hown hK hP 7 rfl rfl 7 (by decide) (hts _ tw_78) (fun _ h9 => h9) rfl d_L_watch_124 ?_
                  refine lv_iload hx hb d_L_watch_127 (lv_at hl 5 rfl) ?_
                  refine va_iald (f := (Y 15)) hx hb hK hP 15 0 rfl rfl (by first | assumption | exact vi256_lt (by assumption) (by assumption) | exact vi256_nle (by assumption) (by assumption) | exact vi256_le (by assumption) (by assumption)) d_L_watch_129 ?_
                  refine lv_iload hx hb d_L_watch_130 (lv_at hl 0 rfl) ?_
                  refine cV (rr := ((sE_raise (pt (pt Y 16 (ix x4) (((Y 16) (ix x4)) + 1)) 7 10 ((Y 7 10) + 1)) ((Y 15) (ix x4)) (Y 2 (ix (Y 11 (ix x4)))))).1) (X' := (((sE_raise (pt (pt Y 16 (ix x4) (((Y 16) (ix x4)) + 1)) 7 10 ((Y 7 10) + 1)) ((Y 15) (ix x4)) (Y 2 (ix (Y 11 (ix x4)))))).2)) (c_E_raise l D cA h Rw (pt (pt Y 16 (ix x4) (((Y 16) (ix x4)) + 1)) 7 10 ((Y 7 10) + 1)) ((Y 15) (ix x4)) (Y 2 (ix (Y 11 (ix x4)))) hrk) lk_L_60 hx hb hml hown hts hKK hP hD hS hA hl.1 3 rfl rfl rfl ⟨by decide, by decide⟩ ⟨Nat.le_refl _, Nat.le_refl _⟩ rfl wC_adr rfl (Nat.le_of_ble_eq_true rfl) d_L_watch_132 (fun H locs hP hD hS => ?_)
                  refine lv_istore (lv' := [(6, .int (((sE_raise (pt (pt Y 16 (ix x4) (((Y 16) (ix x4)) + 1)) 7 10 ((Y 7 10) + 1)) ((Y 15) (ix x4)) (Y 2 (ix (Y 11 (ix x4)))))).1)), (5, .int (Y 2 (ix (Y 11 (ix x4))))), (0, .ref (h 7)), (1, .ref (h 1)), (2, .ref (h 3)), (3, .int x3), (4, .int x4)]) hx hb d_L_watch_135 hl (by decide) rfl (fun ls hl => ?_)
                  refine lv_iload_n hx hb d_L_watch_137 rfl (lv_at hl 5 rfl) ?_
                  refine lv_aload_n hx hb d_L_watch_138 rfl (lv_at hl 2 rfl) ?_
                  refine va_get (D := D) (ci := 3) (v := .ref (h 10)) (C := R_L) (T := F_L) (N := 11) hx hb hts i_L hown hK hP 7 rfl rfl 2 (by decide) (hts _ tw_70) (fun _ h9 => h9) rfl d_L_watch_139 ?_
                  refine lv_iload hx hb d_L_watch_142 (lv_at hl 6 rfl) ?_
                  refine va_zald (f := ((((sE_raise (pt (pt Y 16 (ix x4) (((Y 16) (ix x4)) + 1)) 7 10 ((Y 7 10) + 1)) ((Y 15) (ix x4)) (Y 2 (ix (Y 11 (ix x4)))))).2) 10)) hx hb hK hP 10 1 rfl rfl (by first | assumption | exact vi256_lt (by assumption) (by assumption) | exact vi256_nle (by assumption) (by assumption) | exact vi256_le (by assumption) (by assumption)) d_L_watch_144 ?_
                  refine lv_ior hx hb d_L_watch_145 ?_
                  refine lv_istore_n (lv' := [(3, .int (x3 ||| (((((sE_raise (pt (pt Y 16 (ix x4) (((Y 16) (ix x4)) + 1)) 7 10 ((Y 7 10) + 1)) ((Y 15) (ix x4)) (Y 2 (ix (Y 11 (ix x4)))))).2) 10) (ix x4)))), (6, .int (((sE_raise (pt (pt Y 16 (ix x4) (((Y 16) (ix x4)) + 1)) 7 10 ((Y 7 10) + 1)) ((Y 15) (ix x4)) (Y 2 (ix (Y 11 (ix x4)))))).1)), (5, .int (Y 2 (ix (Y 11 (ix x4))))), (0, .ref (h 7)), (1, .ref (h 1)), (2, .ref (h 3)), (4, .int x4)]) hx hb d_L_watch_146 rfl hl (by decide) rfl (fun ls hl => ?_)
                  refine lv_iinc (v := (x4 + 1)) (lv' := [(4, .int (x4 + 1)), (3, .int (x3 ||| (((((sE_raise (pt (pt Y 16 (ix x4) (((Y 16) (ix x4)) + 1)) 7 10 ((Y 7 10) + 1)) ((Y 15) (ix x4)) (Y 2 (ix (Y 11 (ix x4)))))).2) 10) (ix x4)))), (6, .int (((sE_raise (pt (pt Y 16 (ix x4) (((Y 16) (ix x4)) + 1)) 7 10 ((Y 7 10) + 1)) ((Y 15) (ix x4)) (Y 2 (ix (Y 11 (ix x4)))))).1)), (5, .int (Y 2 (ix (Y 11 (ix x4))))), (0, .ref (h 7)), (1, .ref (h 1)), (2, .ref (h 3))]) hx hb d_L_watch_147 hl (k := 6) rfl rfl (by decide) rfl (fun ls hl => ?_)
                  refine lv_goto (tgt := 5) hx hb d_L_watch_150 (by decide) ?_
                  have eS : sL_it X (k + 1) = ((x3 ||| (((((sE_raise (pt (pt Y 16 (ix x4) (((Y 16) (ix x4)) + 1)) 7 10 ((Y 7 10) + 1)) ((Y 15) (ix x4)) (Y 2 (ix (Y 11 (ix x4)))))).2) 10) (ix x4))), ((sE_raise (pt (pt Y 16 (ix x4) (((Y 16) (ix x4)) + 1)) 7 10 ((Y 7 10) + 1)) ((Y 15) (ix x4)) (Y 2 (ix (Y 11 (ix x4)))))).2) := by show sL_step (sL_it X k).2 (sL_it X k).1 k = _; rw [eY]; show sL_step Y x3 k = _; rw [← ek, sL_step, if_neg c_20, if_neg c_30, hc, if_pos c_109]
                  exact ih (k + 1) _ _ _ _ _ _ (by omega) (by omega) (by rw [e4]; exact nI_1 k) eS hP hD hS (lv_sub hl [4, 5, 6, 1, 0] rfl)
              · have hc : sL_c Y (Y 2 (ix (Y 11 (ix x4)))) (ix x4) = 0 := by rw [sL_c, if_neg c_66, if_neg c_78]
                refine lv_iconst (v := 0) hx hb d_L_watch_81 (by decide) ?_
                refine lv_goto (tgt := 94) hx hb d_L_watch_82 (by decide) ?_
                refine va_iast (f := (Y 16)) hx hb hK hP hD hS 16 0 rfl rfl (by first | assumption | exact vi256_lt (by assumption) (by assumption) | exact vi256_nle (by assumption) (by assumption) | exact vi256_le (by assumption) (by assumption)) d_L_watch_94 (fun H locs hP hD hS => ?_)
                have hP : va_P D classes ((wC cA h Rw) (pt Y 16 (ix x4) 0)) H := hP
                have hD : va_D A ((wC cA h Rw) (pt Y 16 (ix x4) 0)) := hD
                refine lv_aload_n hx hb d_L_watch_95 rfl (lv_at hl 1 rfl) ?_
                refine va_get (D := D) (ci := 3) (v := .ref (h 16)) (C := R_L) (T := F_L) (N := 11) hx hb hts i_L hown hK hP 7 rfl rfl 8 (by decide) (hts _ tw_80) (fun _ h9 => h9) rfl d_L_watch_96 ?_
                refine lv_iload hx hb d_L_watch_99 (lv_at hl 5 rfl) ?_
                refine va_iald (f := (upd (Y 16) (ix x4) 0)) hx hb hK hP 16 0 rfl rfl (by first | assumption | exact vi256_lt (by assumption) (by assumption) | exact vi256_nle (by assumption) (by assumption) | exact vi256_le (by assumption) (by assumption)) d_L_watch_101 ?_
                refine lv_topi (fun yc ey => ?_)
                rw [pk_us] at ey
                subst ey
                refine lv_aload_n hx hb d_L_watch_102 rfl (lv_at hl 1 rfl) ?_
                refine va_get (D := D) (ci := 3) (v := .ref (h 12)) (C := R_L) (T := F_L) (N := 11) hx hb hts i_L hown hK hP 7 rfl rfl 4 (by decide) (hts _ tw_74) (fun _ h9 => h9) rfl d_L_watch_103 ?_
                refine lv_iload hx hb d_L_watch_106 (lv_at hl 5 rfl) ?_
                refine va_iald (f := (Y 12)) hx hb hK hP 12 0 rfl rfl (by first | assumption | exact vi256_lt (by assumption) (by assumption) | exact vi256_nle (by assumption) (by assumption) | exact vi256_le (by assumption) (by assumption)) d_L_watch_108 ?_
                refine lv_icmp_ne (tgt := 147) hx hb d_L_watch_109 (by decide) (fun c_109 => ?_) (fun c_109 => ?_)
                · refine lv_iinc (v := (x4 + 1)) (lv' := [(4, .int (x4 + 1)), (5, .int (Y 2 (ix (Y 11 (ix x4))))), (0, .ref (h 7)), (1, .ref (h 1)), (2, .ref (h 3)), (3, .int x3)]) hx hb d_L_watch_147 hl (k := 5) rfl rfl (by decide) rfl (fun ls hl => ?_)
                  refine lv_goto (tgt := 5) hx hb d_L_watch_150 (by decide) ?_
                  have eS : sL_it X (k + 1) = (x3, (pt Y 16 (ix x4) 0)) := by show sL_step (sL_it X k).2 (sL_it X k).1 k = _; rw [eY]; show sL_step Y x3 k = _; rw [← ek, sL_step, if_neg c_20, if_neg c_30, hc, if_neg c_109]
                  exact ih (k + 1) _ _ _ _ _ _ (by omega) (by omega) (by rw [e4]; exact nI_1 k) eS hP hD hS (lv_sub hl [2, 3, 4, 5, 0] rfl)
                · refine lv_aload_n hx hb d_L_watch_112 rfl (lv_at hl 1 rfl) ?_
                  refine lv_dup hx hb d_L_watch_113 rfl ?_
                  refine va_get (D := D) (ci := 3) (v := .int (Y 7 10)) (C := R_L) (T := F_L) (N := 11) hx hb hts i_L hown hK hP 7 rfl rfl 10 (by decide) (hts _ tw_85) (fun _ h9 => h9) rfl d_L_watch_114 ?_
                  refine lv_iconst (v := 1) hx hb d_L_watch_117 (by decide) ?_
                  refine lv_iadd hx hb d_L_watch_118 ?_
                  refine va_put (D := D) (ci := 3) (v := .int ((Y 7 10) + 1)) (ty := .int) (C := R_L) (T := F_L) (N := 11) hx hb hts i_L t_L t_L_ok n_L hown hK hP hD hS 7 rfl rfl 10 (by decide) (hts _ tw_85) (fun _ h9 => h9) rfl (t_L_ok 10 (by decide)) rfl rfl (Nat.le_of_ble_eq_true rfl) d_L_watch_119 (fun H locs hP hD hS => ?_)
                  have hP : va_P D classes ((wC cA h Rw) (pt (pt Y 16 (ix x4) 0) 7 10 ((Y 7 10) + 1))) H := hP
                  have hD : va_D A ((wC cA h Rw) (pt (pt Y 16 (ix x4) 0) 7 10 ((Y 7 10) + 1))) := hD
                  refine lv_aload_n hx hb d_L_watch_122 rfl (lv_at hl 3 rfl) ?_
                  refine lv_aload_n hx hb d_L_watch_123 rfl (lv_at hl 1 rfl) ?_
                  refine va_get (D := D) (ci := 3) (v := .ref (h 15)) (C := R_L) (T := F_L) (N := 11) hx hb hts i_L hown hK hP 7 rfl rfl 7 (by decide) (hts _ tw_78) (fun _ h9 => h9) rfl d_L_watch_124 ?_
                  refine lv_iload hx hb d_L_watch_127 (lv_at hl 5 rfl) ?_
                  refine va_iald (f := (Y 15)) hx hb hK hP 15 0 rfl rfl (by first | assumption | exact vi256_lt (by assumption) (by assumption) | exact vi256_nle (by assumption) (by assumption) | exact vi256_le (by assumption) (by assumption)) d_L_watch_129 ?_
                  refine lv_iload hx hb d_L_watch_130 (lv_at hl 0 rfl) ?_
                  refine cV (rr := ((sE_raise (pt (pt Y 16 (ix x4) 0) 7 10 ((Y 7 10) + 1)) ((Y 15) (ix x4)) (Y 2 (ix (Y 11 (ix x4)))))).1) (X' := (((sE_raise (pt (pt Y 16 (ix x4) 0) 7 10 ((Y 7 10) + 1)) ((Y 15) (ix x4)) (Y 2 (ix (Y 11 (ix x4)))))).2)) (c_E_raise l D cA h Rw (pt (pt Y 16 (ix x4) 0) 7 10 ((Y 7 10) + 1)) ((Y 15) (ix x4)) (Y 2 (ix (Y 11 (ix x4)))) hrk) lk_L_60 hx hb hml hown hts hKK hP hD hS hA hl.1 3 rfl rfl rfl ⟨by decide, by decide⟩ ⟨Nat.le_refl _, Nat.le_refl _⟩ rfl wC_adr rfl (Nat.le_of_ble_eq_true rfl) d_L_watch_132 (fun H locs hP hD hS => ?_)
                  refine lv_istore (lv' := [(6, .int (((sE_raise (pt (pt Y 16 (ix x4) 0) 7 10 ((Y 7 10) + 1)) ((Y 15) (ix x4)) (Y 2 (ix (Y 11 (ix x4)))))).1)), (5, .int (Y 2 (ix (Y 11 (ix x4))))), (0, .ref (h 7)), (1, .ref (h 1)), (2, .ref (h 3)), (3, .int x3), (4, .int x4)]) hx hb d_L_watch_135 hl (by decide) rfl (fun ls hl => ?_)
                  refine lv_iload_n hx hb d_L_watch_137 rfl (lv_at hl 5 rfl) ?_
                  refine lv_aload_n hx hb d_L_watch_138 rfl (lv_at hl 2 rfl) ?_
                  refine va_get (D := D) (ci := 3) (v := .ref (h 10)) (C := R_L) (T := F_L) (N := 11) hx hb hts i_L hown hK hP 7 rfl rfl 2 (by decide) (hts _ tw_70) (fun _ h9 => h9) rfl d_L_watch_139 ?_
                  refine lv_iload hx hb d_L_watch_142 (lv_at hl 6 rfl) ?_
                  refine va_zald (f := ((((sE_raise (pt (pt Y 16 (ix x4) 0) 7 10 ((Y 7 10) + 1)) ((Y 15) (ix x4)) (Y 2 (ix (Y 11 (ix x4)))))).2) 10)) hx hb hK hP 10 1 rfl rfl (by first | assumption | exact vi256_lt (by assumption) (by assumption) | exact vi256_nle (by assumption) (by assumption) | exact vi256_le (by assumption) (by assumption)) d_L_watch_144 ?_
                  refine lv_ior hx hb d_L_watch_145 ?_
                  refine lv_istore_n (lv' := [(3, .int (x3 ||| (((((sE_raise (pt (pt Y 16 (ix x4) 0) 7 10 ((Y 7 10) + 1)) ((Y 15) (ix x4)) (Y 2 (ix (Y 11 (ix x4)))))).2) 10) (ix x4)))), (6, .int (((sE_raise (pt (pt Y 16 (ix x4) 0) 7 10 ((Y 7 10) + 1)) ((Y 15) (ix x4)) (Y 2 (ix (Y 11 (ix x4)))))).1)), (5, .int (Y 2 (ix (Y 11 (ix x4))))), (0, .ref (h 7)), (1, .ref (h 1)), (2, .ref (h 3)), (4, .int x4)]) hx hb d_L_watch_146 rfl hl (by decide) rfl (fun ls hl => ?_)
                  refine lv_iinc (v := (x4 + 1)) (lv' := [(4, .int (x4 + 1)), (3, .int (x3 ||| (((((sE_raise (pt (pt Y 16 (ix x4) 0) 7 10 ((Y 7 10) + 1)) ((Y 15) (ix x4)) (Y 2 (ix (Y 11 (ix x4)))))).2) 10) (ix x4)))), (6, .int (((sE_raise (pt (pt Y 16 (ix x4) 0) 7 10 ((Y 7 10) + 1)) ((Y 15) (ix x4)) (Y 2 (ix (Y 11 (ix x4)))))).1)), (5, .int (Y 2 (ix (Y 11 (ix x4))))), (0, .ref (h 7)), (1, .ref (h 1)), (2, .ref (h 3))]) hx hb d_L_watch_147 hl (k := 6) rfl rfl (by decide) rfl (fun ls hl => ?_)
                  refine lv_goto (tgt := 5) hx hb d_L_watch_150 (by decide) ?_
                  have eS : sL_it X (k + 1) = ((x3 ||| (((((sE_raise (pt (pt Y 16 (ix x4) 0) 7 10 ((Y 7 10) + 1)) ((Y 15) (ix x4)) (Y 2 (ix (Y 11 (ix x4)))))).2) 10) (ix x4))), ((sE_raise (pt (pt Y 16 (ix x4) 0) 7 10 ((Y 7 10) + 1)) ((Y 15) (ix x4)) (Y 2 (ix (Y 11 (ix x4)))))).2) := by show sL_step (sL_it X k).2 (sL_it X k).1 k = _; rw [eY]; show sL_step Y x3 k = _; rw [← ek, sL_step, if_neg c_20, if_neg c_30, hc, if_pos c_109]
                  exact ih (k + 1) _ _ _ _ _ _ (by omega) (by omega) (by rw [e4]; exact nI_1 k) eS hP hD hS (lv_sub hl [4, 5, 6, 1, 0] rfl)
          · refine lv_goto (tgt := 147) hx hb d_L_watch_33 (by decide) ?_
            refine lv_iinc (v := (x4 + 1)) (lv' := [(4, .int (x4 + 1)), (0, .ref (h 7)), (1, .ref (h 1)), (2, .ref (h 3)), (3, .int x3)]) hx hb d_L_watch_147 hl (k := 4) rfl rfl (by decide) rfl (fun ls hl => ?_)
            refine lv_goto (tgt := 5) hx hb d_L_watch_150 (by decide) ?_
            have eS : sL_it X (k + 1) = (x3, Y) := by show sL_step (sL_it X k).2 (sL_it X k).1 k = _; rw [eY]; show sL_step Y x3 k = _; rw [← ek, sL_step, if_neg c_20, if_pos c_30]
            exact ih (k + 1) _ _ _ _ _ _ (by omega) (by omega) (by rw [e4]; exact nI_1 k) eS hP hD hS (lv_sub hl [1, 2, 3, 4, 0] rfl)
  exact loop 257 0 _ _ _ _ _ _ (by decide) (by decide) nI_0.symm rfl hP hD hS (lv_sub hl [2, 3, 4, 1, 0] rfl)
set_option maxHeartbeats 4000000 in
set_option maxRecDepth 100000 in
theorem c_C_watch (l : Launch) (D : va_G) (cA : Nat → ClassId) (h : Nat → Nat) (Rw X : Sg) (hp : ∀ k, k < 256 → vp_in ((sL_it X k).2 11 k) 32) (hr : ∀ k, k < 256 → vp_in (sE_k (sL_it X k).2) 64) (hz : isZ (sL_watch X).1) : Ct l y_C_watch b_C_watch 2 (some .int) 2 49 D cA [.ref (h 0)] (wC cA h Rw) X (sC_watch X) := by
  refine Ct.of rfl rfl (by decide +kernel) (Nat.le_of_ble_eq_true rfl) ?_
  intro p e s m below meth c A Q ls hx hb hml hown hts hKK hP hD hA hS hend hl
  have hown : s.vm.findClass R_C = some m.cls := hown
  have hl : lv_has ls 2 [(0, .ref (h 0))] := hl
  have hK := hKK.1
  obtain ⟨r9, Y9, e9⟩ : ∃ r Y, sL_watch X = (r, Y) := ⟨_, _, Prod.eta _ |>.symm⟩
  have hz9 : isZ r9 := by have := hz; rw [e9] at this; exact this
  refine lv_aload_n hx hb d_C_watch_0 rfl (lv_at hl 0 rfl) ?_
  refine va_get (D := D) (ci := 0) (v := .ref (h 7)) (C := R_C) (T := F_C) (N := 7) hx hb hts i_C hown hK hP 0 rfl rfl 2 (by decide) (hts _ tw_133) (fun _ h9 => h9) rfl d_C_watch_1 ?_
  refine va_getN (D := D) (ci := 3) (v := .int (X 7 10)) (C := R_L) (T := F_L) (N := 11) hx hb hts i_L hown hK hP 7 rfl rfl 10 (by decide) (hKK.nest (nestW_in tn_84 rfl) rfl) (fun _ h9 => h9) rfl d_C_watch_4 ?_
  refine lv_istore_n (lv' := [(1, .int (X 7 10)), (0, .ref (h 0))]) hx hb d_C_watch_7 rfl hl (by decide) rfl (fun ls hl => ?_)
  refine lv_aload_n hx hb d_C_watch_8 rfl (lv_at hl 1 rfl) ?_
  refine lv_aload_n hx hb d_C_watch_9 rfl (lv_at hl 1 rfl) ?_
  refine va_get (D := D) (ci := 0) (v := .ref (h 7)) (C := R_C) (T := F_C) (N := 7) hx hb hts i_C hown hK hP 0 rfl rfl 2 (by decide) (hts _ tw_133) (fun _ h9 => h9) rfl d_C_watch_10 ?_
  refine lv_aload_n hx hb d_C_watch_13 rfl (lv_at hl 1 rfl) ?_
  refine va_get (D := D) (ci := 0) (v := .ref (h 1)) (C := R_C) (T := F_C) (N := 7) hx hb hts i_C hown hK hP 0 rfl rfl 0 (by decide) (hts _ tw_131) (fun _ h9 => h9) rfl d_C_watch_14 ?_
  refine lv_aload_n hx hb d_C_watch_17 rfl (lv_at hl 1 rfl) ?_
  refine va_get (D := D) (ci := 0) (v := .ref (h 3)) (C := R_C) (T := F_C) (N := 7) hx hb hts i_C hown hK hP 0 rfl rfl 1 (by decide) (hts _ tw_132) (fun _ h9 => h9) rfl d_C_watch_18 ?_
  refine cV (rr := r9) (X' := Y9) (c_L_watch l D cA h Rw X hp hr hz) lk_C_60 hx hb hml hown hts hKK hP hD hS hA hl.1 7 rfl rfl rfl ⟨by decide, by decide⟩ ⟨Nat.le_refl _, Nat.le_refl _⟩ e9 wC_adr rfl (Nat.le_of_ble_eq_true rfl) d_C_watch_21 (fun H locs hP hD hS => ?_)
  refine va_put (D := D) (ci := 0) (v := .int r9) (ty := .boolean) (C := R_C) (T := F_C) (N := 7) hx hb hts i_C t_C t_C_ok n_C hown hK hP hD hS 0 rfl rfl 6 (by decide) (hts _ tw_137) (fun _ h9 => h9) rfl (t_C_ok 6 (by decide)) hz9.nar hz9.fit (Nat.le_of_ble_eq_true rfl) d_C_watch_24 (fun H locs hP hD hS => ?_)
  have hP : va_P D classes ((wC cA h Rw) (pt Y9 0 6 r9)) H := hP
  have hD : va_D A ((wC cA h Rw) (pt Y9 0 6 r9)) := hD
  refine lv_aload_n hx hb d_C_watch_27 rfl (lv_at hl 1 rfl) ?_
  refine va_get (D := D) (ci := 0) (v := .ref (h 7)) (C := R_C) (T := F_C) (N := 7) hx hb hts i_C hown hK hP 0 rfl rfl 2 (by decide) (hts _ tw_133) (fun _ h9 => h9) rfl d_C_watch_28 ?_
  refine va_getN (D := D) (ci := 3) (v := .int (Y9 7 10)) (C := R_L) (T := F_L) (N := 11) hx hb hts i_L hown hK hP 7 rfl rfl 10 (by decide) (hKK.nest (nestW_in tn_84 rfl) rfl) (fun _ h9 => h9) rfl d_C_watch_31 ?_
  refine lv_iload_n hx hb d_C_watch_34 rfl (lv_at hl 0 rfl) ?_
  refine lv_isub hx hb d_C_watch_35 ?_
  exact hend _ _ _ _ _ _ (by rw [sC_watch, e9]) hP hS d_C_watch_36
end
section
-- ===== the rows of actions =====
def wC2 (cA : Nat → ClassId) (h : Nat → Nat) (q : Sg × Sg) : va_W := wC cA h q.2 q.1
theorem rowsW_get {cA : Nat → ClassId} {h : Nat → Nat} {Rw : Sg} {j : Nat} (hj : j < 32) : (rowsW cA h Rw)[j]? = some (h (22 + j), .inl (cA 2, 256, .inl (Rw j))) := by
  simp [rowsW, hj]
theorem rowsW_set {cA : Nat → ClassId} {h : Nat → Nat} {Rw : Sg} {f : Nat → Int32} {j : Nat} (hj : j < 32) : (rowsW cA h Rw).set j (h (22 + j), .inl (cA 2, 256, .inl f)) = rowsW cA h (va_up Rw j f) := by
  apply List.ext_getElem?
  intro i
  by_cases hi : i = j
  · subst hi
    rw [List.getElem?_set_self (by simp [rowsW]; exact hj), rowsW_get hj, va_up_self]
  · rw [List.getElem?_set_ne (Ne.symm hi)]
    by_cases h32 : i < 32
    · rw [rowsW_get h32, rowsW_get h32, va_up_ne _ _ hi]
    · rw [List.getElem?_eq_none (by simp [rowsW]; omega), List.getElem?_eq_none (by simp [rowsW]; omega)]
theorem wC_row {cA : Nat → ClassId} {h : Nat → Nat} {Rw X : Sg} {j : Nat} (hj : j < 32) : (wC cA h Rw X)[22 + j]? = some (h (22 + j), .inl (cA 2, 256, .inl (Rw j))) := by
  unfold wC
  rw [List.getElem?_append_right (by simp)]
  rw [show ∀ n : Nat, 22 + j - n = 22 + j - n from fun _ => rfl]
  simp only [List.length_cons, List.length_nil]
  rw [show 22 + j - (0 + 1 + 1 + 1 + 1 + 1 + 1 + 1 + 1 + 1 + 1 + 1 + 1 + 1 + 1 + 1 + 1 + 1 + 1 + 1 + 1 + 1 + 1) = j by omega]
  exact rowsW_get hj
theorem wC_setrow {cA : Nat → ClassId} {h : Nat → Nat} {Rw X : Sg} {f : Nat → Int32} {j : Nat} (hj : j < 32) : (wC cA h Rw X).set (22 + j) (h (22 + j), .inl (cA 2, 256, .inl f)) = wC cA h (va_up Rw j f) X := by
  unfold wC
  rw [List.set_append_right _ _ (by simp)]
  simp only [List.length_cons, List.length_nil]
  rw [show 22 + j - (0 + 1 + 1 + 1 + 1 + 1 + 1 + 1 + 1 + 1 + 1 + 1 + 1 + 1 + 1 + 1 + 1 + 1 + 1 + 1 + 1 + 1 + 1) = j by omega]
  rw [rowsW_set hj]
theorem vi_ix {e : Int32} {n : Nat} (h : vp_in e n) : ix e < n := Nat.not_le.mp fun q => h (Or.inr q)
end
section
theorem lk_C_90 : LkV R_C 90 R_A y_A_add b_A_add 5 (some .int) 4 := LkV.of tw_248 tw_249 tw_250 tw_5 tw_251 (by decide +kernel)
set_option maxHeartbeats 4000000 in
set_option maxRecDepth 100000 in
theorem c_A_add (l : Launch) (D : va_G) (cA : Nat → ClassId) (h : Nat → Nat) (Rw X : Sg) (e0 : Int32) (n0 : Int32) (he : vp_in e0 32) (hn0 : ¬ n0 < 0) (hn : ix n0 ≤ 256) (hf : ∀ i, fits .byte (.int (X 21 i)) = true) : Ct l y_A_add b_A_add 5 (some .int) 1 39 D cA [.ref (h 17), .int e0, .ref (h 21), .int 0, .int n0] (wC2 cA h) (X, Rw) (sA_add (X, Rw) e0 n0) := by
  refine Ct.of rfl rfl (by decide +kernel) (Nat.le_of_ble_eq_true rfl) ?_
  intro p e s m below meth c A Q ls hx hb hml hown hts hKK hP hD hA hS hend hl
  have hown : s.vm.findClass R_A = some m.cls := hown
  have hl : lv_has ls 5 [(0, .ref (h 17)), (1, .int e0), (2, .ref (h 21)), (3, .int 0), (4, .int n0)] := hl
  have hK := hKK.1
  have hP : va_P D classes (wC cA h Rw X) s.heap := hP
  have hD : va_D A (wC cA h Rw X) := hD
  refine lv_aload_n hx hb d_A_add_0 rfl (lv_at hl 0 rfl) ?_
  refine va_get (D := D) (ci := 4) (v := .ref (h 19)) (C := R_A) (T := F_A) (N := 3) hx hb hts i_A hown hK hP 17 rfl rfl 1 (by decide) (hts _ tw_119) (fun _ h9 => h9) rfl d_A_add_1 ?_
  refine lv_iload_n hx hb d_A_add_4 rfl (lv_at hl 1 rfl) ?_
  refine va_iald (f := (X 19)) hx hb hK hP 19 0 rfl rfl (by first | assumption | exact vi32_lt (by assumption) (by assumption) | exact vi32_nle (by assumption) (by assumption) | exact vi32_le (by assumption) (by assumption)) d_A_add_5 ?_
  refine lv_if_le (tgt := 12) hx hb d_A_add_6 (by decide) (fun c_6 => ?_) (fun c_6 => ?_)
  · refine lv_aload_n hx hb d_A_add_12 rfl (lv_at hl 2 rfl) ?_
    refine lv_iload_n hx hb d_A_add_13 rfl (lv_at hl 3 rfl) ?_
    refine lv_aload_n hx hb d_A_add_14 rfl (lv_at hl 0 rfl) ?_
    refine va_get (D := D) (ci := 4) (v := .ref (h 18)) (C := R_A) (T := F_A) (N := 3) hx hb hts i_A hown hK hP 17 rfl rfl 0 (by decide) (hts _ tw_117) (fun _ h9 => h9) rfl d_A_add_15 ?_
    refine lv_iload_n hx hb d_A_add_18 rfl (lv_at hl 1 rfl) ?_
    refine va_aldA hx hb hK hP 18 3 rfl rfl (by first | assumption | exact vi32_lt (by assumption) (by assumption) | exact vi32_nle (by assumption) (by assumption) | exact vi32_le (by assumption) (by assumption)) d_A_add_19 ?_
    refine W.eq (g2 := F0 m 20 ls [.ref (h (22 + ix e0)), .int 0, .ref (h 21)]) rfl ?_
    refine lv_iconst (v := 0) hx hb d_A_add_20 (by decide) ?_
    refine lv_iload hx hb d_A_add_21 (lv_at hl 4 rfl) ?_
    refine va_copyi (f := (X 21)) (g := Rw (ix e0)) (ty := .byte) hx hb (hml.trans hl.1.symm) hown (hts _ tw_252) (hts _ tw_254) (hts _ tw_253) (hts _ tw_7) hK hP hD hS 21 (22 + ix e0) 2 2 rfl (wC_row (vi_ix he)) rfl rfl rfl (by decide) (by decide) hn0 (by rw [sb_cl0, Nat.zero_add]; exact hn) (by rw [sb_cl0, Nat.zero_add]; exact hn) (fun i _ => hf _) (by decide) (by decide) d_A_add_23 (fun H locs hP hD hS => ?_)
    rw [wC_setrow (vi_ix he)] at hP hD
    have hP : va_P D classes ((wC cA h (va_up Rw (ix e0) (va_cpy (X 21) (Rw (ix e0)) (ix 0) (ix 0) (ix n0)))) X) H := hP
    have hD : va_D A ((wC cA h (va_up Rw (ix e0) (va_cpy (X 21) (Rw (ix e0)) (ix 0) (ix 0) (ix n0)))) X) := hD
    refine lv_aload_n hx hb d_A_add_26 rfl (lv_at hl 0 rfl) ?_
    refine va_get (D := D) (ci := 4) (v := .ref (h 19)) (C := R_A) (T := F_A) (N := 3) hx hb hts i_A hown hK hP 17 rfl rfl 1 (by decide) (hts _ tw_119) (fun _ h9 => h9) rfl d_A_add_27 ?_
    refine lv_iload_n hx hb d_A_add_30 rfl (lv_at hl 1 rfl) ?_
    refine lv_iload hx hb d_A_add_31 (lv_at hl 4 rfl) ?_
    refine va_iast (f := (X 19)) hx hb hK hP hD hS 19 0 rfl rfl (by first | assumption | exact vi32_lt (by assumption) (by assumption) | exact vi32_nle (by assumption) (by assumption) | exact vi32_le (by assumption) (by assumption)) d_A_add_33 (fun H locs hP hD hS => ?_)
    have hP : va_P D classes ((wC cA h (va_up Rw (ix e0) (va_cpy (X 21) (Rw (ix e0)) (ix 0) (ix 0) (ix n0)))) (pt X 19 (ix e0) n0)) H := hP
    have hD : va_D A ((wC cA h (va_up Rw (ix e0) (va_cpy (X 21) (Rw (ix e0)) (ix 0) (ix 0) (ix n0)))) (pt X 19 (ix e0) n0)) := hD
    refine lv_aload_n hx hb d_A_add_34 rfl (lv_at hl 0 rfl) ?_
    refine va_get (D := D) (ci := 4) (v := .ref (h 20)) (C := R_A) (T := F_A) (N := 3) hx hb hts i_A hown hK hP 17 rfl rfl 2 (by decide) (hts _ tw_121) (fun _ h9 => h9) rfl d_A_add_35 ?_
    refine lv_iload_n hx hb d_A_add_38 rfl (lv_at hl 1 rfl) ?_
    refine lv_iconst (v := 0) hx hb d_A_add_39 (by decide) ?_
    refine va_zast (f := (X 20)) hx hb hK hP hD hS 20 1 rfl rfl (by first | assumption | exact vi32_lt (by assumption) (by assumption) | exact vi32_nle (by assumption) (by assumption) | exact vi32_le (by assumption) (by assumption)) d_A_add_40 (fun H locs hP hD hS => ?_)
    have hP : va_P D classes ((wC cA h (va_up Rw (ix e0) (va_cpy (X 21) (Rw (ix e0)) (ix 0) (ix 0) (ix n0)))) (pt (pt X 19 (ix e0) n0) 20 (ix e0) (nz 0))) H := hP
    have hD : va_D A ((wC cA h (va_up Rw (ix e0) (va_cpy (X 21) (Rw (ix e0)) (ix 0) (ix 0) (ix n0)))) (pt (pt X 19 (ix e0) n0) 20 (ix e0) (nz 0))) := hD
    refine lv_iconst (v := 0) hx hb d_A_add_41 (by decide) ?_
    exact hend _ ((pt (pt X 19 (ix e0) n0) 20 (ix e0) (nz 0)), (va_up Rw (ix e0) (va_cpy (X 21) (Rw (ix e0)) (ix 0) (ix 0) (ix n0)))) _ _ _ _ (by rw [sA_add, if_pos c_6] <;> rfl) hP hS d_A_add_42
  · refine lv_bipush (v := 29) hx hb d_A_add_9 (by decide) ?_
    exact hend _ (X, Rw) _ _ _ _ (by rw [sA_add, if_neg c_6] <;> rfl) hP hS d_A_add_11
set_option maxHeartbeats 4000000 in
set_option maxRecDepth 100000 in
theorem c_C_act (l : Launch) (D : va_G) (cA : Nat → ClassId) (h : Nat → Nat) (Rw X : Sg) (e0 : Int32) (hs : ∃ n, n ≤ 256 ∧ X 0 5 = nI n) (hf : ∀ i, fits .byte (.int (X 21 i)) = true) : Ct l y_C_act b_C_act 3 (some .int) 2 63 D cA [.ref (h 0), .int e0] (wC2 cA h) (X, Rw) (sC_act (X, Rw) e0) := by
  refine Ct.of rfl rfl (by decide +kernel) (Nat.le_of_ble_eq_true rfl) ?_
  intro p e s m below meth c A Q ls hx hb hml hown hts hKK hP hD hA hS hend hl
  have hown : s.vm.findClass R_C = some m.cls := hown
  have hl : lv_has ls 3 [(0, .ref (h 0)), (1, .int e0)] := hl
  have hK := hKK.1
  have hP : va_P D classes (wC cA h Rw X) s.heap := hP
  have hD : va_D A (wC cA h Rw X) := hD
  refine lv_aload_n hx hb d_C_act_0 rfl (lv_at hl 0 rfl) ?_
  refine va_get (D := D) (ci := 0) (v := .int (X 0 5)) (C := R_C) (T := F_C) (N := 7) hx hb hts i_C hown hK hP 0 rfl rfl 5 (by decide) (hts _ tw_136) (fun _ h9 => h9) rfl d_C_act_1 ?_
  refine lv_istore_n (lv' := [(2, .int (X 0 5)), (0, .ref (h 0)), (1, .int e0)]) hx hb d_C_act_4 rfl hl (by decide) rfl (fun ls hl => ?_)
  refine lv_aload_n hx hb d_C_act_5 rfl (lv_at hl 1 rfl) ?_
  refine lv_iconst (v := 0) hx hb d_C_act_6 (by decide) ?_
  refine va_put (D := D) (ci := 0) (v := .int 0) (ty := .int) (C := R_C) (T := F_C) (N := 7) hx hb hts i_C t_C t_C_ok n_C hown hK hP hD hS 0 rfl rfl 5 (by decide) (hts _ tw_136) (fun _ h9 => h9) rfl (t_C_ok 5 (by decide)) rfl rfl (Nat.le_of_ble_eq_true rfl) d_C_act_7 (fun H locs hP hD hS => ?_)
  have hP : va_P D classes ((wC cA h Rw) (pt X 0 5 0)) H := hP
  have hD : va_D A ((wC cA h Rw) (pt X 0 5 0)) := hD
  refine lv_iload_n hx hb d_C_act_10 rfl (lv_at hl 2 rfl) ?_
  refine cS (rr := (sE_is e0)) (X' := (pt X 0 5 0)) (c_E_is l D cA (wC cA h Rw) (pt X 0 5 0) e0) lk_C_68 hx hb hml hown hts hKK hP hD hS hA hl.1 ⟨by decide, by decide⟩ ⟨Nat.le_refl _, Nat.le_refl _⟩ rfl rfl rfl (Nat.le_of_ble_eq_true rfl) d_C_act_11 (fun H locs hP hD hS => ?_)
  refine lv_if_ne (tgt := 22) hx hb d_C_act_14 (by decide) (fun c_14 => ?_) (fun c_14 => ?_)
  · have hi := sE_is_in c_14
    refine lv_iload_n hx hb d_C_act_22 rfl (lv_at hl 0 rfl) ?_
    refine lv_if_ne (tgt := 31) hx hb d_C_act_23 (by decide) (fun c_23 => ?_) (fun c_23 => ?_)
    · obtain ⟨n9, hn9, en9⟩ := hs
      have hn0 : ¬ X 0 5 < 0 := by rw [en9]; exact nI_pos (by omega)
      have hn : ix (X 0 5) ≤ 256 := by rw [en9, ix, nI_clamp (by omega)]; exact hn9
      refine lv_aload_n hx hb d_C_act_31 rfl (lv_at hl 1 rfl) ?_
      refine va_get (D := D) (ci := 0) (v := .ref (h 17)) (C := R_C) (T := F_C) (N := 7) hx hb hts i_C hown hK hP 0 rfl rfl 3 (by decide) (hts _ tw_134) (fun _ h9 => h9) rfl d_C_act_32 ?_
      refine lv_iload_n hx hb d_C_act_35 rfl (lv_at hl 2 rfl) ?_
      refine lv_aload_n hx hb d_C_act_36 rfl (lv_at hl 1 rfl) ?_
      refine va_get (D := D) (ci := 0) (v := .ref (h 21)) (C := R_C) (T := F_C) (N := 7) hx hb hts i_C hown hK hP 0 rfl rfl 4 (by decide) (hts _ tw_135) (fun _ h9 => h9) rfl d_C_act_37 ?_
      refine lv_iconst (v := 0) hx hb d_C_act_40 (by decide) ?_
      refine lv_iload_n hx hb d_C_act_41 rfl (lv_at hl 0 rfl) ?_
      refine cV (Wf := wC2 cA h) (X := ((pt X 0 5 0), Rw)) (rr := (sA_add ((pt X 0 5 0), Rw) e0 (X 0 5)).1) (X' := (sA_add ((pt X 0 5 0), Rw) e0 (X 0 5)).2) (c_A_add l D cA h Rw (pt X 0 5 0) e0 (X 0 5) hi hn0 hn hf) lk_C_90 hx hb hml hown hts hKK hP hD hS hA hl.1 17 rfl rfl rfl ⟨by decide, by decide⟩ ⟨Nat.le_refl _, Nat.le_refl _⟩ rfl wC_adr rfl (Nat.le_of_ble_eq_true rfl) d_C_act_42 (fun H locs hP hD hS => ?_)
      exact hend _ ((sA_add ((pt X 0 5 0), Rw) e0 (X 0 5)).2) _ _ _ _ (by rw [sC_act, if_neg c_14, if_neg c_23] <;> rfl) hP hS d_C_act_45
    · refine lv_bipush (v := 22) hx hb d_C_act_26 (by decide) ?_
      refine lv_goto (tgt := 45) hx hb d_C_act_28 (by decide) ?_
      exact hend _ ((pt X 0 5 0), Rw) _ _ _ _ (by rw [sC_act, if_neg c_14, if_pos c_23] <;> rfl) hP hS d_C_act_45
  · refine lv_bipush (v := 16) hx hb d_C_act_17 (by decide) ?_
    refine lv_goto (tgt := 45) hx hb d_C_act_19 (by decide) ?_
    exact hend _ ((pt X 0 5 0), Rw) _ _ _ _ (by rw [sC_act, if_pos c_14] <;> rfl) hP hS d_C_act_45
set_option maxHeartbeats 4000000 in
set_option maxRecDepth 100000 in
theorem c_C_actionAt (l : Launch) (D : va_G) (cA : Nat → ClassId) (h : Nat → Nat) (Rw X : Sg) (e0 : Int32) (k0 : Int32) (hs : ¬ sE_is e0 = 0 → ¬ k0 < 0 → k0 < X 19 (ix e0) → vp_in k0 256) : Ct l y_C_actionAt b_C_actionAt 3 (some .int) 1 20 D cA [.ref (h 0), .int e0, .int k0] (wC cA h Rw) X (sC_actionAt X Rw e0 k0) := by
  refine Ct.of rfl rfl (by decide +kernel) (Nat.le_of_ble_eq_true rfl) ?_
  intro p e s m below meth c A Q ls hx hb hml hown hts hKK hP hD hA hS hend hl
  have hown : s.vm.findClass R_C = some m.cls := hown
  have hl : lv_has ls 3 [(0, .ref (h 0)), (1, .int e0), (2, .int k0)] := hl
  have hK := hKK.1
  refine lv_iload_n hx hb d_C_actionAt_0 rfl (lv_at hl 1 rfl) ?_
  refine cS (rr := (sE_is e0)) (X' := X) (c_E_is l D cA (wC cA h Rw) X e0) lk_C_68 hx hb hml hown hts hKK hP hD hS hA hl.1 ⟨by decide, by decide⟩ ⟨Nat.le_refl _, Nat.le_refl _⟩ rfl rfl rfl (Nat.le_of_ble_eq_true rfl) d_C_actionAt_1 (fun H locs hP hD hS => ?_)
  refine lv_if_eq (tgt := 24) hx hb d_C_actionAt_4 (by decide) (fun c_4 => ?_) (fun c_4 => ?_)
  · refine lv_iconst (v := (-1)) hx hb d_C_actionAt_24 (by decide) ?_
    refine lv_goto (tgt := 43) hx hb d_C_actionAt_25 (by decide) ?_
    exact hend _ _ _ _ _ _ (by rw [sC_actionAt, if_pos c_4] <;> rfl) hP hS d_C_actionAt_43
  · have hi := sE_is_in c_4
    refine lv_iload_n hx hb d_C_actionAt_7 rfl (lv_at hl 2 rfl) ?_
    refine lv_if_lt (tgt := 24) hx hb d_C_actionAt_8 (by decide) (fun c_8 => ?_) (fun c_8 => ?_)
    · refine lv_iconst (v := (-1)) hx hb d_C_actionAt_24 (by decide) ?_
      refine lv_goto (tgt := 43) hx hb d_C_actionAt_25 (by decide) ?_
      exact hend _ _ _ _ _ _ (by rw [sC_actionAt, if_neg c_4, if_pos c_8] <;> rfl) hP hS d_C_actionAt_43
    · refine lv_iload_n hx hb d_C_actionAt_11 rfl (lv_at hl 2 rfl) ?_
      refine lv_aload_n hx hb d_C_actionAt_12 rfl (lv_at hl 0 rfl) ?_
      refine va_get (D := D) (ci := 0) (v := .ref (h 17)) (C := R_C) (T := F_C) (N := 7) hx hb hts i_C hown hK hP 0 rfl rfl 3 (by decide) (hts _ tw_134) (fun _ h9 => h9) rfl d_C_actionAt_13 ?_
      refine va_getN (D := D) (ci := 4) (v := .ref (h 19)) (C := R_A) (T := F_A) (N := 3) hx hb hts i_A hown hK hP 17 rfl rfl 1 (by decide) (hKK.nest (nestW_in tn_120 rfl) rfl) (fun _ h9 => h9) rfl d_C_actionAt_16 ?_
      refine lv_iload_n hx hb d_C_actionAt_19 rfl (lv_at hl 1 rfl) ?_
      refine va_iald (f := (X 19)) hx hb hK hP 19 0 rfl rfl (by first | assumption | exact vi32_lt (by assumption) (by assumption) | exact vi32_nle (by assumption) (by assumption) | exact vi32_le (by assumption) (by assumption)) d_C_actionAt_20 ?_
      refine lv_icmp_lt (tgt := 28) hx hb d_C_actionAt_21 (by decide) (fun c_21 => ?_) (fun c_21 => ?_)
      · have hj := hs c_4 c_8 c_21
        refine lv_aload_n hx hb d_C_actionAt_28 rfl (lv_at hl 0 rfl) ?_
        refine va_get (D := D) (ci := 0) (v := .ref (h 17)) (C := R_C) (T := F_C) (N := 7) hx hb hts i_C hown hK hP 0 rfl rfl 3 (by decide) (hts _ tw_134) (fun _ h9 => h9) rfl d_C_actionAt_29 ?_
        refine va_getN (D := D) (ci := 4) (v := .ref (h 18)) (C := R_A) (T := F_A) (N := 3) hx hb hts i_A hown hK hP 17 rfl rfl 0 (by decide) (hKK.nest (nestW_in tn_118 rfl) rfl) (fun _ h9 => h9) rfl d_C_actionAt_32 ?_
        refine lv_iload_n hx hb d_C_actionAt_35 rfl (lv_at hl 1 rfl) ?_
        refine va_aldA hx hb hK hP 18 3 rfl rfl (by first | assumption | exact vi32_lt (by assumption) (by assumption) | exact vi32_nle (by assumption) (by assumption) | exact vi32_le (by assumption) (by assumption)) d_C_actionAt_36 ?_
        refine W.eq (g2 := F0 m 37 ls [.ref (h (22 + ix e0))]) rfl ?_
        refine lv_iload_n hx hb d_C_actionAt_37 rfl (lv_at hl 2 rfl) ?_
        refine va_bald (f := Rw (ix e0)) hx hb hK hP (22 + ix e0) 2 (wC_row (vi_ix hi)) rfl hj d_C_actionAt_38 ?_
        refine lv_sipush (v := 255) hx hb d_C_actionAt_39 (by decide) ?_
        refine lv_iand hx hb d_C_actionAt_42 ?_
        exact hend _ _ _ _ _ _ (by rw [sC_actionAt, if_neg c_4, if_neg c_8, if_pos c_21] <;> rfl) hP hS d_C_actionAt_43
      · refine lv_iconst (v := (-1)) hx hb d_C_actionAt_24 (by decide) ?_
        refine lv_goto (tgt := 43) hx hb d_C_actionAt_25 (by decide) ?_
        exact hend _ _ _ _ _ _ (by rw [sC_actionAt, if_neg c_4, if_neg c_8, if_neg c_21] <;> rfl) hP hS d_C_actionAt_43
end
section
-- ===== new byte[N][M]: the array of rows and its rows, one behind another =====
theorem arrV_ext {c : ClassId} {N : Nat} {f g : Nat → Value} (h : ∀ j, j < N → f j = g j) : arrV c N f = arrV c N g := by
  unfold arrV
  congr 1
  apply Array.ext
  · simp
  · intro j h1 h2
    simp at h1
    simp [h j h1]
def oC (cBB : ClassId) (N h0 i : Nat) : Cell := arrV cBB N (fun j => if j < i then .ref (h0 + 1 + j) else .null)
def iC (cB : ClassId) (M : Nat) : Cell := arrV cB M (fun _ => .int 0)
/-- i rows are made and laid into their places -/
def gS (cBB cB : ClassId) (N M : Nat) (T : State) : Nat → State
  | 0 => T.pushCell (oC cBB N T.heap.size 0)
  | i + 1 => ((gS cBB cB N M T i).pushCell (iC cB M)).setCell T.heap.size (oC cBB N T.heap.size (i + 1))
theorem oC_size (cBB : ClassId) (N h0 i : Nat) : (oC cBB N h0 i).slots.size = N := arrV_size _ _ _
theorem iC_size (cB : ClassId) (M : Nat) : (iC cB M).slots.size = M := arrV_size _ _ _
theorem oC_next (cBB : ClassId) (N h0 i : Nat) : (oC cBB N h0 i).setSlot i (.ref (h0 + 1 + i)) = oC cBB N h0 (i + 1) := by
  unfold oC
  rw [arrV_store]
  congr 1
  funext j
  unfold updV
  by_cases h : j = i
  · subst h
    rw [if_pos rfl, if_pos (by omega)]
  · rw [if_neg h]
    dsimp only
    by_cases h2 : j < i
    · rw [if_pos h2, if_pos (by omega)]
    · rw [if_neg h2, if_neg (by omega)]
theorem oC_first (cBB : ClassId) (N h0 : Nat) : ({ cls := cBB, slots := Array.replicate N Value.null, vm := .none } : Cell) = oC cBB N h0 0 :=
  (arrV_new cBB N .null).trans (arrV_ext (fun j _ => by rw [if_neg (by omega)]))
theorem oC_full (cBB : ClassId) (N h0 : Nat) : oC cBB N h0 N = vp_cell cBB (N, .inr (.inr (.inr (.inr (fun e => some (h0 + 1 + e)))))) := by
  rw [vp_cell_q]
  exact arrV_ext (fun j hj => by rw [if_pos hj]; rfl)
section MULTI
variable {p : Program} {l : Launch} {e : Env} {R : Room} {s : State} {m : MethodId} {args : Array Value} {below : List Frame} {meth : Method} {c : Code} {T : State} {H : Heap} {locs : List Loc} {cells slots : Nat} {Q : State → Prop} {N M : Nat}
theorem gS_facts (cBB cB : ClassId) (N M : Nat) (T : State) (i : Nat) : (gS cBB cB N M T i).heap.size = T.heap.size + 1 + i ∧ (gS cBB cB N M T i).heap[T.heap.size]? = some (oC cBB N T.heap.size i) ∧ (∀ j, j < i → (gS cBB cB N M T i).heap[T.heap.size + 1 + j]? = some (iC cB M)) ∧ (∀ q, q < T.heap.size → (gS cBB cB N M T i).heap[q]? = T.heap[q]?) ∧ (gS cBB cB N M T i).vm = T.vm ∧ (gS cBB cB N M T i).slotsUsed = T.slotsUsed + N + i * M := by
  induction i with
  | zero =>
    refine ⟨by simp [gS], by simp [gS], fun j h => absurd h (by omega), fun q hq => State.heap_pushCell_of_lt _ _ hq, rfl, ?_⟩
    simp [gS, oC_size]
  | succ i ih =>
    obtain ⟨a1, a2, a3, a4, a5, a6⟩ := ih
    have hs : (gS cBB cB N M T (i + 1)).heap = ((gS cBB cB N M T i).heap.push (iC cB M)).setIfInBounds T.heap.size (oC cBB N T.heap.size (i + 1)) := rfl
    have rd : ∀ q : Nat, (gS cBB cB N M T (i + 1)).heap[q]? = if T.heap.size = q then some (oC cBB N T.heap.size (i + 1)) else if q = (gS cBB cB N M T i).heap.size then some (iC cB M) else (gS cBB cB N M T i).heap[q]? := by
      intro q
      rw [hs, Array.getElem?_setIfInBounds]
      by_cases h : T.heap.size = q
      · rw [if_pos h, if_pos h, if_pos (by rw [Array.size_push, a1]; omega)]
      · rw [if_neg h, if_neg h, Array.getElem?_push]
    refine ⟨by rw [hs]; simp [a1]; omega, by rw [rd, if_pos rfl], fun j hj => ?_, fun q hq => ?_, a5, ?_⟩
    · rw [rd, if_neg (by omega)]
      by_cases h : j = i
      · subst h
        rw [if_pos (by rw [a1])]
      · rw [if_neg (by rw [a1]; omega)]
        exact a3 j (by omega)
    · rw [rd, if_neg (by omega), if_neg (by rw [a1]; omega)]
      exact a4 q hq
    · show (((gS cBB cB N M T i).pushCell (iC cB M)).setCell T.heap.size _).slotsUsed = _
      rw [Nat.succ_mul]
      simp [a6, iC_size]
      omega
theorem gS_top (cBB cB : ClassId) (N M : Nat) (T : State) (f : JFrame) (i : Nat) : gS cBB cB N M (T.setTop f) i = (gS cBB cB N M T i).setTop f := by
  induction i with
  | zero => rfl
  | succ i ih =>
    show ((gS cBB cB N M (T.setTop f) i).pushCell (iC cB M)).setCell T.heap.size _ = _
    rw [ih]
    rfl
theorem gS_stand (X : Stand p l e R s m args below meth c T locs cells slots) (cBB cB : ClassId) (N M i : Nat) : Stand p l e R s m args below meth c (gS cBB cB N M T i) locs (cells + 1 + i) (slots + N + i * M) := by
  have h0 : s.heap.size ≤ T.heap.size := X.same.2.1
  induction i with
  | zero =>
    have h := X.pushed (oC cBB N T.heap.size 0)
    rw [oC_size] at h
    rw [Nat.zero_mul]
    exact h
  | succ i ih =>
    obtain ⟨a1, a2, -⟩ := gS_facts cBB cB N M T i
    have hlt : T.heap.size < (gS cBB cB N M T i).heap.size := by rw [a1]; omega
    have hc : ((gS cBB cB N M T i).pushCell (iC cB M)).heap[T.heap.size]? = some (oC cBB N T.heap.size i) := by
      rw [State.heap_pushCell_of_lt (h := hlt)]
      exact a2
    have h := (ih.pushed (iC cB M)).stored hc i (.ref (T.heap.size + 1 + i))
    rw [oC_next, iC_size] at h
    have h2 := Stand.forget h (fun y hy => by rw [List.mem_singleton.mp hy]; exact h0)
    rw [show slots + N + (i + 1) * M = slots + N + i * M + M by rw [Nat.succ_mul]; omega]
    exact h2
/-- the instruction's work: the outer array, then row by row -/
theorem wp_rows {E : CtlPost} {d : Bool} {acts : List Action} {cBB cB cc0 : ClassId} {kA kC : Class} {n k : Int32} (hn : n.toNatClampNeg = N) (hk : k.toNatClampNeg = M) (hn0 : ¬ n < 0) (hk0 : ¬ k < 0) (hkA : T.vm.classes[cBB]? = some kA) (hkindA : kA.kind = .array cB (.array .byte)) (hkC : T.vm.classes[cB]? = some kC) (hkindC : kC.kind = .array cc0 .byte)
    (hl1 : ¬ N > e.platform.arrayLengthLimit) (hh1 : ¬ N * componentBytes (.array .byte) > e.platform.maxHeapBytes) (hl2 : ¬ M > e.platform.arrayLengthLimit) (hh2 : ¬ M * componentBytes .byte > e.platform.maxHeapBytes)
    (hc : T.heap.size + (1 + N) ≤ e.platform.maxCells) (hs : T.slotsUsed + (N + N * M) ≤ e.platform.maxSlots) {Q : Addr → Pre} (hq : ∀ d' acts', Q T.heap.size d' acts' (gS cBB cB N M T N)) :
    wp (multianewarray.make cBB [n, k]) Q E e d acts T := by
  have hfind : [k].find? (fun x : Int32 => decide (x < 0)) = none := by simp [hk0]
  rw [multianewarray.make]
  simp only [wp_bind', W.ite, hn0, if_false, wp_pure', W.theClass, hkA, hkindA, Option.some.injEq, exists_eq_left', hn]
  refine W.newArray_of hkA hkindA hl1 hh1 (by omega) (by omega) rfl (fun acts1 => ?_)
  rw [show (T.pushCell { cls := cBB, slots := Array.replicate N Value.null }) = gS cBB cB N M T 0 from congrArg T.pushCell (oC_first cBB N T.heap.size)]
  simp only [hfind]
  rw [ite_self, wp_bind', Std.Legacy.Range.forIn_eq_forIn_range']
  rw [show ([:N] : Std.Legacy.Range).size = N by simp [Std.Legacy.Range.size]]
  show wp (forIn (List.range' 0 N 1) PUnit.unit _) _ E e d _ _
  refine wp_forIn_inv (fun rest U => ∃ i, i ≤ N ∧ rest = List.range' i (N - i) ∧ U = gS cBB cB N M T i) _ _ ⟨0, by omega, rfl, rfl⟩ ?_ ?_
  · rintro x rest U d' acts' Q' ⟨i, hi, hl, rfl⟩ hnext
    rcases Nat.lt_or_ge i N with hlt | hge
    · obtain ⟨r, hr⟩ : ∃ r, N - i = r + 1 := ⟨N - i - 1, by omega⟩
      rw [hr, List.range'_succ] at hl
      obtain ⟨rfl, hrest⟩ := List.cons.inj hl
      obtain ⟨a1, a2, a3, a4, a5, a6⟩ := gS_facts cBB cB N M T x
      have hmul : x * M + M ≤ N * M := by
        have := Nat.mul_le_mul_right M (show x + 1 ≤ N from hlt)
        rw [Nat.succ_mul] at this
        exact this
      simp only [wp_bind']
      rw [multianewarray.make]
      simp only [wp_bind', W.ite, hk0, if_false, wp_pure', W.theClass, a5, hkC, hkindC, Option.some.injEq, exists_eq_left', hk]
      refine W.newArray_of (by rw [a5]; exact hkC) hkindC hl2 hh2 (by rw [a1]; omega) (by rw [a6]; omega) rfl (fun acts2 => ?_)
      rw [show ((gS cBB cB N M T x).pushCell { cls := cB, slots := Array.replicate M (defaultValue .byte) }) = (gS cBB cB N M T x).pushCell (iC cB M) from congrArg (gS cBB cB N M T x).pushCell (arrV_new cB M (.int 0))]
      have hlt0 : T.heap.size < (gS cBB cB N M T x).heap.size := by rw [a1]; omega
      simp only [wp_bind', W.writeLoc, wp_pure']
      refine ⟨oC cBB N T.heap.size x, by rw [State.heap_pushCell_of_lt (h := hlt0)]; exact a2, (fun h => by cases h), by rw [oC_size]; exact hlt, ?_, hnext _ _ _ ⟨x + 1, by omega, by rw [hrest, show N - (x + 1) = r by omega], ?_⟩⟩
      · show State.fitsSlot _ cBB .none x _ = true
        simp [State.fitsSlot, State.slotType?, a5, hkA, hkindA, fits]
      · rw [a1, oC_next]
        rfl
    · rw [show N - i = 0 by omega] at hl
      cases hl
  · rintro U d' acts' ⟨i, hi, hl, rfl⟩
    have hiN : i = N := by
      rcases Nat.lt_or_ge i N with h | h
      · obtain ⟨r, hr⟩ : ∃ r, N - i = r + 1 := ⟨N - i - 1, by omega⟩
        rw [hr, List.range'_succ] at hl
        cases hl
      · omega
    subst hiN
    simp only [wp_pure']
    exact hq _ _
end MULTI
end
section
-- ===== new byte[N][M], a row of a walk =====
/-- the rows behind the outer array, at q -/
def newRows (cB : ClassId) (N M q : Nat) : va_W := (List.range N).map (fun e => (q + 1 + e, .inl (cB, M, .inl (fun _ => 0))))
def newGrid (cBB cB : ClassId) (N M q : Nat) : va_W := (q, .inl (cBB, N, .inr (.inr (.inr (.inr (fun e => some (q + 1 + e))))))) :: newRows cB N M q
theorem newGrid_adr (cBB cB : ClassId) (N M q : Nat) : (newGrid cBB cB N M q).map Prod.fst = q :: (List.range N).map (fun e => q + 1 + e) := by
  simp [newGrid, newRows, Function.comp_def]
section MULTI2
variable {p : Program} {l : Launch} {e : Env} {R : Room} {s : State} {m : MethodId} {args : Array Value} {below : List Frame} {meth : Method} {c : Code} {H : Heap} {locs : List Loc} {cells slots : Nat} {Q : State → Prop}
variable {cc : ByteArray} {pc : Nat} {ls : Array Slot} {rest : List Value} {D : va_G} {cA : Nat → ClassId} {A : Nat → Prop} {ws : va_W} {H0 : Heap} {N M : Nat}
theorem va_multi (hexec : p.tables.exec = Jvm.exec) (hb : c.code = cc) {own : String} {index : Nat} (hown : s.vm.findClass own = some m.cls) (hclink : (Cond.classLink own index "[[B").before args s = true) (hKK : KK D cA s) (hP : va_P D classes ws H) (hD : va_D A ws) (hS : va_S A H0 H locs) (hA : ∀ q, H0.size ≤ q → A q)
    {n k : Int32} (hn : n.toNatClampNeg = N) (hk : k.toNatClampNeg = M) (hn0 : ¬ n < 0) (hk0 : ¬ k < 0) (hNb : N ≤ 1000) (hMb : M ≤ 1000) (hcells : cells + (1 + N) ≤ R.cells) (hslots : slots + (N + N * M) ≤ R.slots) (hdg : decode cc pc = .ok (.multianewarray index 2, 4))
    (kk : ∀ (q : Nat) (H1 : Heap), va_P D classes (ws ++ newGrid (cA 3) (cA 2) N M q) H1 → va_D A (ws ++ newGrid (cA 3) (cA 2) N M q) → va_S A H0 H1 locs → W p l e R s m args below meth c H1 locs (cells + 1 + N) (slots + N + N * M) Q (F0 m (pc + 4) ls (.ref q :: rest))) :
    W p l e R s m args below meth c H locs cells slots Q (F0 m pc ls (.int k :: .int n :: rest)) := by
  intro T hT X
  subst hT
  have hpl : e.platform.magicAccessors = ({} : Platform).magicAccessors := by rw [X.admits.platform]
  obtain ⟨kA, hkA, hkindA⟩ := hKK.2.2.2
  obtain ⟨-, kC, hkC, cc0, hkindC⟩ := (hKK.1.2 2 _ rfl).1 0 (fun _ => .int 0)
  have hnm : s.vm.findClass "[[B" = some (cA 3) := (hKK.1.2 3 _ rfl).2
  obtain ⟨c0, hfc0, hcl⟩ := Cond.classLink_spec hown hclink e.platform hpl
  cases hnm.symm.trans hfc0
  obtain ⟨hg₁, hwarm₁, hready₁⟩ := State.classEntry (e := e) X.warmed hcl
  generalize T.vm.noted m.cls index (.cls (cA 3)) = vm₁ at hg₁ hwarm₁ hready₁
  have hal : s.vm.Alike vm₁ := hwarm₁.alike
  obtain ⟨kA₁, hkA₁, heA⟩ := hal.2.2 _ _ hkA
  obtain ⟨kC₁, hkC₁, heC⟩ := hal.2.2 _ _ hkC
  have hkindA₁ : kA₁.kind = .array (cA 2) (.array .byte) := by rw [heA]; exact hkindA
  have hkindC₁ : kC₁.kind = .array cc0 .byte := by rw [heC]; exact hkindC
  have X₁ := X.noted hwarm₁
  obtain ⟨hr1, hr2⟩ := X.roomAbove hcells hslots
  have X₂ := gS_stand X₁ (cA 3) (cA 2) N M N
  obtain ⟨a1, a2, a3, a4, a5, a6⟩ := gS_facts (cA 3) (cA 2) N M (T.setVm vm₁) N
  have old : ∀ q, q < T.heap.size → (gS (cA 3) (cA 2) N M (T.setVm vm₁) N).heap[q]? = T.heap[q]? := a4
  have hP1 : va_P D classes (ws ++ newGrid (cA 3) (cA 2) N M T.heap.size) (gS (cA 3) (cA 2) N M (T.setVm vm₁) N).heap := by
    rw [va_P_iff] at hP ⊢
    intro q hq
    rcases List.mem_append.mp hq with h | h
    · exact (hP q h).kept (old _ (hP q h).lt)
    · rcases List.mem_cons.mp h with rfl | h
      · show (gS (cA 3) (cA 2) N M (T.setVm vm₁) N).heap[T.heap.size]? = some (vp_cell _ _)
        rw [← oC_full]
        exact a2
      · obtain ⟨j, hj, rfl⟩ := List.mem_map.mp h
        show (gS (cA 3) (cA 2) N M (T.setVm vm₁) N).heap[T.heap.size + 1 + j]? = some (vp_cell _ _)
        exact a3 j (List.mem_range.mp hj)
  have hD1 : va_D A (ws ++ newGrid (cA 3) (cA 2) N M T.heap.size) := by
    rw [va_D_iff] at hD ⊢
    rw [List.map_append, newGrid_adr]
    have hlt : ∀ a ∈ ws.map Prod.fst, a < T.heap.size := by
      intro a ha
      obtain ⟨q, hq, rfl⟩ := List.mem_map.mp ha
      exact ((va_P_iff.mp hP) q hq).lt
    refine ⟨?_, fun a ha => ?_⟩
    · rw [List.nodup_append]
      refine ⟨hD.1, ?_, fun a ha b hb => ?_⟩
      · rw [List.nodup_cons]
        refine ⟨fun h => ?_, ?_⟩
        · obtain ⟨j, -, hj⟩ := List.mem_map.mp h
          omega
        · rw [List.nodup_iff_pairwise_ne, List.pairwise_map]
          exact (List.nodup_iff_pairwise_ne.mp List.nodup_range).imp (fun {a b} h => by omega)
      · have h1 := hlt a ha
        rcases List.mem_cons.mp hb with rfl | h
        · omega
        · obtain ⟨j, -, hj⟩ := List.mem_map.mp h
          omega
    · rcases List.mem_append.mp ha with h | h
      · exact hD.2 a h
      · refine hA a (Nat.le_trans hS.1 ?_)
        rcases List.mem_cons.mp h with rfl | h
        · exact Nat.le_refl _
        · obtain ⟨j, -, hj⟩ := List.mem_map.mp h
          omega
  have hS1 : va_S A H0 (gS (cA 3) (cA 2) N M (T.setVm vm₁) N).heap locs := by
    refine ⟨Nat.le_trans hS.1 (by rw [a1]; show T.heap.size ≤ T.heap.size + 1 + N; omega), fun q h1 h2 => ?_, hS.2.2⟩
    rw [old q (Nat.lt_of_lt_of_le h1 hS.1)]
    exact hS.2.1 q h1 h2
  obtain ⟨t, b1, b2⟩ := kk T.heap.size _ hP1 hD1 hS1 _ rfl X₂
  refine ⟨t, ?_, b2⟩
  have hl1 : ¬ N > e.platform.arrayLengthLimit := by rw [Launch.admits_arrayLengthLimit X.admits]; omega
  have hh1 : ¬ N * componentBytes (.array .byte) > e.platform.maxHeapBytes := by
    rw [Launch.admits_maxHeapBytes X.admits]; show ¬ N * 4 > 536870912; omega
  have hl2 : ¬ M > e.platform.arrayLengthLimit := by rw [Launch.admits_arrayLengthLimit X.admits]; omega
  have hh2 : ¬ M * componentBytes .byte > e.platform.maxHeapBytes := by
    rw [Launch.admits_maxHeapBytes X.admits]; show ¬ M * 1 > 536870912; omega
  jvm_step X.here [hexec, hb, hdg]
  simp only [multianewarray.sem, wp_bind', W.resolveClassAt_links (State.method?_setTop (F0 m pc ls (.int k :: .int n :: rest)) X.here.top) hg₁]
  rw [W.popN, if_neg (by decide)]
  refine ⟨F0 m pc ls (.int k :: .int n :: rest), State.topJava?_setTop' (s := T.setVm vm₁) _ X.here.top, [.int n, .int k], rest, rfl, rfl, ?_⟩
  simp only [List.mapM_cons, List.mapM_nil, wp_bind', wp_pure']
  refine wp_rows (T := ((T.setTop (F0 m pc ls (.int k :: .int n :: rest))).setVm vm₁).setTop (F0 m pc ls rest)) (cBB := cA 3) (cB := cA 2) (cc0 := cc0) (kA := kA₁) (kC := kC₁) hn hk hn0 hk0 hkA₁ hkindA₁ hkC₁ hkindC₁ hl1 hh1 hl2 hh2 hr1 hr2 (fun d' acts' => ?_)
  rw [show ((T.setTop (F0 m pc ls (.int k :: .int n :: rest))).setVm vm₁).setTop (F0 m pc ls rest) = (T.setVm vm₁).setTop (F0 m pc ls rest) from by
    show ((T.setVm vm₁).setTop _).setTop _ = _
    rw [State.setTop_setTop], gS_top]
  simp only [wp_bind', W.mark, W.pushRef, State.topJava?_setTop' _ X₂.here.top, Option.some.injEq, exists_eq_left', State.setTop_setTop, State.heap_setTop]
  intro acts
  simp [jvm, X₂.here.top]
  exact b1
end MULTI2
end
section
-- ===== constructors: contracts of what makes cells =====
theorem va_P_perm {D : va_G} {cl : List vw_C} {w w' : va_W} {H : Heap} (e : w.Perm w') (h : va_P D cl w H) : va_P D cl w' H := by
  rw [va_P_iff] at h ⊢
  exact fun q hq => h q (e.mem_iff.mpr hq)
theorem va_D_perm {A : Nat → Prop} {w w' : va_W} (e : w.Perm w') (h : va_D A w) : va_D A w' := by
  rw [va_D_iff] at h ⊢
  have e2 := e.map Prod.fst
  exact ⟨e2.nodup_iff.mp h.1, fun a ha => h.2 a (e2.mem_iff.mpr ha)⟩
theorem joinN {A : Nat → Prop} {D : va_G} {cl : List vw_C} {wl w0 w' : va_W} {H H1 : Heap} (hP : va_P D cl (wl ++ w0) H) (hD : va_D A (wl ++ w0)) (hF : ∀ q, va_A w0 H.size q → A q)
    (hk : ∀ q : Nat, q < H.size → ¬ va_A w0 H.size q → H1[q]? = H[q]?) (hP1 : va_P D cl w' H1) (hD1 : va_D (va_A w0 H.size) w') : va_P D cl (wl ++ w') H1 ∧ va_D A (wl ++ w') := by
  have hn := (va_D_iff.mp hD).1
  rw [List.map_append, List.nodup_append] at hn
  rw [va_P_iff] at hP hP1
  have ap : ∀ q ∈ wl, q.1 < H.size ∧ ¬ va_A w0 H.size q.1 := by
    intro q hq
    have hl := (hP q (List.mem_append_left _ hq)).lt
    refine ⟨hl, fun h => ?_⟩
    rcases va_A_iff.mp h with h | h
    · exact hn.2.2 q.1 (List.mem_map.mpr ⟨q, hq, rfl⟩) q.1 h rfl
    · omega
  refine ⟨va_P_iff.mpr (fun q hq => ?_), va_D_iff.mpr ?_⟩
  · rcases List.mem_append.mp hq with h | h
    · exact (hP q (List.mem_append_left _ h)).kept (hk q.1 (ap q h).1 (ap q h).2)
    · exact hP1 q h
  · rw [va_D_iff] at hD1
    rw [List.map_append, List.nodup_append]
    refine ⟨⟨hn.1, hD1.1, fun a ha b hb e => ?_⟩, fun a ha => ?_⟩
    · obtain ⟨q, hq, rfl⟩ := List.mem_map.mp ha
      exact (ap q hq).2 (by rw [e]; exact hD1.2 b hb)
    · rcases List.mem_append.mp ha with h | h
      · exact (va_D_iff.mp hD).2 a (by rw [List.map_append]; exact List.mem_append_left _ h)
      · exact hF a (hD1.2 a h)
abbrev rmM (fr mc ms lo : Nat) : Room := { frames := fr, cells := mc, slots := ms, locals := lo }
/-- a constructor: its object is at o; behind it the cells of Wf stand, at addresses h, h 0 = o -/
def Cm (l : Launch) (y : MethodName) (b : ByteArray) (n : Nat) (fr lo mc ms : Nat) (D : va_G) (cA : Nat → ClassId) (o : Nat) (w0 : va_W) (Wf : (Nat → Nat) → va_W) : Prop :=
  ∀ sz : Nat, Met l y (wds y b n none) (rmM fr mc ms lo) (va_Pc [.ref o] (fun U => U.heap.size = sz ∧ va_P D classes w0 U.heap ∧ KK D cA U ∧ va_D (fun _ => True) w0))
    (va_Qv (fun (h : Nat → Nat) => h 0 = o) (fun h t => va_P D classes (Wf h) t.heap ∧ va_D (va_A w0 sz) (Wf h)) (va_A w0 sz)) mc ms (va_A w0 sz)
theorem Cm.of {l : Launch} {y : MethodName} {b : ByteArray} {n fr lo mc ms : Nat} {D : va_G} {cA : Nat → ClassId} {o : Nat} {w0 : va_W} {Wf : (Nat → Nat) → va_W} (hy : plainName y.cls = true) (hyn : y.name = "<init>") (hlen : 1 ≤ n)
    (body : ∀ (p : Program) (e : Env) (s : State) (m : MethodId) (below : List Frame) (meth : Method) (c : Code) (A : Nat → Prop) (Q : State → Prop) (ls : Array Slot),
      p.tables.exec = Jvm.exec → c.code = b → c.maxLocals = n → s.vm.findClass y.cls = some m.cls → meth.name = "<init>" → (∀ w ∈ lw_good, w.before ([.ref o] : List Value).toArray s = true) → KK D cA s → va_P D classes w0 s.heap → va_D A w0 → (∀ q, s.heap.size ≤ q → A q) → va_S A s.heap s.heap [] →
      (∀ (h : Nat → Nat) (H : Heap) (locs : List Loc) (pc : Nat) (ls' : Array Slot), h 0 = o → va_P D classes (Wf h) H → va_D A (Wf h) → va_S A s.heap H locs → decode b pc = .ok (.return_, 1) → W p l e (rmM fr mc ms lo) s m ([.ref o] : List Value).toArray below meth c H locs mc ms Q (F0 m pc ls' [])) →
      lv_has ls n [(0, .ref o)] → W p l e (rmM fr mc ms lo) s m ([.ref o] : List Value).toArray below meth c s.heap [] 0 0 Q (F0 m 0 ls [])) : Cm l y b n fr lo mc ms D cA o w0 Wf := by
  intro sz
  refine Met.ofW (cc := b) (maxL := n) (ret := none) hy rfl ?_
  intro p e s m args below meth c s₁ B hml hv
  obtain ⟨rfl, hsz, hP, hK, hD0⟩ := hv
  have hts := atoms_spec (ws := wds y b n none) B.pre
  subst hsz
  have hl := lv_entry ([.ref o]) (n := n) hlen
  rw [lg_entry_eq]
  refine body p e s m below meth c (va_A w0 s.heap.size) _ _ B.exec B.bytes hml (findClass_of_methodNamed B.named) ((name_of_methodNamed B.named B.method).1.trans hyn) (fun w hw => hts w (List.mem_cons_of_mem _ hw)) hK hP hD0.self (fun q h => Or.inr h) va_S.rf ?_ hl
  intro h' H locs pc ls' h0 hP' hD' hS hdg
  have hr := B.returns
  have hlocks := B.notSynchronized
  refine W.vret B.exec B.bytes hr (fun t ht hW => ⟨⟨h', rfl, h0, by show va_P D classes (Wf h') t.heap ∧ _; rw [ht]; exact ⟨hP', hD'⟩⟩, hS.F ht⟩) hS.2.2 hdg
/-- the words of a call of a constructor -/
def LkI (own : String) (idx : Nat) (y : MethodName) (b : ByteArray) (n : Nat) : Prop := GoodIn lw_good (wds y b n none) ∧ (Cond.initialized y.cls ∈ lw_good ∧ Cond.instanceMethod y ∈ lw_good) ∧ y.name = "<init>" ∧ (y.cls ≠ "java/lang/invoke/MethodHandle" ∧ y.cls ≠ "java/lang/invoke/VarHandle" ∧ (parseMethodDescriptor y.desc).map (fun d => d.parameters.length) = some 0)
theorem LkI.of {own : String} {idx : Nat} {y : MethodName} {b : ByteArray} {n : Nat} (h5 : Cond.code y b n none ∈ lw_good) (h2 : Cond.initialized y.cls ∈ lw_good) (h3 : Cond.instanceMethod y ∈ lw_good) (hd : y.name = "<init>" ∧ (y.cls ≠ "java/lang/invoke/MethodHandle" ∧ y.cls ≠ "java/lang/invoke/VarHandle" ∧ (parseMethodDescriptor y.desc).map (fun d => d.parameters.length) = some 0)) : LkI own idx y b n := ⟨good_cd h5, ⟨h2, h3⟩, hd⟩
section CALLN
variable {p : Program} {l : Launch} {e : Env} {R : Room} {s : State} {m : MethodId} {args : Array Value} {below : List Frame} {meth : Method} {c : Code} {H : Heap} {locs : List Loc} {cells slots : Nat} {Q : State → Prop}
variable {cc b : ByteArray} {pc nL n fr lo mc ms idx : Nat} {ls : Array Slot} {rest : List Value} {D : va_G} {cA : Nat → ClassId} {A : Nat → Prop} {o : Nat} {own host : String} {y : MethodName} {w0 wl : va_W} {Wf : (Nat → Nat) → va_W}
theorem cIN (hM : Cm l y b n fr lo mc ms D cA o w0 Wf) (lk : LkI own idx y b n) (hlink : Cond.methodLinkNest own idx y host ∈ nestW) (hx : p.tables.exec = Jvm.exec) (hb : c.code = cc) (hml : c.maxLocals = nL) (hown : s.vm.findClass own = some m.cls) (hts : ∀ w ∈ lw_good, w.before args s = true) (hKK : KK D cA s)
    (hP : va_P D classes (wl ++ w0) H) (hD : va_D A (wl ++ w0)) (hS : va_S A s.heap H locs) (hA : ∀ q, s.heap.size ≤ q → A q) (hls : ls.size = nL)
    (hroom : fr + 1 ≤ R.frames ∧ 8 + (n + 11) + lo ≤ R.locals) (hcs : cells + mc ≤ R.cells ∧ slots + ms ≤ R.slots) (hW : (rest.map fun v => v.category).sum ≤ 8) (hdg : decode cc pc = .ok (.invokespecial idx, 3))
    (kk : ∀ (h : Nat → Nat) (H1 : Heap) (locs1 : List Loc), h 0 = o → va_P D classes (wl ++ Wf h) H1 → va_D A (wl ++ Wf h) → va_S A s.heap H1 locs1 → W p l e R s m args below meth c H1 locs1 (cells + mc) (slots + ms) Q (F0 m (pc + 3) ls rest)) :
    W p l e R s m args below meth c H locs cells slots Q (F0 m pc ls (.ref o :: rest)) := by
  have hP3 : va_P D classes (wl ++ (w0 ++ [])) H := by simpa using hP
  have hD3 : va_D A (wl ++ (w0 ++ [])) := by simpa using hD
  have hF := free3 hD3 hS hA
  have hPc := sub3 hP3
  refine va_callv (va_runIN (As := []) (rest := rest) (host := host) ⟨hx, hb, hml, hown, hts⟩ (hM H.size) ⟨va_cnB 0 hts lk.1 rfl rfl rfl (hKK.2.1 _ hlink) (hts _ lk.2.1.1) lk.2.2.2 hroom, lk.2.2.1, hts _ lk.2.1.2⟩ ⟨call_blind, fun U hU hW => ⟨rfl, by rw [hU], by rw [hU]; exact hPc, KK.warm hW hKK, (subD3 hD3).weaken (fun _ _ _ _ => trivial)⟩⟩ rfl rfl hls rfl (lv_room hW) hdg hcs) hS (fun q _ h => hF q h) hF (fun h t H1 locs1 ht hvm hw hB hz1 hk1 hS1 => ?_)
  obtain ⟨hB1, hB2⟩ := hB
  rw [ht] at hB1
  obtain ⟨hP1, hD1⟩ := joinN hP hD hF hk1 hB1 hB2
  exact kk h H1 locs1 hw hP1 hD1 hS1
theorem cI (hM : Cm l y b n fr lo mc ms D cA o w0 Wf) (lk : LkI own idx y b n) (hlink : Cond.methodLink own idx y ∈ lw_good) (hx : p.tables.exec = Jvm.exec) (hb : c.code = cc) (hml : c.maxLocals = nL) (hown : s.vm.findClass own = some m.cls) (hts : ∀ w ∈ lw_good, w.before args s = true) (hKK : KK D cA s)
    (hP : va_P D classes (wl ++ w0) H) (hD : va_D A (wl ++ w0)) (hS : va_S A s.heap H locs) (hA : ∀ q, s.heap.size ≤ q → A q) (hls : ls.size = nL)
    (hroom : fr + 1 ≤ R.frames ∧ 8 + (n + 11) + lo ≤ R.locals) (hcs : cells + mc ≤ R.cells ∧ slots + ms ≤ R.slots) (hW : (rest.map fun v => v.category).sum ≤ 8) (hdg : decode cc pc = .ok (.invokespecial idx, 3))
    (kk : ∀ (h : Nat → Nat) (H1 : Heap) (locs1 : List Loc), h 0 = o → va_P D classes (wl ++ Wf h) H1 → va_D A (wl ++ Wf h) → va_S A s.heap H1 locs1 → W p l e R s m args below meth c H1 locs1 (cells + mc) (slots + ms) Q (F0 m (pc + 3) ls rest)) :
    W p l e R s m args below meth c H locs cells slots Q (F0 m pc ls (.ref o :: rest)) := by
  have hP3 : va_P D classes (wl ++ (w0 ++ [])) H := by simpa using hP
  have hD3 : va_D A (wl ++ (w0 ++ [])) := by simpa using hD
  have hF := free3 hD3 hS hA
  have hPc := sub3 hP3
  refine va_callv (va_runI (As := []) (rest := rest) ⟨hx, hb, hml, hown, hts⟩ (hM H.size) (cwI 0 hts lk.1 rfl rfl rfl (hts _ lk.2.1.1) (hts _ hlink) (hts _ lk.2.1.2) lk.2.2.1 lk.2.2.2 hroom) ⟨call_blind, fun U hU hW => ⟨rfl, by rw [hU], by rw [hU]; exact hPc, KK.warm hW hKK, (subD3 hD3).weaken (fun _ _ _ _ => trivial)⟩⟩ rfl rfl hls rfl (lv_room hW) hdg hcs) hS (fun q _ h => hF q h) hF (fun h t H1 locs1 ht hvm hw hB hz1 hk1 hS1 => ?_)
  obtain ⟨hB1, hB2⟩ := hB
  rw [ht] at hB1
  obtain ⟨hP1, hD1⟩ := joinN hP hD hF hk1 hB1 hB2
  exact kk h H1 locs1 hw hP1 hD1 hS1
end CALLN
end
section
-- ===== constructors =====
abbrev zS : Sg := fun _ _ => 0
def wN (cA : Nat → ClassId) (h : Nat → Nat) : va_W := [(h 0, .inr (1, [.ref (h 1)])), (h 1, .inl (cA 0, 32, .inl (fun _ => 0)))]
def wE (cA : Nat → ClassId) (h : Nat → Nat) : va_W := [(h 0, .inr (2, [.ref (h 1), .ref (h 2), .int 0, .int 0, .int 0, .ref (h 3), .int 0])), (h 1, .inl (cA 0, 64, .inl (fun _ => 0))), (h 2, .inl (cA 0, 64, .inl (fun _ => 0))), (h 3, .inl (cA 1, 32, .inl (fun _ => 0)))]
def wL (cA : Nat → ClassId) (h : Nat → Nat) : va_W := [(h 0, .inr (3, [.ref (h 1), .ref (h 2), .ref (h 3), .ref (h 4), .ref (h 5), .ref (h 6), .ref (h 7), .ref (h 8), .ref (h 9), .int 0, .int 0])), (h 1, .inl (cA 1, 256, .inl (fun _ => 0))), (h 2, .inl (cA 1, 256, .inl (fun _ => 0))), (h 3, .inl (cA 1, 256, .inl (fun _ => 0))), (h 4, .inl (cA 0, 256, .inl (fun _ => 0))), (h 5, .inl (cA 0, 256, .inl (fun _ => 0))), (h 6, .inl (cA 0, 256, .inl (fun _ => 0))), (h 7, .inl (cA 0, 256, .inl (fun _ => 0))), (h 8, .inl (cA 0, 256, .inl (fun _ => 0))), (h 9, .inl (cA 0, 256, .inl (fun _ => 0)))]
def rowsA (cA : Nat → ClassId) (h : Nat → Nat) : va_W := (List.range 32).map (fun e => (h (4 + e), .inl (cA 2, 256, .inl (fun _ => 0))))
def wA (cA : Nat → ClassId) (h : Nat → Nat) : va_W := [(h 0, .inr (4, [.ref (h 1), .ref (h 2), .ref (h 3)])), (h 1, .inl (cA 3, 32, .inr (.inr (.inr (.inr (fun e => some (h (4 + e)))))))), (h 2, .inl (cA 0, 32, .inl (fun _ => 0))), (h 3, .inl (cA 1, 32, .inl (fun _ => 0)))] ++ rowsA cA h

set_option maxHeartbeats 4000000 in
set_option maxRecDepth 100000 in
theorem c_N_init (l : Launch) (D : va_G) (cA : Nat → ClassId) (o : Nat) : Cm l y_N_init b_N_init 1 1 12 1 32 D cA o [(o, .inr (1, [.null]))] (wN cA) := by
  refine Cm.of (by decide +kernel) rfl (Nat.le_refl 1) ?_
  intro p e s m below meth c A Q ls hx hb hml hown hin hts hKK hP hD hA hS hend hl
  have hown : s.vm.findClass R_N = some m.cls := hown
  have hK := hKK.1
  refine lv_aload_n hx hb d_N_init_0 rfl (lv_at hl 0 rfl) ?_
  refine W.objInit hx hb hown (hts _ tw_21) (hts _ tw_14) (hts _ tw_15) rfl (by rw [hml]; exact hl.1) rfl d_N_init_1 (Nat.le_of_ble_eq_true rfl) (Nat.le_of_ble_eq_true rfl) ?_
  refine W.eq (g2 := F0 m 4 ls []) rfl ?_
  refine lv_aload_n hx hb d_N_init_4 rfl (lv_at hl 0 rfl) ?_
  refine lv_bipush (v := 32) hx hb d_N_init_5 (by decide) ?_
  refine va_newb (atype := .int) (N' := 32) (a0 := (32, .inl (fun _ => 0))) hx hb (hts _ tw_27) rfl hK hP hD hS hA 0 rfl rfl (fun _ => rfl) (by decide) rfl (by decide) (Nat.le_of_ble_eq_true rfl) (Nat.le_of_ble_eq_true rfl) d_N_init_7 (fun q7 H hP hD hS => ?_)
  obtain ⟨S1, eS1⟩ : ∃ S : va_W, S = ([] : va_W) ++ [(q7, .inl (cA 0, 32, .inl (fun _ => 0)))] := ⟨_, rfl⟩
  have hP : va_P D classes ((o, .inr (1, [.null])) :: S1) H := by rw [eS1]; exact hP
  have hD : va_D A ((o, .inr (1, [.null])) :: S1) := by rw [eS1]; exact hD
  refine W.widen (k := 1) (n := 32) (Nat.le_refl _) (Nat.le_refl _) ?_
  refine va_putF (D := D) (ci := 1) (v := .ref q7) (ty := .array .int) (C := R_N) (T := F_N) (N := 1) hx hb hts i_N t_N t_N_ok n_N hown hK hP hD hS 0 rfl rfl 0 (by decide) (hts _ tw_22) (fun _ h9 => h9) rfl hin rfl (t_N_ok 0 (by decide)) rfl rfl (Nat.le_of_ble_eq_true rfl) d_N_init_9 (fun H locs hP hD hS => ?_)
  have hP : va_P D classes ((o, .inr (1, [.ref q7])) :: S1) H := hP
  have hD : va_D A ((o, .inr (1, [.ref q7])) :: S1) := hD
  simp only [eS1, List.nil_append, List.cons_append, List.append_assoc] at hP hD
  exact hend (fun k => match k with | 0 => o | _ => q7) _ _ _ _ rfl hP hD hS d_N_init_12
set_option maxHeartbeats 4000000 in
set_option maxRecDepth 100000 in
theorem c_E_init (l : Launch) (D : va_G) (cA : Nat → ClassId) (o : Nat) : Cm l y_E_init b_E_init 1 1 12 3 160 D cA o [(o, .inr (2, [.null, .null, .int 0, .int 0, .int 0, .null, .int 0]))] (wE cA) := by
  refine Cm.of (by decide +kernel) rfl (Nat.le_refl 1) ?_
  intro p e s m below meth c A Q ls hx hb hml hown hin hts hKK hP hD hA hS hend hl
  have hown : s.vm.findClass R_E = some m.cls := hown
  have hK := hKK.1
  refine lv_aload_n hx hb d_E_init_0 rfl (lv_at hl 0 rfl) ?_
  refine W.objInit hx hb hown (hts _ tw_33) (hts _ tw_14) (hts _ tw_15) rfl (by rw [hml]; exact hl.1) rfl d_E_init_1 (Nat.le_of_ble_eq_true rfl) (Nat.le_of_ble_eq_true rfl) ?_
  refine W.eq (g2 := F0 m 4 ls []) rfl ?_
  refine lv_aload_n hx hb d_E_init_4 rfl (lv_at hl 0 rfl) ?_
  refine lv_bipush (v := 64) hx hb d_E_init_5 (by decide) ?_
  refine va_newb (atype := .int) (N' := 64) (a0 := (64, .inl (fun _ => 0))) hx hb (hts _ tw_27) rfl hK hP hD hS hA 0 rfl rfl (fun _ => rfl) (by decide) rfl (by decide) (Nat.le_of_ble_eq_true rfl) (Nat.le_of_ble_eq_true rfl) d_E_init_7 (fun q7 H hP hD hS => ?_)
  obtain ⟨S1, eS1⟩ : ∃ S : va_W, S = ([] : va_W) ++ [(q7, .inl (cA 0, 64, .inl (fun _ => 0)))] := ⟨_, rfl⟩
  have hP : va_P D classes ((o, .inr (2, [.null, .null, .int 0, .int 0, .int 0, .null, .int 0])) :: S1) H := by rw [eS1]; exact hP
  have hD : va_D A ((o, .inr (2, [.null, .null, .int 0, .int 0, .int 0, .null, .int 0])) :: S1) := by rw [eS1]; exact hD
  refine W.widen (k := 1) (n := 64) (Nat.le_refl _) (Nat.le_refl _) ?_
  refine va_putF (D := D) (ci := 2) (v := .ref q7) (ty := .array .int) (C := R_E) (T := F_E) (N := 7) hx hb hts i_E t_E t_E_ok n_E hown hK hP hD hS 0 rfl rfl 0 (by decide) (hts _ tw_34) (fun _ h9 => h9) rfl hin rfl (t_E_ok 0 (by decide)) rfl rfl (Nat.le_of_ble_eq_true rfl) d_E_init_9 (fun H locs hP hD hS => ?_)
  have hP : va_P D classes ((o, .inr (2, [.ref q7, .null, .int 0, .int 0, .int 0, .null, .int 0])) :: S1) H := hP
  have hD : va_D A ((o, .inr (2, [.ref q7, .null, .int 0, .int 0, .int 0, .null, .int 0])) :: S1) := hD
  refine lv_aload_n hx hb d_E_init_12 rfl (lv_at hl 0 rfl) ?_
  refine lv_bipush (v := 64) hx hb d_E_init_13 (by decide) ?_
  refine va_newb (atype := .int) (N' := 64) (a0 := (64, .inl (fun _ => 0))) hx hb (hts _ tw_27) rfl hK hP hD hS hA 0 rfl rfl (fun _ => rfl) (by decide) rfl (by decide) (Nat.le_of_ble_eq_true rfl) (Nat.le_of_ble_eq_true rfl) d_E_init_15 (fun q15 H hP hD hS => ?_)
  obtain ⟨S2, eS2⟩ : ∃ S : va_W, S = S1 ++ [(q15, .inl (cA 0, 64, .inl (fun _ => 0)))] := ⟨_, rfl⟩
  have hP : va_P D classes ((o, .inr (2, [.ref q7, .null, .int 0, .int 0, .int 0, .null, .int 0])) :: S2) H := by rw [eS2]; exact hP
  have hD : va_D A ((o, .inr (2, [.ref q7, .null, .int 0, .int 0, .int 0, .null, .int 0])) :: S2) := by rw [eS2]; exact hD
  refine W.widen (k := 2) (n := 128) (Nat.le_refl _) (Nat.le_refl _) ?_
  refine va_putF (D := D) (ci := 2) (v := .ref q15) (ty := .array .int) (C := R_E) (T := F_E) (N := 7) hx hb hts i_E t_E t_E_ok n_E hown hK hP hD hS 0 rfl rfl 1 (by decide) (hts _ tw_35) (fun _ h9 => h9) rfl hin rfl (t_E_ok 1 (by decide)) rfl rfl (Nat.le_of_ble_eq_true rfl) d_E_init_17 (fun H locs hP hD hS => ?_)
  have hP : va_P D classes ((o, .inr (2, [.ref q7, .ref q15, .int 0, .int 0, .int 0, .null, .int 0])) :: S2) H := hP
  have hD : va_D A ((o, .inr (2, [.ref q7, .ref q15, .int 0, .int 0, .int 0, .null, .int 0])) :: S2) := hD
  refine lv_aload_n hx hb d_E_init_20 rfl (lv_at hl 0 rfl) ?_
  refine lv_bipush (v := 32) hx hb d_E_init_21 (by decide) ?_
  refine va_newb (atype := .boolean) (N' := 32) (a0 := (32, .inl (fun _ => 0))) hx hb (hts _ tw_60) rfl hK hP hD hS hA 1 rfl rfl (fun _ => rfl) (by decide) rfl (by decide) (Nat.le_of_ble_eq_true rfl) (Nat.le_of_ble_eq_true rfl) d_E_init_23 (fun q23 H hP hD hS => ?_)
  obtain ⟨S3, eS3⟩ : ∃ S : va_W, S = S2 ++ [(q23, .inl (cA 1, 32, .inl (fun _ => 0)))] := ⟨_, rfl⟩
  have hP : va_P D classes ((o, .inr (2, [.ref q7, .ref q15, .int 0, .int 0, .int 0, .null, .int 0])) :: S3) H := by rw [eS3]; exact hP
  have hD : va_D A ((o, .inr (2, [.ref q7, .ref q15, .int 0, .int 0, .int 0, .null, .int 0])) :: S3) := by rw [eS3]; exact hD
  refine W.widen (k := 3) (n := 160) (Nat.le_refl _) (Nat.le_refl _) ?_
  refine va_putF (D := D) (ci := 2) (v := .ref q23) (ty := .array .boolean) (C := R_E) (T := F_E) (N := 7) hx hb hts i_E t_E t_E_ok n_E hown hK hP hD hS 0 rfl rfl 5 (by decide) (hts _ tw_41) (fun _ h9 => h9) rfl hin rfl (t_E_ok 5 (by decide)) rfl rfl (Nat.le_of_ble_eq_true rfl) d_E_init_25 (fun H locs hP hD hS => ?_)
  have hP : va_P D classes ((o, .inr (2, [.ref q7, .ref q15, .int 0, .int 0, .int 0, .ref q23, .int 0])) :: S3) H := hP
  have hD : va_D A ((o, .inr (2, [.ref q7, .ref q15, .int 0, .int 0, .int 0, .ref q23, .int 0])) :: S3) := hD
  simp only [eS1, eS2, eS3, List.nil_append, List.cons_append, List.append_assoc] at hP hD
  exact hend (fun k => match k with | 0 => o | 1 => q7 | 2 => q15 | _ => q23) _ _ _ _ rfl hP hD hS d_E_init_28
set_option maxHeartbeats 4000000 in
set_option maxRecDepth 100000 in
theorem c_L_init (l : Launch) (D : va_G) (cA : Nat → ClassId) (o : Nat) : Cm l y_L_init b_L_init 1 1 12 9 2304 D cA o [(o, .inr (3, [.null, .null, .null, .null, .null, .null, .null, .null, .null, .int 0, .int 0]))] (wL cA) := by
  refine Cm.of (by decide +kernel) rfl (Nat.le_refl 1) ?_
  intro p e s m below meth c A Q ls hx hb hml hown hin hts hKK hP hD hA hS hend hl
  have hown : s.vm.findClass R_L = some m.cls := hown
  have hK := hKK.1
  refine lv_aload_n hx hb d_L_init_0 rfl (lv_at hl 0 rfl) ?_
  refine W.objInit hx hb hown (hts _ tw_66) (hts _ tw_14) (hts _ tw_15) rfl (by rw [hml]; exact hl.1) rfl d_L_init_1 (Nat.le_of_ble_eq_true rfl) (Nat.le_of_ble_eq_true rfl) ?_
  refine W.eq (g2 := F0 m 4 ls []) rfl ?_
  refine lv_aload_n hx hb d_L_init_4 rfl (lv_at hl 0 rfl) ?_
  refine lv_sipush (v := 256) hx hb d_L_init_5 (by decide) ?_
  refine va_newb (atype := .boolean) (N' := 256) (a0 := (256, .inl (fun _ => 0))) hx hb (hts _ tw_60) rfl hK hP hD hS hA 1 rfl rfl (fun _ => rfl) (by decide) rfl (by decide) (Nat.le_of_ble_eq_true rfl) (Nat.le_of_ble_eq_true rfl) d_L_init_8 (fun q8 H hP hD hS => ?_)
  obtain ⟨S1, eS1⟩ : ∃ S : va_W, S = ([] : va_W) ++ [(q8, .inl (cA 1, 256, .inl (fun _ => 0)))] := ⟨_, rfl⟩
  have hP : va_P D classes ((o, .inr (3, [.null, .null, .null, .null, .null, .null, .null, .null, .null, .int 0, .int 0])) :: S1) H := by rw [eS1]; exact hP
  have hD : va_D A ((o, .inr (3, [.null, .null, .null, .null, .null, .null, .null, .null, .null, .int 0, .int 0])) :: S1) := by rw [eS1]; exact hD
  refine W.widen (k := 1) (n := 256) (Nat.le_refl _) (Nat.le_refl _) ?_
  refine va_putF (D := D) (ci := 3) (v := .ref q8) (ty := .array .boolean) (C := R_L) (T := F_L) (N := 11) hx hb hts i_L t_L t_L_ok n_L hown hK hP hD hS 0 rfl rfl 0 (by decide) (hts _ tw_67) (fun _ h9 => h9) rfl hin rfl (t_L_ok 0 (by decide)) rfl rfl (Nat.le_of_ble_eq_true rfl) d_L_init_10 (fun H locs hP hD hS => ?_)
  have hP : va_P D classes ((o, .inr (3, [.ref q8, .null, .null, .null, .null, .null, .null, .null, .null, .int 0, .int 0])) :: S1) H := hP
  have hD : va_D A ((o, .inr (3, [.ref q8, .null, .null, .null, .null, .null, .null, .null, .null, .int 0, .int 0])) :: S1) := hD
  refine lv_aload_n hx hb d_L_init_13 rfl (lv_at hl 0 rfl) ?_
  refine lv_sipush (v := 256) hx hb d_L_init_14 (by decide) ?_
  refine va_newb (atype := .boolean) (N' := 256) (a0 := (256, .inl (fun _ => 0))) hx hb (hts _ tw_60) rfl hK hP hD hS hA 1 rfl rfl (fun _ => rfl) (by decide) rfl (by decide) (Nat.le_of_ble_eq_true rfl) (Nat.le_of_ble_eq_true rfl) d_L_init_17 (fun q17 H hP hD hS => ?_)
  obtain ⟨S2, eS2⟩ : ∃ S : va_W, S = S1 ++ [(q17, .inl (cA 1, 256, .inl (fun _ => 0)))] := ⟨_, rfl⟩
  have hP : va_P D classes ((o, .inr (3, [.ref q8, .null, .null, .null, .null, .null, .null, .null, .null, .int 0, .int 0])) :: S2) H := by rw [eS2]; exact hP
  have hD : va_D A ((o, .inr (3, [.ref q8, .null, .null, .null, .null, .null, .null, .null, .null, .int 0, .int 0])) :: S2) := by rw [eS2]; exact hD
  refine W.widen (k := 2) (n := 512) (Nat.le_refl _) (Nat.le_refl _) ?_
  refine va_putF (D := D) (ci := 3) (v := .ref q17) (ty := .array .boolean) (C := R_L) (T := F_L) (N := 11) hx hb hts i_L t_L t_L_ok n_L hown hK hP hD hS 0 rfl rfl 1 (by decide) (hts _ tw_68) (fun _ h9 => h9) rfl hin rfl (t_L_ok 1 (by decide)) rfl rfl (Nat.le_of_ble_eq_true rfl) d_L_init_19 (fun H locs hP hD hS => ?_)
  have hP : va_P D classes ((o, .inr (3, [.ref q8, .ref q17, .null, .null, .null, .null, .null, .null, .null, .int 0, .int 0])) :: S2) H := hP
  have hD : va_D A ((o, .inr (3, [.ref q8, .ref q17, .null, .null, .null, .null, .null, .null, .null, .int 0, .int 0])) :: S2) := hD
  refine lv_aload_n hx hb d_L_init_22 rfl (lv_at hl 0 rfl) ?_
  refine lv_sipush (v := 256) hx hb d_L_init_23 (by decide) ?_
  refine va_newb (atype := .boolean) (N' := 256) (a0 := (256, .inl (fun _ => 0))) hx hb (hts _ tw_60) rfl hK hP hD hS hA 1 rfl rfl (fun _ => rfl) (by decide) rfl (by decide) (Nat.le_of_ble_eq_true rfl) (Nat.le_of_ble_eq_true rfl) d_L_init_26 (fun q26 H hP hD hS => ?_)
  obtain ⟨S3, eS3⟩ : ∃ S : va_W, S = S2 ++ [(q26, .inl (cA 1, 256, .inl (fun _ => 0)))] := ⟨_, rfl⟩
  have hP : va_P D classes ((o, .inr (3, [.ref q8, .ref q17, .null, .null, .null, .null, .null, .null, .null, .int 0, .int 0])) :: S3) H := by rw [eS3]; exact hP
  have hD : va_D A ((o, .inr (3, [.ref q8, .ref q17, .null, .null, .null, .null, .null, .null, .null, .int 0, .int 0])) :: S3) := by rw [eS3]; exact hD
  refine W.widen (k := 3) (n := 768) (Nat.le_refl _) (Nat.le_refl _) ?_
  refine va_putF (D := D) (ci := 3) (v := .ref q26) (ty := .array .boolean) (C := R_L) (T := F_L) (N := 11) hx hb hts i_L t_L t_L_ok n_L hown hK hP hD hS 0 rfl rfl 2 (by decide) (hts _ tw_70) (fun _ h9 => h9) rfl hin rfl (t_L_ok 2 (by decide)) rfl rfl (Nat.le_of_ble_eq_true rfl) d_L_init_28 (fun H locs hP hD hS => ?_)
  have hP : va_P D classes ((o, .inr (3, [.ref q8, .ref q17, .ref q26, .null, .null, .null, .null, .null, .null, .int 0, .int 0])) :: S3) H := hP
  have hD : va_D A ((o, .inr (3, [.ref q8, .ref q17, .ref q26, .null, .null, .null, .null, .null, .null, .int 0, .int 0])) :: S3) := hD
  refine lv_aload_n hx hb d_L_init_31 rfl (lv_at hl 0 rfl) ?_
  refine lv_sipush (v := 256) hx hb d_L_init_32 (by decide) ?_
  refine va_newb (atype := .int) (N' := 256) (a0 := (256, .inl (fun _ => 0))) hx hb (hts _ tw_27) rfl hK hP hD hS hA 0 rfl rfl (fun _ => rfl) (by decide) rfl (by decide) (Nat.le_of_ble_eq_true rfl) (Nat.le_of_ble_eq_true rfl) d_L_init_35 (fun q35 H hP hD hS => ?_)
  obtain ⟨S4, eS4⟩ : ∃ S : va_W, S = S3 ++ [(q35, .inl (cA 0, 256, .inl (fun _ => 0)))] := ⟨_, rfl⟩
  have hP : va_P D classes ((o, .inr (3, [.ref q8, .ref q17, .ref q26, .null, .null, .null, .null, .null, .null, .int 0, .int 0])) :: S4) H := by rw [eS4]; exact hP
  have hD : va_D A ((o, .inr (3, [.ref q8, .ref q17, .ref q26, .null, .null, .null, .null, .null, .null, .int 0, .int 0])) :: S4) := by rw [eS4]; exact hD
  refine W.widen (k := 4) (n := 1024) (Nat.le_refl _) (Nat.le_refl _) ?_
  refine va_putF (D := D) (ci := 3) (v := .ref q35) (ty := .array .int) (C := R_L) (T := F_L) (N := 11) hx hb hts i_L t_L t_L_ok n_L hown hK hP hD hS 0 rfl rfl 3 (by decide) (hts _ tw_72) (fun _ h9 => h9) rfl hin rfl (t_L_ok 3 (by decide)) rfl rfl (Nat.le_of_ble_eq_true rfl) d_L_init_37 (fun H locs hP hD hS => ?_)
  have hP : va_P D classes ((o, .inr (3, [.ref q8, .ref q17, .ref q26, .ref q35, .null, .null, .null, .null, .null, .int 0, .int 0])) :: S4) H := hP
  have hD : va_D A ((o, .inr (3, [.ref q8, .ref q17, .ref q26, .ref q35, .null, .null, .null, .null, .null, .int 0, .int 0])) :: S4) := hD
  refine lv_aload_n hx hb d_L_init_40 rfl (lv_at hl 0 rfl) ?_
  refine lv_sipush (v := 256) hx hb d_L_init_41 (by decide) ?_
  refine va_newb (atype := .int) (N' := 256) (a0 := (256, .inl (fun _ => 0))) hx hb (hts _ tw_27) rfl hK hP hD hS hA 0 rfl rfl (fun _ => rfl) (by decide) rfl (by decide) (Nat.le_of_ble_eq_true rfl) (Nat.le_of_ble_eq_true rfl) d_L_init_44 (fun q44 H hP hD hS => ?_)
  obtain ⟨S5, eS5⟩ : ∃ S : va_W, S = S4 ++ [(q44, .inl (cA 0, 256, .inl (fun _ => 0)))] := ⟨_, rfl⟩
  have hP : va_P D classes ((o, .inr (3, [.ref q8, .ref q17, .ref q26, .ref q35, .null, .null, .null, .null, .null, .int 0, .int 0])) :: S5) H := by rw [eS5]; exact hP
  have hD : va_D A ((o, .inr (3, [.ref q8, .ref q17, .ref q26, .ref q35, .null, .null, .null, .null, .null, .int 0, .int 0])) :: S5) := by rw [eS5]; exact hD
  refine W.widen (k := 5) (n := 1280) (Nat.le_refl _) (Nat.le_refl _) ?_
  refine va_putF (D := D) (ci := 3) (v := .ref q44) (ty := .array .int) (C := R_L) (T := F_L) (N := 11) hx hb hts i_L t_L t_L_ok n_L hown hK hP hD hS 0 rfl rfl 4 (by decide) (hts _ tw_74) (fun _ h9 => h9) rfl hin rfl (t_L_ok 4 (by decide)) rfl rfl (Nat.le_of_ble_eq_true rfl) d_L_init_46 (fun H locs hP hD hS => ?_)
  have hP : va_P D classes ((o, .inr (3, [.ref q8, .ref q17, .ref q26, .ref q35, .ref q44, .null, .null, .null, .null, .int 0, .int 0])) :: S5) H := hP
  have hD : va_D A ((o, .inr (3, [.ref q8, .ref q17, .ref q26, .ref q35, .ref q44, .null, .null, .null, .null, .int 0, .int 0])) :: S5) := hD
  refine lv_aload_n hx hb d_L_init_49 rfl (lv_at hl 0 rfl) ?_
  refine lv_sipush (v := 256) hx hb d_L_init_50 (by decide) ?_
  refine va_newb (atype := .int) (N' := 256) (a0 := (256, .inl (fun _ => 0))) hx hb (hts _ tw_27) rfl hK hP hD hS hA 0 rfl rfl (fun _ => rfl) (by decide) rfl (by decide) (Nat.le_of_ble_eq_true rfl) (Nat.le_of_ble_eq_true rfl) d_L_init_53 (fun q53 H hP hD hS => ?_)
  obtain ⟨S6, eS6⟩ : ∃ S : va_W, S = S5 ++ [(q53, .inl (cA 0, 256, .inl (fun _ => 0)))] := ⟨_, rfl⟩
  have hP : va_P D classes ((o, .inr (3, [.ref q8, .ref q17, .ref q26, .ref q35, .ref q44, .null, .null, .null, .null, .int 0, .int 0])) :: S6) H := by rw [eS6]; exact hP
  have hD : va_D A ((o, .inr (3, [.ref q8, .ref q17, .ref q26, .ref q35, .ref q44, .null, .null, .null, .null, .int 0, .int 0])) :: S6) := by rw [eS6]; exact hD
  refine W.widen (k := 6) (n := 1536) (Nat.le_refl _) (Nat.le_refl _) ?_
  refine va_putF (D := D) (ci := 3) (v := .ref q53) (ty := .array .int) (C := R_L) (T := F_L) (N := 11) hx hb hts i_L t_L t_L_ok n_L hown hK hP hD hS 0 rfl rfl 5 (by decide) (hts _ tw_76) (fun _ h9 => h9) rfl hin rfl (t_L_ok 5 (by decide)) rfl rfl (Nat.le_of_ble_eq_true rfl) d_L_init_55 (fun H locs hP hD hS => ?_)
  have hP : va_P D classes ((o, .inr (3, [.ref q8, .ref q17, .ref q26, .ref q35, .ref q44, .ref q53, .null, .null, .null, .int 0, .int 0])) :: S6) H := hP
  have hD : va_D A ((o, .inr (3, [.ref q8, .ref q17, .ref q26, .ref q35, .ref q44, .ref q53, .null, .null, .null, .int 0, .int 0])) :: S6) := hD
  refine lv_aload_n hx hb d_L_init_58 rfl (lv_at hl 0 rfl) ?_
  refine lv_sipush (v := 256) hx hb d_L_init_59 (by decide) ?_
  refine va_newb (atype := .int) (N' := 256) (a0 := (256, .inl (fun _ => 0))) hx hb (hts _ tw_27) rfl hK hP hD hS hA 0 rfl rfl (fun _ => rfl) (by decide) rfl (by decide) (Nat.le_of_ble_eq_true rfl) (Nat.le_of_ble_eq_true rfl) d_L_init_62 (fun q62 H hP hD hS => ?_)
  obtain ⟨S7, eS7⟩ : ∃ S : va_W, S = S6 ++ [(q62, .inl (cA 0, 256, .inl (fun _ => 0)))] := ⟨_, rfl⟩
  have hP : va_P D classes ((o, .inr (3, [.ref q8, .ref q17, .ref q26, .ref q35, .ref q44, .ref q53, .null, .null, .null, .int 0, .int 0])) :: S7) H := by rw [eS7]; exact hP
  have hD : va_D A ((o, .inr (3, [.ref q8, .ref q17, .ref q26, .ref q35, .ref q44, .ref q53, .null, .null, .null, .int 0, .int 0])) :: S7) := by rw [eS7]; exact hD
  refine W.widen (k := 7) (n := 1792) (Nat.le_refl _) (Nat.le_refl _) ?_
  refine va_putF (D := D) (ci := 3) (v := .ref q62) (ty := .array .int) (C := R_L) (T := F_L) (N := 11) hx hb hts i_L t_L t_L_ok n_L hown hK hP hD hS 0 rfl rfl 6 (by decide) (hts _ tw_77) (fun _ h9 => h9) rfl hin rfl (t_L_ok 6 (by decide)) rfl rfl (Nat.le_of_ble_eq_true rfl) d_L_init_64 (fun H locs hP hD hS => ?_)
  have hP : va_P D classes ((o, .inr (3, [.ref q8, .ref q17, .ref q26, .ref q35, .ref q44, .ref q53, .ref q62, .null, .null, .int 0, .int 0])) :: S7) H := hP
  have hD : va_D A ((o, .inr (3, [.ref q8, .ref q17, .ref q26, .ref q35, .ref q44, .ref q53, .ref q62, .null, .null, .int 0, .int 0])) :: S7) := hD
  refine lv_aload_n hx hb d_L_init_67 rfl (lv_at hl 0 rfl) ?_
  refine lv_sipush (v := 256) hx hb d_L_init_68 (by decide) ?_
  refine va_newb (atype := .int) (N' := 256) (a0 := (256, .inl (fun _ => 0))) hx hb (hts _ tw_27) rfl hK hP hD hS hA 0 rfl rfl (fun _ => rfl) (by decide) rfl (by decide) (Nat.le_of_ble_eq_true rfl) (Nat.le_of_ble_eq_true rfl) d_L_init_71 (fun q71 H hP hD hS => ?_)
  obtain ⟨S8, eS8⟩ : ∃ S : va_W, S = S7 ++ [(q71, .inl (cA 0, 256, .inl (fun _ => 0)))] := ⟨_, rfl⟩
  have hP : va_P D classes ((o, .inr (3, [.ref q8, .ref q17, .ref q26, .ref q35, .ref q44, .ref q53, .ref q62, .null, .null, .int 0, .int 0])) :: S8) H := by rw [eS8]; exact hP
  have hD : va_D A ((o, .inr (3, [.ref q8, .ref q17, .ref q26, .ref q35, .ref q44, .ref q53, .ref q62, .null, .null, .int 0, .int 0])) :: S8) := by rw [eS8]; exact hD
  refine W.widen (k := 8) (n := 2048) (Nat.le_refl _) (Nat.le_refl _) ?_
  refine va_putF (D := D) (ci := 3) (v := .ref q71) (ty := .array .int) (C := R_L) (T := F_L) (N := 11) hx hb hts i_L t_L t_L_ok n_L hown hK hP hD hS 0 rfl rfl 7 (by decide) (hts _ tw_78) (fun _ h9 => h9) rfl hin rfl (t_L_ok 7 (by decide)) rfl rfl (Nat.le_of_ble_eq_true rfl) d_L_init_73 (fun H locs hP hD hS => ?_)
  have hP : va_P D classes ((o, .inr (3, [.ref q8, .ref q17, .ref q26, .ref q35, .ref q44, .ref q53, .ref q62, .ref q71, .null, .int 0, .int 0])) :: S8) H := hP
  have hD : va_D A ((o, .inr (3, [.ref q8, .ref q17, .ref q26, .ref q35, .ref q44, .ref q53, .ref q62, .ref q71, .null, .int 0, .int 0])) :: S8) := hD
  refine lv_aload_n hx hb d_L_init_76 rfl (lv_at hl 0 rfl) ?_
  refine lv_sipush (v := 256) hx hb d_L_init_77 (by decide) ?_
  refine va_newb (atype := .int) (N' := 256) (a0 := (256, .inl (fun _ => 0))) hx hb (hts _ tw_27) rfl hK hP hD hS hA 0 rfl rfl (fun _ => rfl) (by decide) rfl (by decide) (Nat.le_of_ble_eq_true rfl) (Nat.le_of_ble_eq_true rfl) d_L_init_80 (fun q80 H hP hD hS => ?_)
  obtain ⟨S9, eS9⟩ : ∃ S : va_W, S = S8 ++ [(q80, .inl (cA 0, 256, .inl (fun _ => 0)))] := ⟨_, rfl⟩
  have hP : va_P D classes ((o, .inr (3, [.ref q8, .ref q17, .ref q26, .ref q35, .ref q44, .ref q53, .ref q62, .ref q71, .null, .int 0, .int 0])) :: S9) H := by rw [eS9]; exact hP
  have hD : va_D A ((o, .inr (3, [.ref q8, .ref q17, .ref q26, .ref q35, .ref q44, .ref q53, .ref q62, .ref q71, .null, .int 0, .int 0])) :: S9) := by rw [eS9]; exact hD
  refine W.widen (k := 9) (n := 2304) (Nat.le_refl _) (Nat.le_refl _) ?_
  refine va_putF (D := D) (ci := 3) (v := .ref q80) (ty := .array .int) (C := R_L) (T := F_L) (N := 11) hx hb hts i_L t_L t_L_ok n_L hown hK hP hD hS 0 rfl rfl 8 (by decide) (hts _ tw_80) (fun _ h9 => h9) rfl hin rfl (t_L_ok 8 (by decide)) rfl rfl (Nat.le_of_ble_eq_true rfl) d_L_init_82 (fun H locs hP hD hS => ?_)
  have hP : va_P D classes ((o, .inr (3, [.ref q8, .ref q17, .ref q26, .ref q35, .ref q44, .ref q53, .ref q62, .ref q71, .ref q80, .int 0, .int 0])) :: S9) H := hP
  have hD : va_D A ((o, .inr (3, [.ref q8, .ref q17, .ref q26, .ref q35, .ref q44, .ref q53, .ref q62, .ref q71, .ref q80, .int 0, .int 0])) :: S9) := hD
  simp only [eS1, eS2, eS3, eS4, eS5, eS6, eS7, eS8, eS9, List.nil_append, List.cons_append, List.append_assoc] at hP hD
  exact hend (fun k => match k with | 0 => o | 1 => q8 | 2 => q17 | 3 => q26 | 4 => q35 | 5 => q44 | 6 => q53 | 7 => q62 | 8 => q71 | _ => q80) _ _ _ _ rfl hP hD hS d_L_init_85
set_option maxHeartbeats 4000000 in
set_option maxRecDepth 100000 in
theorem c_M_init (l : Launch) (D : va_G) (cA : Nat → ClassId) (o : Nat) : Cm l y_M_init b_M_init 1 1 12 17 11008 D cA o [(o, .inr (5, [.int 0, .null, .null, .null, .null, .null, .null, .null, .null, .null, .null, .int 0, .int 0, .int 0, .null, .null, .int 0, .int 0, .null, .null, .null, .null, .int 0, .null]))] (fun h => wM cA h zS) := by
  refine Cm.of (by decide +kernel) rfl (Nat.le_refl 1) ?_
  intro p e s m below meth c A Q ls hx hb hml hown hin hts hKK hP hD hA hS hend hl
  have hown : s.vm.findClass R_M = some m.cls := hown
  have hK := hKK.1
  refine lv_aload_n hx hb d_M_init_0 rfl (lv_at hl 0 rfl) ?_
  refine W.objInit hx hb hown (hts _ tw_293) (hts _ tw_14) (hts _ tw_15) rfl (by rw [hml]; exact hl.1) rfl d_M_init_1 (Nat.le_of_ble_eq_true rfl) (Nat.le_of_ble_eq_true rfl) ?_
  refine W.eq (g2 := F0 m 4 ls []) rfl ?_
  refine lv_aload_n hx hb d_M_init_4 rfl (lv_at hl 0 rfl) ?_
  refine lv_bipush (v := 32) hx hb d_M_init_5 (by decide) ?_
  refine va_newb (atype := .int) (N' := 32) (a0 := (32, .inl (fun _ => 0))) hx hb (hts _ tw_27) rfl hK hP hD hS hA 0 rfl rfl (fun _ => rfl) (by decide) rfl (by decide) (Nat.le_of_ble_eq_true rfl) (Nat.le_of_ble_eq_true rfl) d_M_init_7 (fun q7 H hP hD hS => ?_)
  obtain ⟨S1, eS1⟩ : ∃ S : va_W, S = ([] : va_W) ++ [(q7, .inl (cA 0, 32, .inl (fun _ => 0)))] := ⟨_, rfl⟩
  have hP : va_P D classes ((o, .inr (5, [.int 0, .null, .null, .null, .null, .null, .null, .null, .null, .null, .null, .int 0, .int 0, .int 0, .null, .null, .int 0, .int 0, .null, .null, .null, .null, .int 0, .null])) :: S1) H := by rw [eS1]; exact hP
  have hD : va_D A ((o, .inr (5, [.int 0, .null, .null, .null, .null, .null, .null, .null, .null, .null, .null, .int 0, .int 0, .int 0, .null, .null, .int 0, .int 0, .null, .null, .null, .null, .int 0, .null])) :: S1) := by rw [eS1]; exact hD
  refine W.widen (k := 1) (n := 32) (Nat.le_refl _) (Nat.le_refl _) ?_
  refine va_putF (D := D) (ci := 5) (v := .ref q7) (ty := .array .int) (C := R_M) (T := F_M) (N := 24) hx hb hts i_M t_M t_M_ok n_M hown hK hP hD hS 0 rfl rfl 1 (by decide) (hts _ tw_295) (fun _ h9 => h9) rfl hin rfl (t_M_ok 1 (by decide)) rfl rfl (Nat.le_of_ble_eq_true rfl) d_M_init_9 (fun H locs hP hD hS => ?_)
  have hP : va_P D classes ((o, .inr (5, [.int 0, .ref q7, .null, .null, .null, .null, .null, .null, .null, .null, .null, .int 0, .int 0, .int 0, .null, .null, .int 0, .int 0, .null, .null, .null, .null, .int 0, .null])) :: S1) H := hP
  have hD : va_D A ((o, .inr (5, [.int 0, .ref q7, .null, .null, .null, .null, .null, .null, .null, .null, .null, .int 0, .int 0, .int 0, .null, .null, .int 0, .int 0, .null, .null, .null, .null, .int 0, .null])) :: S1) := hD
  refine lv_aload_n hx hb d_M_init_12 rfl (lv_at hl 0 rfl) ?_
  refine lv_sipush (v := 256) hx hb d_M_init_13 (by decide) ?_
  refine va_newb (atype := .boolean) (N' := 256) (a0 := (256, .inl (fun _ => 0))) hx hb (hts _ tw_60) rfl hK hP hD hS hA 1 rfl rfl (fun _ => rfl) (by decide) rfl (by decide) (Nat.le_of_ble_eq_true rfl) (Nat.le_of_ble_eq_true rfl) d_M_init_16 (fun q16 H hP hD hS => ?_)
  obtain ⟨S2, eS2⟩ : ∃ S : va_W, S = S1 ++ [(q16, .inl (cA 1, 256, .inl (fun _ => 0)))] := ⟨_, rfl⟩
  have hP : va_P D classes ((o, .inr (5, [.int 0, .ref q7, .null, .null, .null, .null, .null, .null, .null, .null, .null, .int 0, .int 0, .int 0, .null, .null, .int 0, .int 0, .null, .null, .null, .null, .int 0, .null])) :: S2) H := by rw [eS2]; exact hP
  have hD : va_D A ((o, .inr (5, [.int 0, .ref q7, .null, .null, .null, .null, .null, .null, .null, .null, .null, .int 0, .int 0, .int 0, .null, .null, .int 0, .int 0, .null, .null, .null, .null, .int 0, .null])) :: S2) := by rw [eS2]; exact hD
  refine W.widen (k := 2) (n := 288) (Nat.le_refl _) (Nat.le_refl _) ?_
  refine va_putF (D := D) (ci := 5) (v := .ref q16) (ty := .array .boolean) (C := R_M) (T := F_M) (N := 24) hx hb hts i_M t_M t_M_ok n_M hown hK hP hD hS 0 rfl rfl 2 (by decide) (hts _ tw_296) (fun _ h9 => h9) rfl hin rfl (t_M_ok 2 (by decide)) rfl rfl (Nat.le_of_ble_eq_true rfl) d_M_init_18 (fun H locs hP hD hS => ?_)
  have hP : va_P D classes ((o, .inr (5, [.int 0, .ref q7, .ref q16, .null, .null, .null, .null, .null, .null, .null, .null, .int 0, .int 0, .int 0, .null, .null, .int 0, .int 0, .null, .null, .null, .null, .int 0, .null])) :: S2) H := hP
  have hD : va_D A ((o, .inr (5, [.int 0, .ref q7, .ref q16, .null, .null, .null, .null, .null, .null, .null, .null, .int 0, .int 0, .int 0, .null, .null, .int 0, .int 0, .null, .null, .null, .null, .int 0, .null])) :: S2) := hD
  refine lv_aload_n hx hb d_M_init_21 rfl (lv_at hl 0 rfl) ?_
  refine lv_sipush (v := 256) hx hb d_M_init_22 (by decide) ?_
  refine va_newb (atype := .boolean) (N' := 256) (a0 := (256, .inl (fun _ => 0))) hx hb (hts _ tw_60) rfl hK hP hD hS hA 1 rfl rfl (fun _ => rfl) (by decide) rfl (by decide) (Nat.le_of_ble_eq_true rfl) (Nat.le_of_ble_eq_true rfl) d_M_init_25 (fun q25 H hP hD hS => ?_)
  obtain ⟨S3, eS3⟩ : ∃ S : va_W, S = S2 ++ [(q25, .inl (cA 1, 256, .inl (fun _ => 0)))] := ⟨_, rfl⟩
  have hP : va_P D classes ((o, .inr (5, [.int 0, .ref q7, .ref q16, .null, .null, .null, .null, .null, .null, .null, .null, .int 0, .int 0, .int 0, .null, .null, .int 0, .int 0, .null, .null, .null, .null, .int 0, .null])) :: S3) H := by rw [eS3]; exact hP
  have hD : va_D A ((o, .inr (5, [.int 0, .ref q7, .ref q16, .null, .null, .null, .null, .null, .null, .null, .null, .int 0, .int 0, .int 0, .null, .null, .int 0, .int 0, .null, .null, .null, .null, .int 0, .null])) :: S3) := by rw [eS3]; exact hD
  refine W.widen (k := 3) (n := 544) (Nat.le_refl _) (Nat.le_refl _) ?_
  refine va_putF (D := D) (ci := 5) (v := .ref q25) (ty := .array .boolean) (C := R_M) (T := F_M) (N := 24) hx hb hts i_M t_M t_M_ok n_M hown hK hP hD hS 0 rfl rfl 3 (by decide) (hts _ tw_297) (fun _ h9 => h9) rfl hin rfl (t_M_ok 3 (by decide)) rfl rfl (Nat.le_of_ble_eq_true rfl) d_M_init_27 (fun H locs hP hD hS => ?_)
  have hP : va_P D classes ((o, .inr (5, [.int 0, .ref q7, .ref q16, .ref q25, .null, .null, .null, .null, .null, .null, .null, .int 0, .int 0, .int 0, .null, .null, .int 0, .int 0, .null, .null, .null, .null, .int 0, .null])) :: S3) H := hP
  have hD : va_D A ((o, .inr (5, [.int 0, .ref q7, .ref q16, .ref q25, .null, .null, .null, .null, .null, .null, .null, .int 0, .int 0, .int 0, .null, .null, .int 0, .int 0, .null, .null, .null, .null, .int 0, .null])) :: S3) := hD
  refine lv_aload_n hx hb d_M_init_30 rfl (lv_at hl 0 rfl) ?_
  refine lv_sipush (v := 256) hx hb d_M_init_31 (by decide) ?_
  refine va_newb (atype := .boolean) (N' := 256) (a0 := (256, .inl (fun _ => 0))) hx hb (hts _ tw_60) rfl hK hP hD hS hA 1 rfl rfl (fun _ => rfl) (by decide) rfl (by decide) (Nat.le_of_ble_eq_true rfl) (Nat.le_of_ble_eq_true rfl) d_M_init_34 (fun q34 H hP hD hS => ?_)
  obtain ⟨S4, eS4⟩ : ∃ S : va_W, S = S3 ++ [(q34, .inl (cA 1, 256, .inl (fun _ => 0)))] := ⟨_, rfl⟩
  have hP : va_P D classes ((o, .inr (5, [.int 0, .ref q7, .ref q16, .ref q25, .null, .null, .null, .null, .null, .null, .null, .int 0, .int 0, .int 0, .null, .null, .int 0, .int 0, .null, .null, .null, .null, .int 0, .null])) :: S4) H := by rw [eS4]; exact hP
  have hD : va_D A ((o, .inr (5, [.int 0, .ref q7, .ref q16, .ref q25, .null, .null, .null, .null, .null, .null, .null, .int 0, .int 0, .int 0, .null, .null, .int 0, .int 0, .null, .null, .null, .null, .int 0, .null])) :: S4) := by rw [eS4]; exact hD
  refine W.widen (k := 4) (n := 800) (Nat.le_refl _) (Nat.le_refl _) ?_
  refine va_putF (D := D) (ci := 5) (v := .ref q34) (ty := .array .boolean) (C := R_M) (T := F_M) (N := 24) hx hb hts i_M t_M t_M_ok n_M hown hK hP hD hS 0 rfl rfl 4 (by decide) (hts _ tw_298) (fun _ h9 => h9) rfl hin rfl (t_M_ok 4 (by decide)) rfl rfl (Nat.le_of_ble_eq_true rfl) d_M_init_36 (fun H locs hP hD hS => ?_)
  have hP : va_P D classes ((o, .inr (5, [.int 0, .ref q7, .ref q16, .ref q25, .ref q34, .null, .null, .null, .null, .null, .null, .int 0, .int 0, .int 0, .null, .null, .int 0, .int 0, .null, .null, .null, .null, .int 0, .null])) :: S4) H := hP
  have hD : va_D A ((o, .inr (5, [.int 0, .ref q7, .ref q16, .ref q25, .ref q34, .null, .null, .null, .null, .null, .null, .int 0, .int 0, .int 0, .null, .null, .int 0, .int 0, .null, .null, .null, .null, .int 0, .null])) :: S4) := hD
  refine lv_aload_n hx hb d_M_init_39 rfl (lv_at hl 0 rfl) ?_
  refine lv_sipush (v := 256) hx hb d_M_init_40 (by decide) ?_
  refine va_newb (atype := .int) (N' := 256) (a0 := (256, .inl (fun _ => 0))) hx hb (hts _ tw_27) rfl hK hP hD hS hA 0 rfl rfl (fun _ => rfl) (by decide) rfl (by decide) (Nat.le_of_ble_eq_true rfl) (Nat.le_of_ble_eq_true rfl) d_M_init_43 (fun q43 H hP hD hS => ?_)
  obtain ⟨S5, eS5⟩ : ∃ S : va_W, S = S4 ++ [(q43, .inl (cA 0, 256, .inl (fun _ => 0)))] := ⟨_, rfl⟩
  have hP : va_P D classes ((o, .inr (5, [.int 0, .ref q7, .ref q16, .ref q25, .ref q34, .null, .null, .null, .null, .null, .null, .int 0, .int 0, .int 0, .null, .null, .int 0, .int 0, .null, .null, .null, .null, .int 0, .null])) :: S5) H := by rw [eS5]; exact hP
  have hD : va_D A ((o, .inr (5, [.int 0, .ref q7, .ref q16, .ref q25, .ref q34, .null, .null, .null, .null, .null, .null, .int 0, .int 0, .int 0, .null, .null, .int 0, .int 0, .null, .null, .null, .null, .int 0, .null])) :: S5) := by rw [eS5]; exact hD
  refine W.widen (k := 5) (n := 1056) (Nat.le_refl _) (Nat.le_refl _) ?_
  refine va_putF (D := D) (ci := 5) (v := .ref q43) (ty := .array .int) (C := R_M) (T := F_M) (N := 24) hx hb hts i_M t_M t_M_ok n_M hown hK hP hD hS 0 rfl rfl 5 (by decide) (hts _ tw_299) (fun _ h9 => h9) rfl hin rfl (t_M_ok 5 (by decide)) rfl rfl (Nat.le_of_ble_eq_true rfl) d_M_init_45 (fun H locs hP hD hS => ?_)
  have hP : va_P D classes ((o, .inr (5, [.int 0, .ref q7, .ref q16, .ref q25, .ref q34, .ref q43, .null, .null, .null, .null, .null, .int 0, .int 0, .int 0, .null, .null, .int 0, .int 0, .null, .null, .null, .null, .int 0, .null])) :: S5) H := hP
  have hD : va_D A ((o, .inr (5, [.int 0, .ref q7, .ref q16, .ref q25, .ref q34, .ref q43, .null, .null, .null, .null, .null, .int 0, .int 0, .int 0, .null, .null, .int 0, .int 0, .null, .null, .null, .null, .int 0, .null])) :: S5) := hD
  refine lv_aload_n hx hb d_M_init_48 rfl (lv_at hl 0 rfl) ?_
  refine lv_sipush (v := 256) hx hb d_M_init_49 (by decide) ?_
  refine va_newb (atype := .int) (N' := 256) (a0 := (256, .inl (fun _ => 0))) hx hb (hts _ tw_27) rfl hK hP hD hS hA 0 rfl rfl (fun _ => rfl) (by decide) rfl (by decide) (Nat.le_of_ble_eq_true rfl) (Nat.le_of_ble_eq_true rfl) d_M_init_52 (fun q52 H hP hD hS => ?_)
  obtain ⟨S6, eS6⟩ : ∃ S : va_W, S = S5 ++ [(q52, .inl (cA 0, 256, .inl (fun _ => 0)))] := ⟨_, rfl⟩
  have hP : va_P D classes ((o, .inr (5, [.int 0, .ref q7, .ref q16, .ref q25, .ref q34, .ref q43, .null, .null, .null, .null, .null, .int 0, .int 0, .int 0, .null, .null, .int 0, .int 0, .null, .null, .null, .null, .int 0, .null])) :: S6) H := by rw [eS6]; exact hP
  have hD : va_D A ((o, .inr (5, [.int 0, .ref q7, .ref q16, .ref q25, .ref q34, .ref q43, .null, .null, .null, .null, .null, .int 0, .int 0, .int 0, .null, .null, .int 0, .int 0, .null, .null, .null, .null, .int 0, .null])) :: S6) := by rw [eS6]; exact hD
  refine W.widen (k := 6) (n := 1312) (Nat.le_refl _) (Nat.le_refl _) ?_
  refine va_putF (D := D) (ci := 5) (v := .ref q52) (ty := .array .int) (C := R_M) (T := F_M) (N := 24) hx hb hts i_M t_M t_M_ok n_M hown hK hP hD hS 0 rfl rfl 6 (by decide) (hts _ tw_300) (fun _ h9 => h9) rfl hin rfl (t_M_ok 6 (by decide)) rfl rfl (Nat.le_of_ble_eq_true rfl) d_M_init_54 (fun H locs hP hD hS => ?_)
  have hP : va_P D classes ((o, .inr (5, [.int 0, .ref q7, .ref q16, .ref q25, .ref q34, .ref q43, .ref q52, .null, .null, .null, .null, .int 0, .int 0, .int 0, .null, .null, .int 0, .int 0, .null, .null, .null, .null, .int 0, .null])) :: S6) H := hP
  have hD : va_D A ((o, .inr (5, [.int 0, .ref q7, .ref q16, .ref q25, .ref q34, .ref q43, .ref q52, .null, .null, .null, .null, .int 0, .int 0, .int 0, .null, .null, .int 0, .int 0, .null, .null, .null, .null, .int 0, .null])) :: S6) := hD
  refine lv_aload_n hx hb d_M_init_57 rfl (lv_at hl 0 rfl) ?_
  refine lv_sipush (v := 256) hx hb d_M_init_58 (by decide) ?_
  refine va_newb (atype := .int) (N' := 256) (a0 := (256, .inl (fun _ => 0))) hx hb (hts _ tw_27) rfl hK hP hD hS hA 0 rfl rfl (fun _ => rfl) (by decide) rfl (by decide) (Nat.le_of_ble_eq_true rfl) (Nat.le_of_ble_eq_true rfl) d_M_init_61 (fun q61 H hP hD hS => ?_)
  obtain ⟨S7, eS7⟩ : ∃ S : va_W, S = S6 ++ [(q61, .inl (cA 0, 256, .inl (fun _ => 0)))] := ⟨_, rfl⟩
  have hP : va_P D classes ((o, .inr (5, [.int 0, .ref q7, .ref q16, .ref q25, .ref q34, .ref q43, .ref q52, .null, .null, .null, .null, .int 0, .int 0, .int 0, .null, .null, .int 0, .int 0, .null, .null, .null, .null, .int 0, .null])) :: S7) H := by rw [eS7]; exact hP
  have hD : va_D A ((o, .inr (5, [.int 0, .ref q7, .ref q16, .ref q25, .ref q34, .ref q43, .ref q52, .null, .null, .null, .null, .int 0, .int 0, .int 0, .null, .null, .int 0, .int 0, .null, .null, .null, .null, .int 0, .null])) :: S7) := by rw [eS7]; exact hD
  refine W.widen (k := 7) (n := 1568) (Nat.le_refl _) (Nat.le_refl _) ?_
  refine va_putF (D := D) (ci := 5) (v := .ref q61) (ty := .array .int) (C := R_M) (T := F_M) (N := 24) hx hb hts i_M t_M t_M_ok n_M hown hK hP hD hS 0 rfl rfl 7 (by decide) (hts _ tw_301) (fun _ h9 => h9) rfl hin rfl (t_M_ok 7 (by decide)) rfl rfl (Nat.le_of_ble_eq_true rfl) d_M_init_63 (fun H locs hP hD hS => ?_)
  have hP : va_P D classes ((o, .inr (5, [.int 0, .ref q7, .ref q16, .ref q25, .ref q34, .ref q43, .ref q52, .ref q61, .null, .null, .null, .int 0, .int 0, .int 0, .null, .null, .int 0, .int 0, .null, .null, .null, .null, .int 0, .null])) :: S7) H := hP
  have hD : va_D A ((o, .inr (5, [.int 0, .ref q7, .ref q16, .ref q25, .ref q34, .ref q43, .ref q52, .ref q61, .null, .null, .null, .int 0, .int 0, .int 0, .null, .null, .int 0, .int 0, .null, .null, .null, .null, .int 0, .null])) :: S7) := hD
  refine lv_aload_n hx hb d_M_init_66 rfl (lv_at hl 0 rfl) ?_
  refine lv_sipush (v := 256) hx hb d_M_init_67 (by decide) ?_
  refine va_newb (atype := .int) (N' := 256) (a0 := (256, .inl (fun _ => 0))) hx hb (hts _ tw_27) rfl hK hP hD hS hA 0 rfl rfl (fun _ => rfl) (by decide) rfl (by decide) (Nat.le_of_ble_eq_true rfl) (Nat.le_of_ble_eq_true rfl) d_M_init_70 (fun q70 H hP hD hS => ?_)
  obtain ⟨S8, eS8⟩ : ∃ S : va_W, S = S7 ++ [(q70, .inl (cA 0, 256, .inl (fun _ => 0)))] := ⟨_, rfl⟩
  have hP : va_P D classes ((o, .inr (5, [.int 0, .ref q7, .ref q16, .ref q25, .ref q34, .ref q43, .ref q52, .ref q61, .null, .null, .null, .int 0, .int 0, .int 0, .null, .null, .int 0, .int 0, .null, .null, .null, .null, .int 0, .null])) :: S8) H := by rw [eS8]; exact hP
  have hD : va_D A ((o, .inr (5, [.int 0, .ref q7, .ref q16, .ref q25, .ref q34, .ref q43, .ref q52, .ref q61, .null, .null, .null, .int 0, .int 0, .int 0, .null, .null, .int 0, .int 0, .null, .null, .null, .null, .int 0, .null])) :: S8) := by rw [eS8]; exact hD
  refine W.widen (k := 8) (n := 1824) (Nat.le_refl _) (Nat.le_refl _) ?_
  refine va_putF (D := D) (ci := 5) (v := .ref q70) (ty := .array .int) (C := R_M) (T := F_M) (N := 24) hx hb hts i_M t_M t_M_ok n_M hown hK hP hD hS 0 rfl rfl 8 (by decide) (hts _ tw_302) (fun _ h9 => h9) rfl hin rfl (t_M_ok 8 (by decide)) rfl rfl (Nat.le_of_ble_eq_true rfl) d_M_init_72 (fun H locs hP hD hS => ?_)
  have hP : va_P D classes ((o, .inr (5, [.int 0, .ref q7, .ref q16, .ref q25, .ref q34, .ref q43, .ref q52, .ref q61, .ref q70, .null, .null, .int 0, .int 0, .int 0, .null, .null, .int 0, .int 0, .null, .null, .null, .null, .int 0, .null])) :: S8) H := hP
  have hD : va_D A ((o, .inr (5, [.int 0, .ref q7, .ref q16, .ref q25, .ref q34, .ref q43, .ref q52, .ref q61, .ref q70, .null, .null, .int 0, .int 0, .int 0, .null, .null, .int 0, .int 0, .null, .null, .null, .null, .int 0, .null])) :: S8) := hD
  refine lv_aload_n hx hb d_M_init_75 rfl (lv_at hl 0 rfl) ?_
  refine lv_sipush (v := 256) hx hb d_M_init_76 (by decide) ?_
  refine va_newb (atype := .int) (N' := 256) (a0 := (256, .inl (fun _ => 0))) hx hb (hts _ tw_27) rfl hK hP hD hS hA 0 rfl rfl (fun _ => rfl) (by decide) rfl (by decide) (Nat.le_of_ble_eq_true rfl) (Nat.le_of_ble_eq_true rfl) d_M_init_79 (fun q79 H hP hD hS => ?_)
  obtain ⟨S9, eS9⟩ : ∃ S : va_W, S = S8 ++ [(q79, .inl (cA 0, 256, .inl (fun _ => 0)))] := ⟨_, rfl⟩
  have hP : va_P D classes ((o, .inr (5, [.int 0, .ref q7, .ref q16, .ref q25, .ref q34, .ref q43, .ref q52, .ref q61, .ref q70, .null, .null, .int 0, .int 0, .int 0, .null, .null, .int 0, .int 0, .null, .null, .null, .null, .int 0, .null])) :: S9) H := by rw [eS9]; exact hP
  have hD : va_D A ((o, .inr (5, [.int 0, .ref q7, .ref q16, .ref q25, .ref q34, .ref q43, .ref q52, .ref q61, .ref q70, .null, .null, .int 0, .int 0, .int 0, .null, .null, .int 0, .int 0, .null, .null, .null, .null, .int 0, .null])) :: S9) := by rw [eS9]; exact hD
  refine W.widen (k := 9) (n := 2080) (Nat.le_refl _) (Nat.le_refl _) ?_
  refine va_putF (D := D) (ci := 5) (v := .ref q79) (ty := .array .int) (C := R_M) (T := F_M) (N := 24) hx hb hts i_M t_M t_M_ok n_M hown hK hP hD hS 0 rfl rfl 9 (by decide) (hts _ tw_303) (fun _ h9 => h9) rfl hin rfl (t_M_ok 9 (by decide)) rfl rfl (Nat.le_of_ble_eq_true rfl) d_M_init_81 (fun H locs hP hD hS => ?_)
  have hP : va_P D classes ((o, .inr (5, [.int 0, .ref q7, .ref q16, .ref q25, .ref q34, .ref q43, .ref q52, .ref q61, .ref q70, .ref q79, .null, .int 0, .int 0, .int 0, .null, .null, .int 0, .int 0, .null, .null, .null, .null, .int 0, .null])) :: S9) H := hP
  have hD : va_D A ((o, .inr (5, [.int 0, .ref q7, .ref q16, .ref q25, .ref q34, .ref q43, .ref q52, .ref q61, .ref q70, .ref q79, .null, .int 0, .int 0, .int 0, .null, .null, .int 0, .int 0, .null, .null, .null, .null, .int 0, .null])) :: S9) := hD
  refine lv_aload_n hx hb d_M_init_84 rfl (lv_at hl 0 rfl) ?_
  refine lv_sipush (v := 256) hx hb d_M_init_85 (by decide) ?_
  refine va_newb (atype := .int) (N' := 256) (a0 := (256, .inl (fun _ => 0))) hx hb (hts _ tw_27) rfl hK hP hD hS hA 0 rfl rfl (fun _ => rfl) (by decide) rfl (by decide) (Nat.le_of_ble_eq_true rfl) (Nat.le_of_ble_eq_true rfl) d_M_init_88 (fun q88 H hP hD hS => ?_)
  obtain ⟨S10, eS10⟩ : ∃ S : va_W, S = S9 ++ [(q88, .inl (cA 0, 256, .inl (fun _ => 0)))] := ⟨_, rfl⟩
  have hP : va_P D classes ((o, .inr (5, [.int 0, .ref q7, .ref q16, .ref q25, .ref q34, .ref q43, .ref q52, .ref q61, .ref q70, .ref q79, .null, .int 0, .int 0, .int 0, .null, .null, .int 0, .int 0, .null, .null, .null, .null, .int 0, .null])) :: S10) H := by rw [eS10]; exact hP
  have hD : va_D A ((o, .inr (5, [.int 0, .ref q7, .ref q16, .ref q25, .ref q34, .ref q43, .ref q52, .ref q61, .ref q70, .ref q79, .null, .int 0, .int 0, .int 0, .null, .null, .int 0, .int 0, .null, .null, .null, .null, .int 0, .null])) :: S10) := by rw [eS10]; exact hD
  refine W.widen (k := 10) (n := 2336) (Nat.le_refl _) (Nat.le_refl _) ?_
  refine va_putF (D := D) (ci := 5) (v := .ref q88) (ty := .array .int) (C := R_M) (T := F_M) (N := 24) hx hb hts i_M t_M t_M_ok n_M hown hK hP hD hS 0 rfl rfl 10 (by decide) (hts _ tw_304) (fun _ h9 => h9) rfl hin rfl (t_M_ok 10 (by decide)) rfl rfl (Nat.le_of_ble_eq_true rfl) d_M_init_90 (fun H locs hP hD hS => ?_)
  have hP : va_P D classes ((o, .inr (5, [.int 0, .ref q7, .ref q16, .ref q25, .ref q34, .ref q43, .ref q52, .ref q61, .ref q70, .ref q79, .ref q88, .int 0, .int 0, .int 0, .null, .null, .int 0, .int 0, .null, .null, .null, .null, .int 0, .null])) :: S10) H := hP
  have hD : va_D A ((o, .inr (5, [.int 0, .ref q7, .ref q16, .ref q25, .ref q34, .ref q43, .ref q52, .ref q61, .ref q70, .ref q79, .ref q88, .int 0, .int 0, .int 0, .null, .null, .int 0, .int 0, .null, .null, .null, .null, .int 0, .null])) :: S10) := hD
  refine lv_aload_n hx hb d_M_init_93 rfl (lv_at hl 0 rfl) ?_
  refine lv_bipush (v := 64) hx hb d_M_init_94 (by decide) ?_
  refine va_newb (atype := .int) (N' := 64) (a0 := (64, .inl (fun _ => 0))) hx hb (hts _ tw_27) rfl hK hP hD hS hA 0 rfl rfl (fun _ => rfl) (by decide) rfl (by decide) (Nat.le_of_ble_eq_true rfl) (Nat.le_of_ble_eq_true rfl) d_M_init_96 (fun q96 H hP hD hS => ?_)
  obtain ⟨S11, eS11⟩ : ∃ S : va_W, S = S10 ++ [(q96, .inl (cA 0, 64, .inl (fun _ => 0)))] := ⟨_, rfl⟩
  have hP : va_P D classes ((o, .inr (5, [.int 0, .ref q7, .ref q16, .ref q25, .ref q34, .ref q43, .ref q52, .ref q61, .ref q70, .ref q79, .ref q88, .int 0, .int 0, .int 0, .null, .null, .int 0, .int 0, .null, .null, .null, .null, .int 0, .null])) :: S11) H := by rw [eS11]; exact hP
  have hD : va_D A ((o, .inr (5, [.int 0, .ref q7, .ref q16, .ref q25, .ref q34, .ref q43, .ref q52, .ref q61, .ref q70, .ref q79, .ref q88, .int 0, .int 0, .int 0, .null, .null, .int 0, .int 0, .null, .null, .null, .null, .int 0, .null])) :: S11) := by rw [eS11]; exact hD
  refine W.widen (k := 11) (n := 2400) (Nat.le_refl _) (Nat.le_refl _) ?_
  refine va_putF (D := D) (ci := 5) (v := .ref q96) (ty := .array .int) (C := R_M) (T := F_M) (N := 24) hx hb hts i_M t_M t_M_ok n_M hown hK hP hD hS 0 rfl rfl 14 (by decide) (hts _ tw_308) (fun _ h9 => h9) rfl hin rfl (t_M_ok 14 (by decide)) rfl rfl (Nat.le_of_ble_eq_true rfl) d_M_init_98 (fun H locs hP hD hS => ?_)
  have hP : va_P D classes ((o, .inr (5, [.int 0, .ref q7, .ref q16, .ref q25, .ref q34, .ref q43, .ref q52, .ref q61, .ref q70, .ref q79, .ref q88, .int 0, .int 0, .int 0, .ref q96, .null, .int 0, .int 0, .null, .null, .null, .null, .int 0, .null])) :: S11) H := hP
  have hD : va_D A ((o, .inr (5, [.int 0, .ref q7, .ref q16, .ref q25, .ref q34, .ref q43, .ref q52, .ref q61, .ref q70, .ref q79, .ref q88, .int 0, .int 0, .int 0, .ref q96, .null, .int 0, .int 0, .null, .null, .null, .null, .int 0, .null])) :: S11) := hD
  refine lv_aload_n hx hb d_M_init_101 rfl (lv_at hl 0 rfl) ?_
  refine lv_bipush (v := 64) hx hb d_M_init_102 (by decide) ?_
  refine va_newb (atype := .int) (N' := 64) (a0 := (64, .inl (fun _ => 0))) hx hb (hts _ tw_27) rfl hK hP hD hS hA 0 rfl rfl (fun _ => rfl) (by decide) rfl (by decide) (Nat.le_of_ble_eq_true rfl) (Nat.le_of_ble_eq_true rfl) d_M_init_104 (fun q104 H hP hD hS => ?_)
  obtain ⟨S12, eS12⟩ : ∃ S : va_W, S = S11 ++ [(q104, .inl (cA 0, 64, .inl (fun _ => 0)))] := ⟨_, rfl⟩
  have hP : va_P D classes ((o, .inr (5, [.int 0, .ref q7, .ref q16, .ref q25, .ref q34, .ref q43, .ref q52, .ref q61, .ref q70, .ref q79, .ref q88, .int 0, .int 0, .int 0, .ref q96, .null, .int 0, .int 0, .null, .null, .null, .null, .int 0, .null])) :: S12) H := by rw [eS12]; exact hP
  have hD : va_D A ((o, .inr (5, [.int 0, .ref q7, .ref q16, .ref q25, .ref q34, .ref q43, .ref q52, .ref q61, .ref q70, .ref q79, .ref q88, .int 0, .int 0, .int 0, .ref q96, .null, .int 0, .int 0, .null, .null, .null, .null, .int 0, .null])) :: S12) := by rw [eS12]; exact hD
  refine W.widen (k := 12) (n := 2464) (Nat.le_refl _) (Nat.le_refl _) ?_
  refine va_putF (D := D) (ci := 5) (v := .ref q104) (ty := .array .int) (C := R_M) (T := F_M) (N := 24) hx hb hts i_M t_M t_M_ok n_M hown hK hP hD hS 0 rfl rfl 15 (by decide) (hts _ tw_309) (fun _ h9 => h9) rfl hin rfl (t_M_ok 15 (by decide)) rfl rfl (Nat.le_of_ble_eq_true rfl) d_M_init_106 (fun H locs hP hD hS => ?_)
  have hP : va_P D classes ((o, .inr (5, [.int 0, .ref q7, .ref q16, .ref q25, .ref q34, .ref q43, .ref q52, .ref q61, .ref q70, .ref q79, .ref q88, .int 0, .int 0, .int 0, .ref q96, .ref q104, .int 0, .int 0, .null, .null, .null, .null, .int 0, .null])) :: S12) H := hP
  have hD : va_D A ((o, .inr (5, [.int 0, .ref q7, .ref q16, .ref q25, .ref q34, .ref q43, .ref q52, .ref q61, .ref q70, .ref q79, .ref q88, .int 0, .int 0, .int 0, .ref q96, .ref q104, .int 0, .int 0, .null, .null, .null, .null, .int 0, .null])) :: S12) := hD
  refine lv_aload_n hx hb d_M_init_109 rfl (lv_at hl 0 rfl) ?_
  refine lv_bipush (v := 32) hx hb d_M_init_110 (by decide) ?_
  refine va_newb (atype := .boolean) (N' := 32) (a0 := (32, .inl (fun _ => 0))) hx hb (hts _ tw_60) rfl hK hP hD hS hA 1 rfl rfl (fun _ => rfl) (by decide) rfl (by decide) (Nat.le_of_ble_eq_true rfl) (Nat.le_of_ble_eq_true rfl) d_M_init_112 (fun q112 H hP hD hS => ?_)
  obtain ⟨S13, eS13⟩ : ∃ S : va_W, S = S12 ++ [(q112, .inl (cA 1, 32, .inl (fun _ => 0)))] := ⟨_, rfl⟩
  have hP : va_P D classes ((o, .inr (5, [.int 0, .ref q7, .ref q16, .ref q25, .ref q34, .ref q43, .ref q52, .ref q61, .ref q70, .ref q79, .ref q88, .int 0, .int 0, .int 0, .ref q96, .ref q104, .int 0, .int 0, .null, .null, .null, .null, .int 0, .null])) :: S13) H := by rw [eS13]; exact hP
  have hD : va_D A ((o, .inr (5, [.int 0, .ref q7, .ref q16, .ref q25, .ref q34, .ref q43, .ref q52, .ref q61, .ref q70, .ref q79, .ref q88, .int 0, .int 0, .int 0, .ref q96, .ref q104, .int 0, .int 0, .null, .null, .null, .null, .int 0, .null])) :: S13) := by rw [eS13]; exact hD
  refine W.widen (k := 13) (n := 2496) (Nat.le_refl _) (Nat.le_refl _) ?_
  refine va_putF (D := D) (ci := 5) (v := .ref q112) (ty := .array .boolean) (C := R_M) (T := F_M) (N := 24) hx hb hts i_M t_M t_M_ok n_M hown hK hP hD hS 0 rfl rfl 18 (by decide) (hts _ tw_312) (fun _ h9 => h9) rfl hin rfl (t_M_ok 18 (by decide)) rfl rfl (Nat.le_of_ble_eq_true rfl) d_M_init_114 (fun H locs hP hD hS => ?_)
  have hP : va_P D classes ((o, .inr (5, [.int 0, .ref q7, .ref q16, .ref q25, .ref q34, .ref q43, .ref q52, .ref q61, .ref q70, .ref q79, .ref q88, .int 0, .int 0, .int 0, .ref q96, .ref q104, .int 0, .int 0, .ref q112, .null, .null, .null, .int 0, .null])) :: S13) H := hP
  have hD : va_D A ((o, .inr (5, [.int 0, .ref q7, .ref q16, .ref q25, .ref q34, .ref q43, .ref q52, .ref q61, .ref q70, .ref q79, .ref q88, .int 0, .int 0, .int 0, .ref q96, .ref q104, .int 0, .int 0, .ref q112, .null, .null, .null, .int 0, .null])) :: S13) := hD
  refine lv_aload_n hx hb d_M_init_117 rfl (lv_at hl 0 rfl) ?_
  refine lv_bipush (v := 32) hx hb d_M_init_118 (by decide) ?_
  refine va_newb (atype := .int) (N' := 32) (a0 := (32, .inl (fun _ => 0))) hx hb (hts _ tw_27) rfl hK hP hD hS hA 0 rfl rfl (fun _ => rfl) (by decide) rfl (by decide) (Nat.le_of_ble_eq_true rfl) (Nat.le_of_ble_eq_true rfl) d_M_init_120 (fun q120 H hP hD hS => ?_)
  obtain ⟨S14, eS14⟩ : ∃ S : va_W, S = S13 ++ [(q120, .inl (cA 0, 32, .inl (fun _ => 0)))] := ⟨_, rfl⟩
  have hP : va_P D classes ((o, .inr (5, [.int 0, .ref q7, .ref q16, .ref q25, .ref q34, .ref q43, .ref q52, .ref q61, .ref q70, .ref q79, .ref q88, .int 0, .int 0, .int 0, .ref q96, .ref q104, .int 0, .int 0, .ref q112, .null, .null, .null, .int 0, .null])) :: S14) H := by rw [eS14]; exact hP
  have hD : va_D A ((o, .inr (5, [.int 0, .ref q7, .ref q16, .ref q25, .ref q34, .ref q43, .ref q52, .ref q61, .ref q70, .ref q79, .ref q88, .int 0, .int 0, .int 0, .ref q96, .ref q104, .int 0, .int 0, .ref q112, .null, .null, .null, .int 0, .null])) :: S14) := by rw [eS14]; exact hD
  refine W.widen (k := 14) (n := 2528) (Nat.le_refl _) (Nat.le_refl _) ?_
  refine va_putF (D := D) (ci := 5) (v := .ref q120) (ty := .array .int) (C := R_M) (T := F_M) (N := 24) hx hb hts i_M t_M t_M_ok n_M hown hK hP hD hS 0 rfl rfl 19 (by decide) (hts _ tw_313) (fun _ h9 => h9) rfl hin rfl (t_M_ok 19 (by decide)) rfl rfl (Nat.le_of_ble_eq_true rfl) d_M_init_122 (fun H locs hP hD hS => ?_)
  have hP : va_P D classes ((o, .inr (5, [.int 0, .ref q7, .ref q16, .ref q25, .ref q34, .ref q43, .ref q52, .ref q61, .ref q70, .ref q79, .ref q88, .int 0, .int 0, .int 0, .ref q96, .ref q104, .int 0, .int 0, .ref q112, .ref q120, .null, .null, .int 0, .null])) :: S14) H := hP
  have hD : va_D A ((o, .inr (5, [.int 0, .ref q7, .ref q16, .ref q25, .ref q34, .ref q43, .ref q52, .ref q61, .ref q70, .ref q79, .ref q88, .int 0, .int 0, .int 0, .ref q96, .ref q104, .int 0, .int 0, .ref q112, .ref q120, .null, .null, .int 0, .null])) :: S14) := hD
  refine lv_aload_n hx hb d_M_init_125 rfl (lv_at hl 0 rfl) ?_
  refine lv_bipush (v := 32) hx hb d_M_init_126 (by decide) ?_
  refine va_newb (atype := .boolean) (N' := 32) (a0 := (32, .inl (fun _ => 0))) hx hb (hts _ tw_60) rfl hK hP hD hS hA 1 rfl rfl (fun _ => rfl) (by decide) rfl (by decide) (Nat.le_of_ble_eq_true rfl) (Nat.le_of_ble_eq_true rfl) d_M_init_128 (fun q128 H hP hD hS => ?_)
  obtain ⟨S15, eS15⟩ : ∃ S : va_W, S = S14 ++ [(q128, .inl (cA 1, 32, .inl (fun _ => 0)))] := ⟨_, rfl⟩
  have hP : va_P D classes ((o, .inr (5, [.int 0, .ref q7, .ref q16, .ref q25, .ref q34, .ref q43, .ref q52, .ref q61, .ref q70, .ref q79, .ref q88, .int 0, .int 0, .int 0, .ref q96, .ref q104, .int 0, .int 0, .ref q112, .ref q120, .null, .null, .int 0, .null])) :: S15) H := by rw [eS15]; exact hP
  have hD : va_D A ((o, .inr (5, [.int 0, .ref q7, .ref q16, .ref q25, .ref q34, .ref q43, .ref q52, .ref q61, .ref q70, .ref q79, .ref q88, .int 0, .int 0, .int 0, .ref q96, .ref q104, .int 0, .int 0, .ref q112, .ref q120, .null, .null, .int 0, .null])) :: S15) := by rw [eS15]; exact hD
  refine W.widen (k := 15) (n := 2560) (Nat.le_refl _) (Nat.le_refl _) ?_
  refine va_putF (D := D) (ci := 5) (v := .ref q128) (ty := .array .boolean) (C := R_M) (T := F_M) (N := 24) hx hb hts i_M t_M t_M_ok n_M hown hK hP hD hS 0 rfl rfl 20 (by decide) (hts _ tw_314) (fun _ h9 => h9) rfl hin rfl (t_M_ok 20 (by decide)) rfl rfl (Nat.le_of_ble_eq_true rfl) d_M_init_130 (fun H locs hP hD hS => ?_)
  have hP : va_P D classes ((o, .inr (5, [.int 0, .ref q7, .ref q16, .ref q25, .ref q34, .ref q43, .ref q52, .ref q61, .ref q70, .ref q79, .ref q88, .int 0, .int 0, .int 0, .ref q96, .ref q104, .int 0, .int 0, .ref q112, .ref q120, .ref q128, .null, .int 0, .null])) :: S15) H := hP
  have hD : va_D A ((o, .inr (5, [.int 0, .ref q7, .ref q16, .ref q25, .ref q34, .ref q43, .ref q52, .ref q61, .ref q70, .ref q79, .ref q88, .int 0, .int 0, .int 0, .ref q96, .ref q104, .int 0, .int 0, .ref q112, .ref q120, .ref q128, .null, .int 0, .null])) :: S15) := hD
  refine lv_aload_n hx hb d_M_init_133 rfl (lv_at hl 0 rfl) ?_
  refine lv_sipush (v := 8192) hx hb d_M_init_134 (by decide) ?_
  refine va_newb (atype := .byte) (N' := 8192) (a0 := (8192, .inl (fun _ => 0))) hx hb (hts _ tw_130) rfl hK hP hD hS hA 2 rfl rfl (fun _ => rfl) (by decide) rfl (by decide) (Nat.le_of_ble_eq_true rfl) (Nat.le_of_ble_eq_true rfl) d_M_init_137 (fun q137 H hP hD hS => ?_)
  obtain ⟨S16, eS16⟩ : ∃ S : va_W, S = S15 ++ [(q137, .inl (cA 2, 8192, .inl (fun _ => 0)))] := ⟨_, rfl⟩
  have hP : va_P D classes ((o, .inr (5, [.int 0, .ref q7, .ref q16, .ref q25, .ref q34, .ref q43, .ref q52, .ref q61, .ref q70, .ref q79, .ref q88, .int 0, .int 0, .int 0, .ref q96, .ref q104, .int 0, .int 0, .ref q112, .ref q120, .ref q128, .null, .int 0, .null])) :: S16) H := by rw [eS16]; exact hP
  have hD : va_D A ((o, .inr (5, [.int 0, .ref q7, .ref q16, .ref q25, .ref q34, .ref q43, .ref q52, .ref q61, .ref q70, .ref q79, .ref q88, .int 0, .int 0, .int 0, .ref q96, .ref q104, .int 0, .int 0, .ref q112, .ref q120, .ref q128, .null, .int 0, .null])) :: S16) := by rw [eS16]; exact hD
  refine W.widen (k := 16) (n := 10752) (Nat.le_refl _) (Nat.le_refl _) ?_
  refine va_putF (D := D) (ci := 5) (v := .ref q137) (ty := .array .byte) (C := R_M) (T := F_M) (N := 24) hx hb hts i_M t_M t_M_ok n_M hown hK hP hD hS 0 rfl rfl 21 (by decide) (hts _ tw_315) (fun _ h9 => h9) rfl hin rfl (t_M_ok 21 (by decide)) rfl rfl (Nat.le_of_ble_eq_true rfl) d_M_init_139 (fun H locs hP hD hS => ?_)
  have hP : va_P D classes ((o, .inr (5, [.int 0, .ref q7, .ref q16, .ref q25, .ref q34, .ref q43, .ref q52, .ref q61, .ref q70, .ref q79, .ref q88, .int 0, .int 0, .int 0, .ref q96, .ref q104, .int 0, .int 0, .ref q112, .ref q120, .ref q128, .ref q137, .int 0, .null])) :: S16) H := hP
  have hD : va_D A ((o, .inr (5, [.int 0, .ref q7, .ref q16, .ref q25, .ref q34, .ref q43, .ref q52, .ref q61, .ref q70, .ref q79, .ref q88, .int 0, .int 0, .int 0, .ref q96, .ref q104, .int 0, .int 0, .ref q112, .ref q120, .ref q128, .ref q137, .int 0, .null])) :: S16) := hD
  refine lv_aload_n hx hb d_M_init_142 rfl (lv_at hl 0 rfl) ?_
  refine lv_sipush (v := 256) hx hb d_M_init_143 (by decide) ?_
  refine va_newb (atype := .byte) (N' := 256) (a0 := (256, .inl (fun _ => 0))) hx hb (hts _ tw_130) rfl hK hP hD hS hA 2 rfl rfl (fun _ => rfl) (by decide) rfl (by decide) (Nat.le_of_ble_eq_true rfl) (Nat.le_of_ble_eq_true rfl) d_M_init_146 (fun q146 H hP hD hS => ?_)
  obtain ⟨S17, eS17⟩ : ∃ S : va_W, S = S16 ++ [(q146, .inl (cA 2, 256, .inl (fun _ => 0)))] := ⟨_, rfl⟩
  have hP : va_P D classes ((o, .inr (5, [.int 0, .ref q7, .ref q16, .ref q25, .ref q34, .ref q43, .ref q52, .ref q61, .ref q70, .ref q79, .ref q88, .int 0, .int 0, .int 0, .ref q96, .ref q104, .int 0, .int 0, .ref q112, .ref q120, .ref q128, .ref q137, .int 0, .null])) :: S17) H := by rw [eS17]; exact hP
  have hD : va_D A ((o, .inr (5, [.int 0, .ref q7, .ref q16, .ref q25, .ref q34, .ref q43, .ref q52, .ref q61, .ref q70, .ref q79, .ref q88, .int 0, .int 0, .int 0, .ref q96, .ref q104, .int 0, .int 0, .ref q112, .ref q120, .ref q128, .ref q137, .int 0, .null])) :: S17) := by rw [eS17]; exact hD
  refine W.widen (k := 17) (n := 11008) (Nat.le_refl _) (Nat.le_refl _) ?_
  refine va_putF (D := D) (ci := 5) (v := .ref q146) (ty := .array .byte) (C := R_M) (T := F_M) (N := 24) hx hb hts i_M t_M t_M_ok n_M hown hK hP hD hS 0 rfl rfl 23 (by decide) (hts _ tw_317) (fun _ h9 => h9) rfl hin rfl (t_M_ok 23 (by decide)) rfl rfl (Nat.le_of_ble_eq_true rfl) d_M_init_148 (fun H locs hP hD hS => ?_)
  have hP : va_P D classes ((o, .inr (5, [.int 0, .ref q7, .ref q16, .ref q25, .ref q34, .ref q43, .ref q52, .ref q61, .ref q70, .ref q79, .ref q88, .int 0, .int 0, .int 0, .ref q96, .ref q104, .int 0, .int 0, .ref q112, .ref q120, .ref q128, .ref q137, .int 0, .ref q146])) :: S17) H := hP
  have hD : va_D A ((o, .inr (5, [.int 0, .ref q7, .ref q16, .ref q25, .ref q34, .ref q43, .ref q52, .ref q61, .ref q70, .ref q79, .ref q88, .int 0, .int 0, .int 0, .ref q96, .ref q104, .int 0, .int 0, .ref q112, .ref q120, .ref q128, .ref q137, .int 0, .ref q146])) :: S17) := hD
  simp only [eS1, eS2, eS3, eS4, eS5, eS6, eS7, eS8, eS9, eS10, eS11, eS12, eS13, eS14, eS15, eS16, eS17, List.nil_append, List.cons_append, List.append_assoc] at hP hD
  exact hend (fun k => match k with | 0 => o | 1 => q7 | 2 => q16 | 3 => q25 | 4 => q34 | 5 => q43 | 6 => q52 | 7 => q61 | 8 => q70 | 9 => q79 | 10 => q88 | 11 => q96 | 12 => q104 | 13 => q112 | 14 => q120 | 15 => q128 | 16 => q137 | _ => q146) _ _ _ _ rfl hP hD hS d_M_init_151
def hA_ (o q q2 q3 : Nat) : Nat → Nat := fun k => if k < 4 then (match k with | 0 => o | 1 => q | 2 => q2 | _ => q3) else q + 1 + (k - 4)
theorem rowsA_new {cA : Nat → ClassId} {o q q2 q3 : Nat} : rowsA cA (hA_ o q q2 q3) = newRows (cA 2) 32 256 q := by
  unfold rowsA newRows
  apply List.map_congr_left
  intro e _
  have h : hA_ o q q2 q3 (4 + e) = q + 1 + e := by
    unfold hA_
    rw [if_neg (by omega), show 4 + e - 4 = e by omega]
  rw [h]
theorem rowsF_new {o q q2 q3 : Nat} : (fun e => some (hA_ o q q2 q3 (4 + e))) = fun e => some (q + 1 + e) := by
  funext e
  have h : hA_ o q q2 q3 (4 + e) = q + 1 + e := by
    unfold hA_
    rw [if_neg (by omega), show 4 + e - 4 = e by omega]
  rw [h]
theorem wA_perm {cA : Nat → ClassId} {o q q2 q3 : Nat} : ((o, .inr (4, [.ref q, .ref q2, .ref q3])) :: ((([] : va_W) ++ newGrid (cA 3) (cA 2) 32 256 q) ++ [(q2, .inl (cA 0, 32, .inl (fun _ => 0)))] ++ [(q3, .inl (cA 1, 32, .inl (fun _ => 0)))]) : va_W).Perm (wA cA (hA_ o q q2 q3)) := by
  unfold wA
  rw [rowsA_new, rowsF_new]
  have e1 : ((o, .inr (4, [.ref q, .ref q2, .ref q3])) :: ((([] : va_W) ++ newGrid (cA 3) (cA 2) 32 256 q) ++ [(q2, .inl (cA 0, 32, .inl (fun _ => 0)))] ++ [(q3, .inl (cA 1, 32, .inl (fun _ => 0)))]) : va_W) = [(o, .inr (4, [.ref q, .ref q2, .ref q3])), (q, .inl (cA 3, 32, .inr (.inr (.inr (.inr (fun e => some (q + 1 + e)))))))] ++ (newRows (cA 2) 32 256 q ++ [(q2, .inl (cA 0, 32, .inl (fun _ => 0))), (q3, .inl (cA 1, 32, .inl (fun _ => 0)))]) := by
    simp [newGrid]
  rw [e1]
  exact List.Perm.append_left _ List.perm_append_comm
set_option maxHeartbeats 4000000 in
set_option maxRecDepth 100000 in
theorem c_A_init (l : Launch) (D : va_G) (cA : Nat → ClassId) (o : Nat) : Cm l y_A_init b_A_init 1 1 12 35 8288 D cA o [(o, .inr (4, [.null, .null, .null]))] (wA cA) := by
  refine Cm.of (by decide +kernel) rfl (Nat.le_refl 1) ?_
  intro p e s m below meth c A Q ls hx hb hml hown hin hts hKK hP hD hA hS hend hl
  have hown : s.vm.findClass R_A = some m.cls := hown
  have hK := hKK.1
  refine lv_aload_n hx hb d_A_init_0 rfl (lv_at hl 0 rfl) ?_
  refine W.objInit hx hb hown (hts _ tw_114) (hts _ tw_14) (hts _ tw_15) rfl (by rw [hml]; exact hl.1) rfl d_A_init_1 (Nat.le_of_ble_eq_true rfl) (Nat.le_of_ble_eq_true rfl) ?_
  refine W.eq (g2 := F0 m 4 ls []) rfl ?_
  refine lv_aload_n hx hb d_A_init_4 rfl (lv_at hl 0 rfl) ?_
  refine lv_bipush (v := 32) hx hb d_A_init_5 (by decide) ?_
  refine lv_sipush (v := 256) hx hb d_A_init_7 (by decide) ?_
  refine va_multi (N := 32) (M := 256) hx hb hown (hts _ tw_115) hKK hP hD hS hA rfl rfl (by decide) (by decide) (by decide) (by decide) (Nat.le_of_ble_eq_true rfl) (Nat.le_of_ble_eq_true rfl) d_A_init_10 (fun q10 H hP hD hS => ?_)
  obtain ⟨S1, eS1⟩ : ∃ S : va_W, S = ([] : va_W) ++ newGrid (cA 3) (cA 2) 32 256 q10 := ⟨_, rfl⟩
  have hP : va_P D classes ((o, .inr (4, [.null, .null, .null])) :: S1) H := by rw [eS1]; exact hP
  have hD : va_D A ((o, .inr (4, [.null, .null, .null])) :: S1) := by rw [eS1]; exact hD
  refine W.widen (k := 33) (n := 8224) (Nat.le_refl _) (Nat.le_refl _) ?_
  refine va_putF (D := D) (ci := 4) (v := .ref q10) (ty := .array (.array .byte)) (C := R_A) (T := F_A) (N := 3) hx hb hts i_A t_A t_A_ok n_A hown hK hP hD hS 0 rfl rfl 0 (by decide) (hts _ tw_117) (fun _ h9 => h9) rfl hin rfl (t_A_ok 0 (by decide)) rfl rfl (Nat.le_of_ble_eq_true rfl) d_A_init_14 (fun H locs hP hD hS => ?_)
  have hP : va_P D classes ((o, .inr (4, [.ref q10, .null, .null])) :: S1) H := hP
  have hD : va_D A ((o, .inr (4, [.ref q10, .null, .null])) :: S1) := hD
  refine lv_aload_n hx hb d_A_init_17 rfl (lv_at hl 0 rfl) ?_
  refine lv_bipush (v := 32) hx hb d_A_init_18 (by decide) ?_
  refine va_newb (atype := .int) (N' := 32) (a0 := (32, .inl (fun _ => 0))) hx hb (hts _ tw_27) rfl hK hP hD hS hA 0 rfl rfl (fun _ => rfl) (by decide) rfl (by decide) (Nat.le_of_ble_eq_true rfl) (Nat.le_of_ble_eq_true rfl) d_A_init_20 (fun q20 H hP hD hS => ?_)
  obtain ⟨S2, eS2⟩ : ∃ S : va_W, S = S1 ++ [(q20, .inl (cA 0, 32, .inl (fun _ => 0)))] := ⟨_, rfl⟩
  have hP : va_P D classes ((o, .inr (4, [.ref q10, .null, .null])) :: S2) H := by rw [eS2]; exact hP
  have hD : va_D A ((o, .inr (4, [.ref q10, .null, .null])) :: S2) := by rw [eS2]; exact hD
  refine W.widen (k := 34) (n := 8256) (Nat.le_refl _) (Nat.le_refl _) ?_
  refine va_putF (D := D) (ci := 4) (v := .ref q20) (ty := .array .int) (C := R_A) (T := F_A) (N := 3) hx hb hts i_A t_A t_A_ok n_A hown hK hP hD hS 0 rfl rfl 1 (by decide) (hts _ tw_119) (fun _ h9 => h9) rfl hin rfl (t_A_ok 1 (by decide)) rfl rfl (Nat.le_of_ble_eq_true rfl) d_A_init_22 (fun H locs hP hD hS => ?_)
  have hP : va_P D classes ((o, .inr (4, [.ref q10, .ref q20, .null])) :: S2) H := hP
  have hD : va_D A ((o, .inr (4, [.ref q10, .ref q20, .null])) :: S2) := hD
  refine lv_aload_n hx hb d_A_init_25 rfl (lv_at hl 0 rfl) ?_
  refine lv_bipush (v := 32) hx hb d_A_init_26 (by decide) ?_
  refine va_newb (atype := .boolean) (N' := 32) (a0 := (32, .inl (fun _ => 0))) hx hb (hts _ tw_60) rfl hK hP hD hS hA 1 rfl rfl (fun _ => rfl) (by decide) rfl (by decide) (Nat.le_of_ble_eq_true rfl) (Nat.le_of_ble_eq_true rfl) d_A_init_28 (fun q28 H hP hD hS => ?_)
  obtain ⟨S3, eS3⟩ : ∃ S : va_W, S = S2 ++ [(q28, .inl (cA 1, 32, .inl (fun _ => 0)))] := ⟨_, rfl⟩
  have hP : va_P D classes ((o, .inr (4, [.ref q10, .ref q20, .null])) :: S3) H := by rw [eS3]; exact hP
  have hD : va_D A ((o, .inr (4, [.ref q10, .ref q20, .null])) :: S3) := by rw [eS3]; exact hD
  refine W.widen (k := 35) (n := 8288) (Nat.le_refl _) (Nat.le_refl _) ?_
  refine va_putF (D := D) (ci := 4) (v := .ref q28) (ty := .array .boolean) (C := R_A) (T := F_A) (N := 3) hx hb hts i_A t_A t_A_ok n_A hown hK hP hD hS 0 rfl rfl 2 (by decide) (hts _ tw_121) (fun _ h9 => h9) rfl hin rfl (t_A_ok 2 (by decide)) rfl rfl (Nat.le_of_ble_eq_true rfl) d_A_init_30 (fun H locs hP hD hS => ?_)
  have hP : va_P D classes ((o, .inr (4, [.ref q10, .ref q20, .ref q28])) :: S3) H := hP
  have hD : va_D A ((o, .inr (4, [.ref q10, .ref q20, .ref q28])) :: S3) := hD
  rw [eS3, eS2, eS1] at hP hD
  exact hend (hA_ o q10 q20 q28) _ _ _ _ rfl (va_P_perm wA_perm hP) (va_D_perm wA_perm hD) hS d_A_init_33
def hC_ (o : Nat) (n1 e1 l1 a1 : Nat → Nat) (t1 : Nat) : Nat → Nat := fun k => if k < 22 then (match k with | 0 => o | 1 => n1 0 | 2 => n1 1 | 3 => e1 0 | 4 => e1 1 | 5 => e1 2 | 6 => e1 3 | 7 => l1 0 | 8 => l1 1 | 9 => l1 2 | 10 => l1 3 | 11 => l1 4 | 12 => l1 5 | 13 => l1 6 | 14 => l1 7 | 15 => l1 8 | 16 => l1 9 | 17 => a1 0 | 18 => a1 1 | 19 => a1 2 | 20 => a1 3 | _ => t1) else a1 (4 + (k - 22))
theorem hC_row {o : Nat} {n1 e1 l1 a1 : Nat → Nat} {t1 e : Nat} : hC_ o n1 e1 l1 a1 t1 (22 + e) = a1 (4 + e) := by
  unfold hC_
  rw [if_neg (by omega), show 22 + e - 22 = e by omega]
theorem rowsC_new {cA : Nat → ClassId} {o : Nat} {n1 e1 l1 a1 : Nat → Nat} {t1 : Nat} : rowsW cA (hC_ o n1 e1 l1 a1 t1) zS = rowsA cA a1 := by
  unfold rowsA rowsW
  apply List.map_congr_left
  intro e _
  rw [hC_row]
theorem rowsG_new {o : Nat} {n1 e1 l1 a1 : Nat → Nat} {t1 : Nat} : (fun e => some (hC_ o n1 e1 l1 a1 t1 (22 + e))) = fun e => some (a1 (4 + e)) := by
  funext e
  rw [hC_row]
theorem wC_perm {cA : Nat → ClassId} {o : Nat} {n1 e1 l1 a1 : Nat → Nat} {t1 : Nat} : (((o, .inr (0, [.ref (n1 0), .ref (e1 0), .ref (l1 0), .ref (a1 0), .ref t1, .int 0, .int 0])) :: ((((([] : va_W) ++ wN cA n1) ++ wE cA e1) ++ wL cA l1) ++ wA cA a1 ++ [(t1, .inl (cA 2, 256, .inl (fun _ => 0)))]) : va_W)).Perm (wC cA (hC_ o n1 e1 l1 a1 t1) zS zS) := by
  have er := rowsC_new (cA := cA) (o := o) (n1 := n1) (e1 := e1) (l1 := l1) (a1 := a1) (t1 := t1)
  have e1' : ((o, .inr (0, [.ref (n1 0), .ref (e1 0), .ref (l1 0), .ref (a1 0), .ref t1, .int 0, .int 0])) :: ((((([] : va_W) ++ wN cA n1) ++ wE cA e1) ++ wL cA l1) ++ wA cA a1 ++ [(t1, .inl (cA 2, 256, .inl (fun _ => 0)))]) : va_W) = ((o, .inr (0, [.ref (n1 0), .ref (e1 0), .ref (l1 0), .ref (a1 0), .ref t1, .int 0, .int 0])) :: (wN cA n1 ++ (wE cA e1 ++ (wL cA l1 ++ [(a1 0, .inr (4, [.ref (a1 1), .ref (a1 2), .ref (a1 3)])), (a1 1, .inl (cA 3, 32, .inr (.inr (.inr (.inr (fun e => some (a1 (4 + e)))))))), (a1 2, .inl (cA 0, 32, .inl (fun _ => 0))), (a1 3, .inl (cA 1, 32, .inl (fun _ => 0)))]))) : va_W) ++ (rowsA cA a1 ++ [(t1, .inl (cA 2, 256, .inl (fun _ => 0)))]) := by
    simp [wA]
  have e2 : wC cA (hC_ o n1 e1 l1 a1 t1) zS zS = ((o, .inr (0, [.ref (n1 0), .ref (e1 0), .ref (l1 0), .ref (a1 0), .ref t1, .int 0, .int 0])) :: (wN cA n1 ++ (wE cA e1 ++ (wL cA l1 ++ [(a1 0, .inr (4, [.ref (a1 1), .ref (a1 2), .ref (a1 3)])), (a1 1, .inl (cA 3, 32, .inr (.inr (.inr (.inr (fun e => some (a1 (4 + e)))))))), (a1 2, .inl (cA 0, 32, .inl (fun _ => 0))), (a1 3, .inl (cA 1, 32, .inl (fun _ => 0)))]))) : va_W) ++ ([(t1, .inl (cA 2, 256, .inl (fun _ => 0)))] ++ rowsA cA a1) := by
    unfold wC
    rw [er, rowsG_new]
    rfl
  rw [e1', e2]
  exact List.Perm.append_left _ List.perm_append_comm
set_option maxHeartbeats 4000000 in
set_option maxRecDepth 100000 in
theorem c_C_init (l : Launch) (D : va_G) (cA : Nat → ClassId) (o : Nat) : Cm l y_C_init b_C_init 1 2 32 53 11062 D cA o [(o, .inr (0, [.null, .null, .null, .null, .null, .int 0, .int 0]))] (fun h => wC cA h zS zS) := by
  refine Cm.of (by decide +kernel) rfl (Nat.le_refl 1) ?_
  intro p e s m below meth c A Q ls hx hb hml hown hin hts hKK hP hD hA hS hend hl
  have hown : s.vm.findClass R_C = some m.cls := hown
  have hK := hKK.1
  refine lv_aload_n hx hb d_C_init_0 rfl (lv_at hl 0 rfl) ?_
  refine W.objInit hx hb hown (hts _ tw_13) (hts _ tw_14) (hts _ tw_15) rfl (by rw [hml]; exact hl.1) rfl d_C_init_1 (Nat.le_of_ble_eq_true rfl) (Nat.le_of_ble_eq_true rfl) ?_
  refine W.eq (g2 := F0 m 4 ls []) rfl ?_
  refine lv_aload_n hx hb d_C_init_4 rfl (lv_at hl 0 rfl) ?_
  refine va_new (ci := 1) (fs := [.null]) (C := R_N) (T := F_N) (N := 1) hx hb hts i_N t_N t_N_ok hown (hts _ tw_16) (hts _ tw_17) (hts _ tw_2) hK hP hD hS hA rfl (fun j hj => by rcases (show j = 0 by omega) with rfl <;> rfl) (Nat.le_of_ble_eq_true rfl) (Nat.le_of_ble_eq_true rfl) d_C_init_5 (fun q5 H hP hD hS => ?_)
  refine W.widen (k := 1) (n := 1) (Nat.le_refl _) (Nat.le_refl _) ?_
  refine lv_dup hx hb d_C_init_8 rfl ?_
  refine cIN (wl := ((o, .inr (0, [.null, .null, .null, .null, .null, .int 0, .int 0])) :: ([] : va_W))) (w0 := [(q5, .inr (1, [.null]))]) (c_N_init l D cA q5) (LkI.of tw_20 tw_2 tw_19 (by decide +kernel)) (nestW_in tn_18 rfl) hx hb hml hown hts hKK hP hD hS hA hl.1 ⟨by decide, by decide⟩ ⟨Nat.le_of_ble_eq_true rfl, Nat.le_of_ble_eq_true rfl⟩ (Nat.le_of_ble_eq_true rfl) d_C_init_9 (fun n9 H locs e0 hP hD hS => ?_)
  rw [← e0]
  obtain ⟨S1, eS1⟩ : ∃ S : va_W, S = ([] : va_W) ++ wN cA n9 := ⟨_, rfl⟩
  have hP : va_P D classes ((o, .inr (0, [.null, .null, .null, .null, .null, .int 0, .int 0])) :: S1) H := by rw [eS1]; exact hP
  have hD : va_D A ((o, .inr (0, [.null, .null, .null, .null, .null, .int 0, .int 0])) :: S1) := by rw [eS1]; exact hD
  refine W.widen (k := 2) (n := 33) (Nat.le_refl _) (Nat.le_refl _) ?_
  refine va_putF (D := D) (ci := 0) (v := .ref (n9 0)) (ty := .object "WatchList$Numbers") (C := R_C) (T := F_C) (N := 7) hx hb hts i_C t_C t_C_ok n_C hown hK hP hD hS 0 rfl rfl 0 (by decide) (hts _ tw_131) (fun _ h9 => h9) rfl hin rfl (t_C_ok 0 (by decide)) rfl rfl (Nat.le_of_ble_eq_true rfl) d_C_init_12 (fun H locs hP hD hS => ?_)
  have hP : va_P D classes ((o, .inr (0, [.ref (n9 0), .null, .null, .null, .null, .int 0, .int 0])) :: S1) H := hP
  have hD : va_D A ((o, .inr (0, [.ref (n9 0), .null, .null, .null, .null, .int 0, .int 0])) :: S1) := hD
  refine lv_aload_n hx hb d_C_init_15 rfl (lv_at hl 0 rfl) ?_
  refine va_new (ci := 2) (fs := [.null, .null, .int 0, .int 0, .int 0, .null, .int 0]) (C := R_E) (T := F_E) (N := 7) hx hb hts i_E t_E t_E_ok hown (hts _ tw_28) (hts _ tw_29) (hts _ tw_3) hK hP hD hS hA rfl (fun j hj => by rcases (show j = 0 ∨ j = 1 ∨ j = 2 ∨ j = 3 ∨ j = 4 ∨ j = 5 ∨ j = 6 by omega) with rfl | rfl | rfl | rfl | rfl | rfl | rfl <;> rfl) (Nat.le_of_ble_eq_true rfl) (Nat.le_of_ble_eq_true rfl) d_C_init_16 (fun q16 H hP hD hS => ?_)
  refine W.widen (k := 3) (n := 40) (Nat.le_refl _) (Nat.le_refl _) ?_
  refine lv_dup hx hb d_C_init_19 rfl ?_
  refine cIN (wl := ((o, .inr (0, [.ref (n9 0), .null, .null, .null, .null, .int 0, .int 0])) :: S1)) (w0 := [(q16, .inr (2, [.null, .null, .int 0, .int 0, .int 0, .null, .int 0]))]) (c_E_init l D cA q16) (LkI.of tw_32 tw_3 tw_31 (by decide +kernel)) (nestW_in tn_30 rfl) hx hb hml hown hts hKK hP hD hS hA hl.1 ⟨by decide, by decide⟩ ⟨Nat.le_of_ble_eq_true rfl, Nat.le_of_ble_eq_true rfl⟩ (Nat.le_of_ble_eq_true rfl) d_C_init_20 (fun n20 H locs e0 hP hD hS => ?_)
  rw [← e0]
  obtain ⟨S2, eS2⟩ : ∃ S : va_W, S = S1 ++ wE cA n20 := ⟨_, rfl⟩
  have hP : va_P D classes ((o, .inr (0, [.ref (n9 0), .null, .null, .null, .null, .int 0, .int 0])) :: S2) H := by rw [eS2]; exact hP
  have hD : va_D A ((o, .inr (0, [.ref (n9 0), .null, .null, .null, .null, .int 0, .int 0])) :: S2) := by rw [eS2]; exact hD
  refine W.widen (k := 6) (n := 200) (Nat.le_refl _) (Nat.le_refl _) ?_
  refine va_putF (D := D) (ci := 0) (v := .ref (n20 0)) (ty := .object "WatchList$Events") (C := R_C) (T := F_C) (N := 7) hx hb hts i_C t_C t_C_ok n_C hown hK hP hD hS 0 rfl rfl 1 (by decide) (hts _ tw_132) (fun _ h9 => h9) rfl hin rfl (t_C_ok 1 (by decide)) rfl rfl (Nat.le_of_ble_eq_true rfl) d_C_init_23 (fun H locs hP hD hS => ?_)
  have hP : va_P D classes ((o, .inr (0, [.ref (n9 0), .ref (n20 0), .null, .null, .null, .int 0, .int 0])) :: S2) H := hP
  have hD : va_D A ((o, .inr (0, [.ref (n9 0), .ref (n20 0), .null, .null, .null, .int 0, .int 0])) :: S2) := hD
  refine lv_aload_n hx hb d_C_init_26 rfl (lv_at hl 0 rfl) ?_
  refine va_new (ci := 3) (fs := [.null, .null, .null, .null, .null, .null, .null, .null, .null, .int 0, .int 0]) (C := R_L) (T := F_L) (N := 11) hx hb hts i_L t_L t_L_ok hown (hts _ tw_61) (hts _ tw_62) (hts _ tw_4) hK hP hD hS hA rfl (fun j hj => by rcases (show j = 0 ∨ j = 1 ∨ j = 2 ∨ j = 3 ∨ j = 4 ∨ j = 5 ∨ j = 6 ∨ j = 7 ∨ j = 8 ∨ j = 9 ∨ j = 10 by omega) with rfl | rfl | rfl | rfl | rfl | rfl | rfl | rfl | rfl | rfl | rfl <;> rfl) (Nat.le_of_ble_eq_true rfl) (Nat.le_of_ble_eq_true rfl) d_C_init_27 (fun q27 H hP hD hS => ?_)
  refine W.widen (k := 7) (n := 211) (Nat.le_refl _) (Nat.le_refl _) ?_
  refine lv_dup hx hb d_C_init_30 rfl ?_
  refine cIN (wl := ((o, .inr (0, [.ref (n9 0), .ref (n20 0), .null, .null, .null, .int 0, .int 0])) :: S2)) (w0 := [(q27, .inr (3, [.null, .null, .null, .null, .null, .null, .null, .null, .null, .int 0, .int 0]))]) (c_L_init l D cA q27) (LkI.of tw_65 tw_4 tw_64 (by decide +kernel)) (nestW_in tn_63 rfl) hx hb hml hown hts hKK hP hD hS hA hl.1 ⟨by decide, by decide⟩ ⟨Nat.le_of_ble_eq_true rfl, Nat.le_of_ble_eq_true rfl⟩ (Nat.le_of_ble_eq_true rfl) d_C_init_31 (fun n31 H locs e0 hP hD hS => ?_)
  rw [← e0]
  obtain ⟨S3, eS3⟩ : ∃ S : va_W, S = S2 ++ wL cA n31 := ⟨_, rfl⟩
  have hP : va_P D classes ((o, .inr (0, [.ref (n9 0), .ref (n20 0), .null, .null, .null, .int 0, .int 0])) :: S3) H := by rw [eS3]; exact hP
  have hD : va_D A ((o, .inr (0, [.ref (n9 0), .ref (n20 0), .null, .null, .null, .int 0, .int 0])) :: S3) := by rw [eS3]; exact hD
  refine W.widen (k := 16) (n := 2515) (Nat.le_refl _) (Nat.le_refl _) ?_
  refine va_putF (D := D) (ci := 0) (v := .ref (n31 0)) (ty := .object "WatchList$Limits") (C := R_C) (T := F_C) (N := 7) hx hb hts i_C t_C t_C_ok n_C hown hK hP hD hS 0 rfl rfl 2 (by decide) (hts _ tw_133) (fun _ h9 => h9) rfl hin rfl (t_C_ok 2 (by decide)) rfl rfl (Nat.le_of_ble_eq_true rfl) d_C_init_34 (fun H locs hP hD hS => ?_)
  have hP : va_P D classes ((o, .inr (0, [.ref (n9 0), .ref (n20 0), .ref (n31 0), .null, .null, .int 0, .int 0])) :: S3) H := hP
  have hD : va_D A ((o, .inr (0, [.ref (n9 0), .ref (n20 0), .ref (n31 0), .null, .null, .int 0, .int 0])) :: S3) := hD
  refine lv_aload_n hx hb d_C_init_37 rfl (lv_at hl 0 rfl) ?_
  refine va_new (ci := 4) (fs := [.null, .null, .null]) (C := R_A) (T := F_A) (N := 3) hx hb hts i_A t_A t_A_ok hown (hts _ tw_109) (hts _ tw_110) (hts _ tw_5) hK hP hD hS hA rfl (fun j hj => by rcases (show j = 0 ∨ j = 1 ∨ j = 2 by omega) with rfl | rfl | rfl <;> rfl) (Nat.le_of_ble_eq_true rfl) (Nat.le_of_ble_eq_true rfl) d_C_init_38 (fun q38 H hP hD hS => ?_)
  refine W.widen (k := 17) (n := 2518) (Nat.le_refl _) (Nat.le_refl _) ?_
  refine lv_dup hx hb d_C_init_41 rfl ?_
  refine cIN (wl := ((o, .inr (0, [.ref (n9 0), .ref (n20 0), .ref (n31 0), .null, .null, .int 0, .int 0])) :: S3)) (w0 := [(q38, .inr (4, [.null, .null, .null]))]) (c_A_init l D cA q38) (LkI.of tw_113 tw_5 tw_112 (by decide +kernel)) (nestW_in tn_111 rfl) hx hb hml hown hts hKK hP hD hS hA hl.1 ⟨by decide, by decide⟩ ⟨Nat.le_of_ble_eq_true rfl, Nat.le_of_ble_eq_true rfl⟩ (Nat.le_of_ble_eq_true rfl) d_C_init_42 (fun n42 H locs e0 hP hD hS => ?_)
  rw [← e0]
  obtain ⟨S4, eS4⟩ : ∃ S : va_W, S = S3 ++ wA cA n42 := ⟨_, rfl⟩
  have hP : va_P D classes ((o, .inr (0, [.ref (n9 0), .ref (n20 0), .ref (n31 0), .null, .null, .int 0, .int 0])) :: S4) H := by rw [eS4]; exact hP
  have hD : va_D A ((o, .inr (0, [.ref (n9 0), .ref (n20 0), .ref (n31 0), .null, .null, .int 0, .int 0])) :: S4) := by rw [eS4]; exact hD
  refine W.widen (k := 52) (n := 10806) (Nat.le_refl _) (Nat.le_refl _) ?_
  refine va_putF (D := D) (ci := 0) (v := .ref (n42 0)) (ty := .object "WatchList$Actions") (C := R_C) (T := F_C) (N := 7) hx hb hts i_C t_C t_C_ok n_C hown hK hP hD hS 0 rfl rfl 3 (by decide) (hts _ tw_134) (fun _ h9 => h9) rfl hin rfl (t_C_ok 3 (by decide)) rfl rfl (Nat.le_of_ble_eq_true rfl) d_C_init_45 (fun H locs hP hD hS => ?_)
  have hP : va_P D classes ((o, .inr (0, [.ref (n9 0), .ref (n20 0), .ref (n31 0), .ref (n42 0), .null, .int 0, .int 0])) :: S4) H := hP
  have hD : va_D A ((o, .inr (0, [.ref (n9 0), .ref (n20 0), .ref (n31 0), .ref (n42 0), .null, .int 0, .int 0])) :: S4) := hD
  refine lv_aload_n hx hb d_C_init_48 rfl (lv_at hl 0 rfl) ?_
  refine lv_sipush (v := 256) hx hb d_C_init_49 (by decide) ?_
  refine va_newb (atype := .byte) (N' := 256) (a0 := (256, .inl (fun _ => 0))) hx hb (hts _ tw_130) rfl hK hP hD hS hA 2 rfl rfl (fun _ => rfl) (by decide) rfl (by decide) (Nat.le_of_ble_eq_true rfl) (Nat.le_of_ble_eq_true rfl) d_C_init_52 (fun q52 H hP hD hS => ?_)
  obtain ⟨S5, eS5⟩ : ∃ S : va_W, S = S4 ++ [(q52, .inl (cA 2, 256, .inl (fun _ => 0)))] := ⟨_, rfl⟩
  have hP : va_P D classes ((o, .inr (0, [.ref (n9 0), .ref (n20 0), .ref (n31 0), .ref (n42 0), .null, .int 0, .int 0])) :: S5) H := by rw [eS5]; exact hP
  have hD : va_D A ((o, .inr (0, [.ref (n9 0), .ref (n20 0), .ref (n31 0), .ref (n42 0), .null, .int 0, .int 0])) :: S5) := by rw [eS5]; exact hD
  refine W.widen (k := 53) (n := 11062) (Nat.le_refl _) (Nat.le_refl _) ?_
  refine va_putF (D := D) (ci := 0) (v := .ref q52) (ty := .array .byte) (C := R_C) (T := F_C) (N := 7) hx hb hts i_C t_C t_C_ok n_C hown hK hP hD hS 0 rfl rfl 4 (by decide) (hts _ tw_135) (fun _ h9 => h9) rfl hin rfl (t_C_ok 4 (by decide)) rfl rfl (Nat.le_of_ble_eq_true rfl) d_C_init_54 (fun H locs hP hD hS => ?_)
  have hP : va_P D classes ((o, .inr (0, [.ref (n9 0), .ref (n20 0), .ref (n31 0), .ref (n42 0), .ref q52, .int 0, .int 0])) :: S5) H := hP
  have hD : va_D A ((o, .inr (0, [.ref (n9 0), .ref (n20 0), .ref (n31 0), .ref (n42 0), .ref q52, .int 0, .int 0])) :: S5) := hD
  rw [eS5, eS4, eS3, eS2, eS1] at hP hD
  exact hend (hC_ o n9 n20 n31 n42 q52) _ _ _ _ rfl (va_P_perm wC_perm hP) (va_D_perm wC_perm hD) hS d_C_init_57
end
section
-- ===== the two sides' states belong together =====
/-- parameters, silence, the last watch's link -/
def R0 (X M : Sg) (lk : Int32) : Prop := X 2 = M 1 ∧ X 6 = M 13 ∧ lk = M 0 12 ∧ isZ lk
/-- limits; bk: how many were broken -/
def RL (X M : Sg) (bk : Int32) : Prop := (X 8 = M 2 ∧ X 9 = M 3 ∧ X 10 = M 4 ∧ X 11 = M 5 ∧ X 12 = M 6 ∧ X 13 = M 7 ∧ X 14 = M 8 ∧ X 15 = M 9 ∧ X 16 = M 10) ∧ X 7 10 = bk ∧ X 7 9 = cntN (X 8) 256 ∧ (∀ i, isZ (X 8 i)) ∧ (∀ i, isZ (X 9 i)) ∧ (∀ i, isZ (X 10 i)) ∧ ∀ i, vp_in (X 11 i) 32
/-- the events that wait -/
def RQ (X M : Sg) : Prop := (∃ n f : Nat, n ≤ 64 ∧ f < 64 ∧ X 3 3 = nI n ∧ M 0 13 = nI n ∧ X 3 2 = nI f ∧ ∀ k, k < n → X 4 ((f + k) % 64) = M 11 k ∧ X 5 ((f + k) % 64) = M 12 k) ∧ X 3 4 = M 0 16 ∧ X 3 6 = M 0 17
/-- actions -/
def RA (X Rw M : Sg) : Prop := X 19 = M 14 ∧ X 20 = M 15 ∧ ∀ e, e < 32 → ∃ n : Nat, n ≤ 256 ∧ X 19 e = nI n ∧ ∀ k, k < n → Rw e k = M 16 (256 * e + k)
/-- the text -/
def RT (X M : Sg) : Prop := X 21 = M 17 ∧ (∃ t : Nat, t ≤ 256 ∧ X 0 5 = nI t ∧ M 0 22 = nI t) ∧ ∀ i, fits .byte (.int (X 21 i)) = true
def Inv (X Rw M : Sg) : Prop := R0 X M (X 0 6) ∧ RL X M (M 0 11) ∧ RQ X M ∧ RA X Rw M ∧ RT X M
theorem Inv.th {X Rw M : Sg} (h : Inv X Rw M) : Inv X Rw (th M) := h
-- ===== numbers =====
theorem i32_lt {a b : Int32} : a < b ↔ a.toInt < b.toInt := Int32.lt_iff_toInt_lt
theorem i32_le {a b : Int32} : a ≤ b ↔ a.toInt ≤ b.toInt := Int32.le_iff_toInt_le
theorem lt32 {k : Int32} : k < 32 ↔ k ≤ 31 := by
  rw [i32_lt, i32_le, show (32 : Int32).toInt = 32 from rfl, show (31 : Int32).toInt = 31 from rfl]; omega
theorem le32 {k : Int32} : 32 ≤ k ↔ 31 < k := by
  rw [i32_lt, i32_le, show (32 : Int32).toInt = 32 from rfl, show (31 : Int32).toInt = 31 from rfl]; omega
theorem lt256 {k : Int32} : k < 256 ↔ ¬ 255 < k := by
  rw [i32_lt, i32_lt, show (256 : Int32).toInt = 256 from rfl, show (255 : Int32).toInt = 255 from rfl]; omega
theorem is_same (e : Int32) : sE_is e = sM_isEvent e := by
  unfold sE_is sM_isEvent sM_isIn
  by_cases h : e < 0
  · rw [if_pos h, if_pos h]
  · rw [if_neg h, if_neg h]
    by_cases h2 : 32 ≤ e
    · rw [if_pos h2, if_pos (le32.mp h2)]
    · rw [if_neg h2, if_neg (fun q => h2 (le32.mpr q))]
theorem there_same {X M : Sg} (h : X 8 = M 2) (id : Int32) : sL_is X id = sM_isThere M id := by
  unfold sL_is sM_isThere
  rw [h]
theorem upd_id {f : Nat → Int32} {i : Nat} {v : Int32} (h : f i = v) : upd f i v = f := by
  funext j
  unfold upd
  by_cases e : j = i
  · rw [if_pos e, e, h]
  · rw [if_neg e]
theorem nz_Z (x : Int32) : isZ (nz x) := by
  show isZ (x &&& 1)
  obtain ⟨j, hj, e⟩ := pk_andE x (m := 1) 1 rfl
  rw [e]
  match j, hj with
  | 0, _ => exact Or.inl rfl
  | 1, _ => exact Or.inr rfl
  | j + 2, h => exact absurd h (by omega)
theorem isZ.ne {x : Int32} (h : isZ x) (n : ¬ x = 0) : x = 1 := by
  rcases h with h | h
  · exact absurd h n
  · exact h
theorem nz_0 : nz 0 = 0 := rfl
theorem nz_1 : nz 1 = 1 := rfl
theorem upd_Z {f : Nat → Int32} (h : ∀ i, isZ (f i)) (k : Nat) {v : Int32} (hv : isZ v) : ∀ i, isZ (upd f k v i) := by
  intro i
  unfold upd
  by_cases e : i = k
  · rw [if_pos e]; exact hv
  · rw [if_neg e]; exact h i
theorem upd_in {f : Nat → Int32} {n : Nat} (h : ∀ i, vp_in (f i) n) (k : Nat) {v : Int32} (hv : vp_in v n) : ∀ i, vp_in (upd f k v i) n := by
  intro i
  unfold upd
  by_cases e : i = k
  · rw [if_pos e]; exact hv
  · rw [if_neg e]; exact h i
theorem cnt_out {f : Nat → Int32} {i : Nat} {v : Int32} : ∀ n, n ≤ i → cntN (upd f i v) n = cntN f n
  | 0, _ => rfl
  | n + 1, h => by
    show cntN (upd f i v) n + _ = cntN f n + _
    rw [cnt_out n (by omega), pk_un (by omega)]
theorem cnt_up {f : Nat → Int32} {i : Nat} {v : Int32} (h0 : f i = 0) (hv : ¬ v = 0) : ∀ n, i < n → cntN (upd f i v) n = cntN f n + 1
  | 0, h => absurd h (by omega)
  | n + 1, h => by
    show cntN (upd f i v) n + _ = (cntN f n + _) + 1
    by_cases e : n = i
    · subst e
      rw [cnt_out n (Nat.le_refl n), pk_us, if_neg hv, if_pos h0, Int32.add_zero]
    · rw [cnt_up h0 hv n (by omega), pk_un e, Int32.add_assoc, Int32.add_assoc, Int32.add_comm 1]
theorem cnt_down {f : Nat → Int32} {i : Nat} (h0 : ¬ f i = 0) (n : Nat) (h : i < n) : cntN (upd f i 0) n = cntN f n - 1 := by
  have e : upd (upd f i 0) i (f i) = f := by
    funext j
    unfold upd
    by_cases q : j = i
    · rw [if_pos q, q]
    · rw [if_neg q, if_neg q]
  have := cnt_up (f := upd f i 0) (i := i) pk_us h0 n h
  rw [e] at this
  rw [this, Int32.add_sub_cancel]
-- ===== set, tell =====
theorem P_set {X Rw M : Sg} (k v : Int32) (h : Inv X Rw M) : (sC_set X k v).1 = (sM_set M k v).1 ∧ Inv (sC_set X k v).2 Rw (sM_set M k v).2 := by
  unfold sC_set sM_set
  by_cases a : k < 0
  · rw [if_pos a, if_pos a]; exact ⟨rfl, h⟩
  · rw [if_neg a, if_neg a]
    by_cases b : k < 32
    · rw [if_pos b, if_pos (lt32.mp b)]
      obtain ⟨⟨a1, a2, a3, a4⟩, hL, hQ, hA, hT⟩ := h
      refine ⟨rfl, ⟨?_, a2, a3, a4⟩, hL, hQ, hA, hT⟩
      show upd (X 2) _ v = upd (M 1) _ v
      rw [a1]
    · rw [if_neg b, if_neg (fun q => b (lt32.mpr q))]; exact ⟨rfl, h⟩
theorem P_tell {X Rw M : Sg} (e b : Int32) (h : Inv X Rw M) : (sC_tell X e b).1 = (sM_tell M e b).1 ∧ Inv (sC_tell X e b).2 Rw (sM_tell M e b).2 := by
  unfold sC_tell sM_tell
  rw [is_same]
  by_cases a : sM_isEvent e = 0
  · rw [if_pos a, if_pos a]; exact ⟨rfl, h⟩
  · rw [if_neg a, if_neg a]
    obtain ⟨⟨a1, a2, a3, a4⟩, hL, hQ, hA, hT⟩ := h
    by_cases c : b = 0
    · rw [if_pos c, if_pos c]
      refine ⟨rfl, ⟨a1, ?_, a3, a4⟩, hL, hQ, hA, hT⟩
      show upd (X 6) _ _ = upd (M 13) _ _
      rw [a2]
    · rw [if_neg c, if_neg c]
      refine ⟨rfl, ⟨a1, ?_, a3, a4⟩, hL, hQ, hA, hT⟩
      show upd (X 6) _ _ = upd (M 13) _ _
      rw [a2]
-- ===== limits =====
theorem P_add {X Rw M : Sg} (id par o low high ev lk : Int32) (h : Inv X Rw M) : (sL_add X id par o low high ev lk).1 = (sM_add M id par o low high ev lk).1 ∧ Inv (sL_add X id par o low high ev lk).2 Rw (sM_add M id par o low high ev lk).2 := by
  by_cases a1 : o < 1
  · rw [sL_add, sM_add, if_pos a1, if_pos (by rw [sM_isIn, if_pos a1])]; exact ⟨rfl, h⟩
  by_cases a2 : 255 < o
  · rw [sL_add, sM_add, if_neg a1, if_pos a2, if_pos (by rw [sM_isIn, if_neg a1, if_pos a2])]; exact ⟨rfl, h⟩
  have b1 : ¬ sM_isIn o 1 255 = 0 := by rw [sM_isIn, if_neg a1, if_neg a2]; decide
  by_cases a3 : high < low
  · rw [sL_add, sM_add, if_neg a1, if_neg a2, if_pos a3, if_neg b1, if_pos a3]; exact ⟨rfl, h⟩
  by_cases a4 : par < 0
  · rw [sL_add, sM_add, if_neg a1, if_neg a2, if_neg a3, if_pos a4, if_neg b1, if_neg a3, if_pos (by rw [sM_isIn, if_pos a4])]; exact ⟨rfl, h⟩
  by_cases a5 : 32 ≤ par
  · rw [sL_add, sM_add, if_neg a1, if_neg a2, if_neg a3, if_neg a4, if_pos a5, if_neg b1, if_neg a3, if_pos (by rw [sM_isIn, if_neg a4, if_pos (le32.mp a5)])]; exact ⟨rfl, h⟩
  have b2 : ¬ sM_isIn par 0 31 = 0 := by rw [sM_isIn, if_neg a4, if_neg (fun q => a5 (le32.mpr q))]; decide
  by_cases a6 : sE_is ev = 0
  · rw [sL_add, sM_add, if_neg a1, if_neg a2, if_neg a3, if_neg a4, if_neg a5, if_pos a6, if_neg b1, if_neg a3, if_neg b2, if_pos (by rw [is_same] at a6; exact a6)]; exact ⟨rfl, h⟩
  have b3 : ¬ sM_isIn ev 0 31 = 0 := by rw [is_same] at a6; exact a6
  by_cases a7 : id < 0
  · rw [sL_add, sM_add, if_neg a1, if_neg a2, if_neg a3, if_neg a4, if_neg a5, if_neg a6, if_pos a7, if_neg b1, if_neg a3, if_neg b2, if_neg b3, if_pos (by rw [sM_isIn, if_pos a7])]; exact ⟨rfl, h⟩
  by_cases a8 : id < 256
  · have b4 : ¬ sM_isIn id 0 255 = 0 := by rw [sM_isIn, if_neg a7, if_neg (lt256.mp a8)]; decide
    rw [sL_add, sM_add, if_neg a1, if_neg a2, if_neg a3, if_neg a4, if_neg a5, if_neg a6, if_neg a7, if_pos a8, if_neg b1, if_neg a3, if_neg b2, if_neg b3, if_neg b4]
    have hh := h
    obtain ⟨h0, ⟨⟨c1, c2, c3, c4, c5, c6, c7, c8, c9⟩, d1, d2, d3, d4, d5, d6⟩, hQ, hA, hT⟩ := h
    rw [← c1]
    by_cases a9 : X 8 (ix id) = 0
    · rw [if_pos a9, if_pos a9]
      rw [show sM_limits M = X 7 9 by rw [d2, sM_limits, c1]]
      by_cases a10 : X 7 9 = 16
      · rw [if_pos a10, if_pos a10]; exact ⟨rfl, hh⟩
      · rw [if_neg a10, if_neg a10]
        have hi : ix id < 256 := vi_ix (vi256_lt a7 a8)
        refine ⟨rfl, h0, ⟨⟨?_, ?_, ?_, ?_, ?_, ?_, ?_, ?_, ?_⟩, d1, ?_, ?_, ?_, ?_, ?_⟩, hQ, hA, hT⟩
        · show upd (X 8) _ _ = upd (M 2) _ _; rw [c1]
        · show upd (X 9) _ _ = upd (M 3) _ _; rw [c2]
        · show upd (X 10) _ _ = upd (M 4) _ _; rw [c3]
        · show upd (X 11) _ _ = upd (M 5) _ _; rw [c4]
        · show upd (X 12) _ _ = upd (M 6) _ _; rw [c5]
        · show upd (X 13) _ _ = upd (M 7) _ _; rw [c6]
        · show upd (X 14) _ _ = upd (M 8) _ _; rw [c7]
        · show upd (X 15) _ _ = upd (M 9) _ _; rw [c8]
        · show upd (X 16) _ _ = upd (M 10) _ _; rw [c9]
        · show X 7 9 + 1 = cntN (upd (X 8) (ix id) (nz 1)) 256
          rw [cnt_up a9 (by decide) 256 hi, d2]
        · exact upd_Z d3 _ (nz_Z _)
        · exact upd_Z d4 _ (nz_Z _)
        · exact upd_Z d5 _ (nz_Z _)
        · exact upd_in d6 _ (vi32_nle a4 a5)
    · rw [if_neg a9, if_neg a9]; exact ⟨rfl, hh⟩
  · rw [sL_add, sM_add, if_neg a1, if_neg a2, if_neg a3, if_neg a4, if_neg a5, if_neg a6, if_neg a7, if_neg a8, if_neg b1, if_neg a3, if_neg b2, if_neg b3, if_pos (by rw [sM_isIn, if_neg a7, if_pos (Classical.not_not.mp (fun q => a8 (lt256.mpr q)))])]; exact ⟨rfl, h⟩
theorem there_of {X : Sg} {id : Int32} (h : ¬ sL_is X id = 0) : ¬ X 8 (ix id) = 0 := by
  intro q
  apply h
  unfold sL_is
  by_cases a : id < 0
  · rw [if_pos a]
  · rw [if_neg a]
    by_cases b : 256 ≤ id
    · rw [if_pos b]
    · rw [if_neg b, if_pos q]
theorem P_remove {X Rw M : Sg} (id : Int32) (h : Inv X Rw M) : (sL_remove X id).1 = (sM_remove M id).1 ∧ Inv (sL_remove X id).2 Rw (sM_remove M id).2 := by
  have hh := h
  obtain ⟨h0, ⟨⟨c1, c2, c3, c4, c5, c6, c7, c8, c9⟩, d1, d2, d3, d4, d5, d6⟩, hQ, hA, hT⟩ := h
  unfold sL_remove sM_remove
  rw [← there_same c1]
  by_cases a : sL_is X id = 0
  · rw [if_pos a, if_pos a]; exact ⟨rfl, hh⟩
  · rw [if_neg a, if_neg a, ← c2]
    have t := there_of a
    have hi : ix id < 256 := vi_ix (sL_is_in a)
    by_cases b : X 9 (ix id) = 0
    · rw [if_pos b, if_pos b, b]
      refine ⟨rfl, h0, ⟨⟨?_, c2, c3, c4, c5, c6, c7, c8, c9⟩, d1, ?_, upd_Z d3 _ (nz_Z _), d4, d5, d6⟩, hQ, hA, hT⟩
      · show upd (X 8) _ _ = upd (M 2) _ _; rw [c1]
      · show X 7 9 - 1 = cntN (upd (X 8) (ix id) (nz 0)) 256
        rw [nz_0, cnt_down t 256 hi, d2]
    · rw [if_neg b, if_neg b, (d4 (ix id)).ne b, nz_1]
      refine ⟨rfl, h0, ⟨⟨?_, c2, c3, c4, c5, c6, c7, c8, c9⟩, d1, d2, d3, d4, d5, d6⟩, hQ, hA, hT⟩
      show X 8 = upd (M 2) (ix id) 1
      rw [← c1, upd_id ((d3 _).ne t)]
theorem P_enable {X Rw M : Sg} (id b : Int32) (h : Inv X Rw M) : (sL_enable X id b).1 = (sM_enable M id b).1 ∧ Inv (sL_enable X id b).2 Rw (sM_enable M id b).2 := by
  have hh := h
  obtain ⟨h0, ⟨⟨c1, c2, c3, c4, c5, c6, c7, c8, c9⟩, d1, d2, d3, d4, d5, d6⟩, hQ, hA, hT⟩ := h
  unfold sL_enable sM_enable
  rw [← there_same c1]
  by_cases a : sL_is X id = 0
  · rw [if_pos a, if_pos a]; exact ⟨rfl, hh⟩
  · rw [if_neg a, if_neg a]
    refine ⟨rfl, h0, ⟨⟨c1, ?_, c3, c4, c5, c6, c7, c8, ?_⟩, d1, d2, d3, upd_Z d4 _ (nz_Z _), d5, d6⟩, hQ, hA, hT⟩
    · show upd (X 9) _ _ = upd (M 3) _ _; rw [c2]
    · show upd (X 16) _ _ = upd (M 10) _ _; rw [c9]
theorem P_limit {X Rw M : Sg} (id w : Int32) (h : Inv X Rw M) : (sC_limit X id w).1 = (sM_limit M id w).1 ∧ Inv (sC_limit X id w).2 Rw (sM_limit M id w).2 := by
  have hh := h
  obtain ⟨h0, ⟨⟨c1, c2, c3, c4, c5, c6, c7, c8, c9⟩, -⟩, -⟩ := h
  unfold sC_limit sM_limit
  rw [← there_same c1, ← c2, ← c3, ← c4, ← c5, ← c8, ← c9]
  by_cases a : sL_is X id = 0
  · rw [if_pos a, if_pos a]; exact ⟨rfl, hh⟩
  rw [if_neg a, if_neg a]
  by_cases w0 : w = 0
  · rw [if_pos w0, if_pos w0]
    by_cases b : X 9 (ix id) = 0
    · rw [if_pos b, if_pos b]; exact ⟨rfl, hh⟩
    · rw [if_neg b, if_neg b]; exact ⟨rfl, hh⟩
  rw [if_neg w0, if_neg w0]
  by_cases w1 : w = 1
  · rw [if_pos w1, if_pos w1]; exact ⟨rfl, hh⟩
  rw [if_neg w1, if_neg w1]
  by_cases w2 : w = 2
  · rw [if_pos w2, if_pos w2]; exact ⟨rfl, hh⟩
  rw [if_neg w2, if_neg w2]
  by_cases w3 : w = 3
  · rw [if_pos w3, if_pos w3]; exact ⟨rfl, hh⟩
  rw [if_neg w3, if_neg w3]
  by_cases w4 : w = 4
  · rw [if_pos w4, if_pos w4]; exact ⟨rfl, hh⟩
  rw [if_neg w4, if_neg w4]
  by_cases w5 : w = 5
  · rw [if_pos w5, if_pos w5]
    by_cases b : X 10 (ix id) = 0
    · rw [if_pos b, if_pos b]; exact ⟨rfl, hh⟩
    · rw [if_neg b, if_neg b]; exact ⟨rfl, hh⟩
  rw [if_neg w5, if_neg w5]; exact ⟨rfl, hh⟩
end
section
-- ===== the events that wait =====
theorem sE_k_of {X : Sg} {n f : Nat} (hn : n ≤ 64) (hf : f < 64) (e1 : X 3 3 = nI n) (e2 : X 3 2 = nI f) : sE_k X = nI ((f + n) % 64) := by
  unfold sE_k
  rw [e1, e2, nI_add]
  exact pk_rem (d := 64) (by omega) (by decide) (by decide)
theorem RQ.k {X M : Sg} (h : RQ X M) : vp_in (sE_k X) 64 := by
  obtain ⟨⟨n, f, hn, hf, e1, -, e2, -⟩, -⟩ := h
  rw [sE_k_of hn hf e1 e2]
  exact vp_in_nI (by omega) (by decide)
theorem RQ.first {X M : Sg} (h : RQ X M) : vp_in (X 3 2) 64 := by
  obtain ⟨⟨n, f, hn, hf, e1, -, e2, -⟩, -⟩ := h
  rw [e2]
  exact vp_in_nI hf (by decide)
theorem RQ.wait {X M : Sg} (h : RQ X M) : ∃ n, n ≤ 64 ∧ M 0 13 = nI n := by
  obtain ⟨⟨n, f, hn, hf, -, e1, -⟩, -⟩ := h
  exact ⟨n, hn, e1⟩
theorem RQ.free {X M : Sg} (h : RQ X M) (c : ¬ M 0 13 = 64) : vp_in (M 0 13) 64 := by
  obtain ⟨n, hn, e⟩ := h.wait
  rw [e]
  refine vp_in_nI ?_ (by decide)
  rcases Nat.lt_or_ge n 64 with q | q
  · exact q
  · exact absurd (by rw [e, show n = 64 by omega]; rfl) c
theorem Q_raise {X M : Sg} (e v : Int32) (h : RQ X M) : (sE_raise X e v).1 = (sM_waits M e v).1 ∧ RQ (sE_raise X e v).2 (sM_waits M e v).2 := by
  obtain ⟨⟨n, f, hn, hf, e1, e2, e3, hk⟩, e4, e5⟩ := h
  unfold sE_raise sM_waits
  by_cases a : X 3 3 = 64
  · rw [if_pos a, if_pos (by rw [e2, ← e1]; exact a)]
    refine ⟨rfl, ⟨n, f, hn, hf, e1, e2, e3, hk⟩, ?_, e5⟩
    show X 3 4 + 1 = M 0 16 + 1
    rw [e4]
  · have hn' : n < 64 := by
      rcases Nat.lt_or_ge n 64 with q | q
      · exact q
      · exact absurd (by rw [e1, show n = 64 by omega]; rfl) a
    rw [if_neg a, if_neg (by rw [e2, ← e1]; exact a)]
    rw [sE_k_of hn hf e1 e3]
    have i1 : ix (nI ((f + n) % 64)) = (f + n) % 64 := nI_clamp (by omega)
    have i2 : ix (M 0 13) = n := by rw [e2]; exact nI_clamp (by omega)
    rw [i1, i2]
    refine ⟨rfl, ⟨n + 1, f, hn', hf, ?_, ?_, e3, fun k hk' => ?_⟩, e4, e5⟩
    · show X 3 3 + 1 = _
      rw [e1, nI_1]
    · show M 0 13 + 1 = _
      rw [e2, nI_1]
    · show upd (X 4) ((f + n) % 64) e ((f + k) % 64) = upd (M 11) n e k ∧ upd (X 5) ((f + n) % 64) v ((f + k) % 64) = upd (M 12) n v k
      by_cases q : k = n
      · subst q
        rw [pk_us, pk_us, pk_us, pk_us]
        exact ⟨rfl, rfl⟩
      · rw [pk_un (by omega), pk_un q, pk_un (by omega), pk_un q]
        exact hk k (by omega)
theorem R0_raise {X M : Sg} {lk : Int32} (e v e' v' : Int32) (h : R0 X M lk) : R0 (sE_raise X e v).2 (sM_waits M e' v').2 lk := by
  unfold sE_raise sM_waits; split <;> split <;> exact h
theorem RL_raise {X M : Sg} {b : Int32} (e v e' v' : Int32) (h : RL X M b) : RL (sE_raise X e v).2 (sM_waits M e' v').2 b := by
  unfold sE_raise sM_waits; split <;> split <;> exact h
theorem RA_raise {X Rw M : Sg} (e v e' v' : Int32) (h : RA X Rw M) : RA (sE_raise X e v).2 Rw (sM_waits M e' v').2 := by
  unfold sE_raise sM_waits; split <;> split <;> exact h
theorem RT_raise {X M : Sg} (e v e' v' : Int32) (h : RT X M) : RT (sE_raise X e v).2 (sM_waits M e' v').2 := by
  unfold sE_raise sM_waits; split <;> split <;> exact h
theorem raise_06 (X : Sg) (e v : Int32) : (sE_raise X e v).2 0 6 = X 0 6 := by unfold sE_raise; split <;> rfl
theorem raise_10 (X : Sg) (e v : Int32) : (sE_raise X e v).2 10 = X 10 := by unfold sE_raise; split <;> rfl
theorem waits_011 (M : Sg) (e v : Int32) : (sM_waits M e v).2 0 11 = M 0 11 := by unfold sM_waits; split <;> rfl
theorem Inv_raise {X Rw M : Sg} (e v : Int32) (h : Inv X Rw M) : Inv (sE_raise X e v).2 Rw (sM_waits M e v).2 := by
  obtain ⟨h0, hL, hQ, hA, hT⟩ := h
  refine ⟨?_, ?_, (Q_raise e v hQ).2, RA_raise e v e v hA, RT_raise e v e v hT⟩
  · rw [raise_06]; exact R0_raise e v e v h0
  · rw [waits_011]; exact RL_raise e v e v hL
theorem P_raise {X Rw M : Sg} (e v : Int32) (h : Inv X Rw M) : (sC_raise X e v).1 = (sM_raise M e v).1 ∧ Inv (sC_raise X e v).2 Rw (sM_raise M e v).2 := by
  unfold sC_raise sM_raise
  rw [is_same]
  by_cases a : sM_isEvent e = 0
  · rw [if_pos a, if_pos a]; exact ⟨rfl, h⟩
  · rw [if_neg a, if_neg a, (Q_raise e v h.2.2.1).1]
    have hI := Inv_raise e v h
    by_cases b : (sM_waits M e v).1 = 0
    · rw [if_pos b, if_pos b]; exact ⟨rfl, hI⟩
    · rw [if_neg b, if_neg b]; exact ⟨rfl, hI⟩
-- shifting
theorem sh_11 (M : Sg) : ∀ n k, (sM_sh M n) 11 k = if k < n then M 11 (k + 1) else M 11 k
  | 0, k => by rw [if_neg (by omega)]; rfl
  | n + 1, k => by
    show upd ((sM_sh M n) 11) n ((sM_sh M n) 11 (n + 1)) k = _
    by_cases e : k = n
    · subst e
      rw [pk_us, sh_11 M k, if_neg (by omega), if_pos (by omega)]
    · rw [pk_un e, sh_11 M n]
      by_cases q : k < n
      · rw [if_pos q, if_pos (by omega)]
      · rw [if_neg q, if_neg (by omega)]
theorem sh_12 (M : Sg) : ∀ n k, (sM_sh M n) 12 k = if k < n then M 12 (k + 1) else M 12 k
  | 0, k => by rw [if_neg (by omega)]; rfl
  | n + 1, k => by
    show upd ((sM_sh M n) 12) n ((sM_sh M n) 12 (n + 1)) k = _
    by_cases e : k = n
    · subst e
      rw [pk_us, sh_12 M k, if_neg (by omega), if_pos (by omega)]
    · rw [pk_un e, sh_12 M n]
      by_cases q : k < n
      · rw [if_pos q, if_pos (by omega)]
      · rw [if_neg q, if_neg (by omega)]
theorem R0_sh {X M : Sg} {lk : Int32} (h : R0 X M lk) : ∀ n, R0 X (sM_sh M n) lk
  | 0 => h
  | n + 1 => R0_sh h n
theorem RL_sh {X M : Sg} {b : Int32} (h : RL X M b) : ∀ n, RL X (sM_sh M n) b
  | 0 => h
  | n + 1 => RL_sh h n
theorem RA_sh {X Rw M : Sg} (h : RA X Rw M) : ∀ n, RA X Rw (sM_sh M n)
  | 0 => h
  | n + 1 => RA_sh h n
theorem RT_sh {X M : Sg} (h : RT X M) : ∀ n, RT X (sM_sh M n)
  | 0 => h
  | n + 1 => RT_sh h n
theorem P_work {X Rw M : Sg} (h : Inv X Rw M) : (sE_work X).1 = (sM_work M).1 ∧ Inv (sE_work X).2 Rw (sM_work M).2 := by
  have hh := h
  obtain ⟨h0, hL, ⟨⟨n, f, hn, hf, e1, e2, e3, hk⟩, e4, e5⟩, hA, hT⟩ := h
  unfold sE_work sM_work
  by_cases a : X 3 3 = 0
  · rw [if_pos a, if_pos (by rw [e2, ← e1]; exact a)]; exact ⟨rfl, hh⟩
  · rw [if_neg a, if_neg (by rw [e2, ← e1]; exact a)]
    cases n with
    | zero => exact absurd (e1.trans nI_0) a
    | succ n =>
      have i1 : ix (X 3 2) = f := by rw [e3]; exact nI_clamp (by omega)
      have i2 : ix (M 0 13 - 1) = n := by rw [e2, nI_pred]; exact nI_clamp (by omega)
      have i0 : ix 0 = 0 := sb_cl0
      have k0 := hk 0 (by omega)
      rw [Nat.add_zero, Nat.mod_eq_of_lt hf] at k0
      rw [i1, i2, i0]
      dsimp only
      have h0' : R0 (pt (pt (pt X 3 6 (X 5 f)) 3 2 (X 3 2 + 1 - (X 3 2 + 1) / 64 * 64)) 3 3 (X 3 3 - 1)) (pt (pt M 0 17 (M 12 0)) 0 13 (M 0 13 - 1)) (X 0 6) := h0
      have hL' : RL (pt (pt (pt X 3 6 (X 5 f)) 3 2 (X 3 2 + 1 - (X 3 2 + 1) / 64 * 64)) 3 3 (X 3 3 - 1)) (pt (pt M 0 17 (M 12 0)) 0 13 (M 0 13 - 1)) (M 0 11) := hL
      have hA' : RA (pt (pt (pt X 3 6 (X 5 f)) 3 2 (X 3 2 + 1 - (X 3 2 + 1) / 64 * 64)) 3 3 (X 3 3 - 1)) Rw (pt (pt M 0 17 (M 12 0)) 0 13 (M 0 13 - 1)) := hA
      have hT' : RT (pt (pt (pt X 3 6 (X 5 f)) 3 2 (X 3 2 + 1 - (X 3 2 + 1) / 64 * 64)) 3 3 (X 3 3 - 1)) (pt (pt M 0 17 (M 12 0)) 0 13 (M 0 13 - 1)) := hT
      refine ⟨k0.1, R0_sh h0' n, ?_, ⟨⟨n, (f + 1) % 64, by omega, by omega, ?_, ?_, ?_, fun k hk' => ?_⟩, ?_, ?_⟩, RA_sh hA' n, RT_sh hT' n⟩
      · rw [sM_sh_0]; exact RL_sh hL' n
      · show X 3 3 - 1 = _
        rw [e1, nI_pred]
      · rw [sM_sh_0]
        show M 0 13 - 1 = _
        rw [e2, nI_pred]
      · show X 3 2 + 1 - (X 3 2 + 1) / 64 * 64 = _
        rw [e3, nI_1]
        exact pk_rem (d := 64) (by omega) (by decide) (by decide)
      · rw [sh_11, sh_12, if_pos hk', if_pos hk']
        show X 4 (((f + 1) % 64 + k) % 64) = M 11 (k + 1) ∧ X 5 (((f + 1) % 64 + k) % 64) = M 12 (k + 1)
        rw [show ((f + 1) % 64 + k) % 64 = (f + (k + 1)) % 64 by omega]
        exact hk (k + 1) (by omega)
      · rw [sM_sh_0]; exact e4
      · rw [sM_sh_0]; exact k0.2
theorem P_lose {X Rw M : Sg} (h : Inv X Rw M) : (sE_lose X).1 = (sM_lose M).1 ∧ Inv (sE_lose X).2 Rw (sM_lose M).2 := by
  obtain ⟨h0, hL, ⟨⟨n, f, hn, hf, e1, e2, e3, hk⟩, e4, e5⟩, hA, hT⟩ := h
  unfold sE_lose sM_lose
  refine ⟨e1.trans e2.symm, h0, hL, ⟨⟨0, f, by omega, hf, rfl, rfl, e3, fun k q => absurd q (by omega)⟩, ?_, e5⟩, hA, hT⟩
  show X 3 4 + X 3 3 = M 0 16 + M 0 13
  rw [e4, e1, e2]
-- ===== watch =====
theorem c_same {Y Z : Sg} (h6 : Y 13 = Z 7) (h7 : Y 14 = Z 8) (h9 : Y 16 = Z 10) (v : Int32) (i : Nat) : sL_c Y v i = sM_c Z v i := by
  unfold sL_c sM_c sM_isIn
  rw [h6, h7, h9]
  by_cases a : v < Z 7 i
  · rw [if_pos a, if_pos a, if_pos rfl]
  · rw [if_neg a, if_neg a]
    by_cases b : Z 8 i < v
    · rw [if_pos b, if_pos b, if_pos rfl]
    · rw [if_neg b, if_neg b, if_neg (by decide)]
/-- what holds at the loops' head, k limits looked at -/
def J (X0 Rw M0 : Sg) (p : Int32 × Sg) (q : Int32 × Sg) : Prop := R0 p.2 q.2 p.1 ∧ RL p.2 q.2 (q.2 0 11 + q.1) ∧ RQ p.2 q.2 ∧ RA p.2 Rw q.2 ∧ RT p.2 q.2 ∧ q.2 0 11 = M0 0 11
theorem or_Z {a b : Int32} (ha : isZ a) (hb : isZ b) : a ||| b = if a = 0 then (if b = 0 then 0 else 1) else 1 := by
  rcases ha with rfl | rfl <;> rcases hb with rfl | rfl <;> decide
theorem J_step {X0 Rw M0 : Sg} {p q : Int32 × Sg} (i : Nat) (h : J X0 Rw M0 p q) : J X0 Rw M0 (sL_step p.2 p.1 i) (sM_step q.2 q.1 i) := by
  obtain ⟨lk, Y⟩ := p
  obtain ⟨n, Z⟩ := q
  have hh := h
  obtain ⟨h0, hL, hQ, hA, hT, h11⟩ := h
  dsimp only at h0 hL hQ hA hT h11 ⊢
  obtain ⟨⟨c1, c2, c3, c4, c5, c6, c7, c8, c9⟩, d1, d2, d3, d4, d5, d6⟩ := hL
  unfold sL_step sM_step
  rw [← c1, ← c2, ← c4, ← c5, ← h0.1, ← c8]
  rw [← c_same c6 c7 c9]
  by_cases a : Y 8 i = 0
  · rw [if_pos a, if_pos a]; exact hh
  rw [if_neg a, if_neg a]
  by_cases b : Y 9 i = 0
  · rw [if_pos b, if_pos b]; exact hh
  rw [if_neg b, if_neg b]
  generalize hv : Y 2 (ix (Y 11 i)) = v
  generalize hc : sL_c Y v i = cc
  by_cases g : cc = Y 12 i
  · rw [if_pos g, if_pos g]
    -- the count, the number of the broken
    have hL1 : RL (pt (pt Y 16 i cc) 7 10 (Y 7 10 + 1)) (pt Z 10 i cc) (Z 0 11 + (n + 1)) := by
      refine ⟨⟨c1, c2, c3, c4, c5, c6, c7, c8, ?_⟩, ?_, d2, d3, d4, d5, d6⟩
      · show upd (Y 16) i cc = upd (Z 10) i cc; rw [c9]
      · show Y 7 10 + 1 = _; rw [d1, Int32.add_assoc]
    have hQ1 : RQ (pt (pt Y 16 i cc) 7 10 (Y 7 10 + 1)) (pt Z 10 i cc) := hQ
    have hA1 : RA (pt (pt Y 16 i cc) 7 10 (Y 7 10 + 1)) Rw (pt Z 10 i cc) := hA
    have hT1 : RT (pt (pt Y 16 i cc) 7 10 (Y 7 10 + 1)) (pt Z 10 i cc) := hT
    have h01 : R0 (pt (pt Y 16 i cc) 7 10 (Y 7 10 + 1)) (pt Z 10 i cc) lk := h0
    have e11 : (pt Z 10 i cc) 0 11 = Z 0 11 := rfl
    have e10 : (pt (pt Y 16 i cc) 7 10 (Y 7 10 + 1)) 10 = Y 10 := rfl
    generalize pt (pt Y 16 i cc) 7 10 (Y 7 10 + 1) = Y1 at hL1 hQ1 hA1 hT1 h01 e10 ⊢
    generalize pt Z 10 i cc = Z1 at hL1 hQ1 hA1 hT1 h01 e11 ⊢
    have hL2 := RL_raise (Y 15 i) v (Y 15 i) v hL1
    have hQ2 := (Q_raise (Y 15 i) v hQ1).2
    have hA2 := RA_raise (Y 15 i) v (Y 15 i) v hA1
    have hT2 := RT_raise (Y 15 i) v (Y 15 i) v hT1
    have h02 := R0_raise (Y 15 i) v (Y 15 i) v h01
    have e10' : (sE_raise Y1 (Y 15 i) v).2 10 = Y 10 := by rw [raise_10, e10]
    have e11' : (sM_waits Z1 (Y 15 i) v).2 0 11 = Z 0 11 := by rw [waits_011, e11]
    generalize (sE_raise Y1 (Y 15 i) v).2 = Y2 at hL2 hQ2 hA2 hT2 h02 e10' ⊢
    generalize (sM_waits Z1 (Y 15 i) v).2 = Z2 at hL2 hQ2 hA2 hT2 h02 e11' ⊢
    have c3' : Y2 10 = Z2 4 := hL2.1.2.2.1
    have zl : isZ (Y2 10 i) := hL2.2.2.2.2.2.1 i
    have eo : lk ||| Y2 10 i = if Z2 0 12 = 0 then (if Z2 4 i = 0 then 0 else 1) else 1 := by
      rw [or_Z h02.2.2.2 zl, ← h02.2.2.1, c3']
    have el : sM_lk Z2 i = pt Z2 0 12 (lk ||| Y2 10 i) := by
      rw [eo]
      unfold sM_lk
      by_cases q1 : Z2 0 12 = 0
      · rw [if_pos q1, if_pos q1]
        by_cases q2 : Z2 4 i = 0
        · rw [if_pos q2, if_pos q2]
        · rw [if_neg q2, if_neg q2]
      · rw [if_neg q1, if_neg q1]
    rw [el]
    have zo : isZ (lk ||| Y2 10 i) := by
      rw [eo]; exact isZ_ite (isZ_ite isZ_0 isZ_1) isZ_1
    refine ⟨⟨h02.1, h02.2.1, rfl, zo⟩, ?_, hQ2, hA2, hT2, ?_⟩
    · show RL Y2 Z2 (Z2 0 11 + (n + 1))
      rw [e11']; exact hL2
    · show Z2 0 11 = M0 0 11
      rw [e11']; exact h11
  · rw [if_neg g, if_neg g]
    refine ⟨h0, ⟨⟨c1, c2, c3, c4, c5, c6, c7, c8, ?_⟩, d1, d2, d3, d4, d5, d6⟩, hQ, hA, hT, h11⟩
    show upd (Y 16) i cc = upd (Z 10) i cc
    rw [c9]
theorem J_all {X Rw M : Sg} (h : Inv X Rw M) : ∀ k, J X Rw M (sL_it X k) (sM_it (pt M 0 12 0) k)
  | 0 => by
    obtain ⟨⟨a1, a2, a3, a4⟩, hL, hQ, hA, hT⟩ := h
    refine ⟨⟨a1, a2, rfl, isZ_0⟩, ?_, hQ, hA, hT, rfl⟩
    show RL X (pt M 0 12 0) (M 0 11 + 0)
    rw [Int32.add_zero]
    exact hL
  | k + 1 => J_step k (J_all h k)
theorem W_par {X Rw M : Sg} (h : Inv X Rw M) (k : Nat) : vp_in ((sL_it X k).2 11 k) 32 := (J_all h k).2.1.2.2.2.2.2.2 k
theorem W_ring {X Rw M : Sg} (h : Inv X Rw M) (k : Nat) : vp_in (sE_k (sL_it X k).2) 64 := (J_all h k).2.2.1.k
theorem W_link {X Rw M : Sg} (h : Inv X Rw M) : isZ (sL_watch X).1 := (J_all h 256).1.2.2.2
theorem W_parM {X Rw M : Sg} (h : Inv X Rw M) (k : Nat) : vp_in ((sM_it (pt M 0 12 0) k).2 5 k) 32 := by
  have hJ := J_all h k
  rw [← hJ.2.1.1.2.2.2.1]
  exact W_par h k
theorem W_wait {X Rw M : Sg} (h : Inv X Rw M) (k : Nat) (c : ¬ (sM_it (pt M 0 12 0) k).2 0 13 = 64) : vp_in ((sM_it (pt M 0 12 0) k).2 0 13) 64 := (J_all h k).2.2.1.free c
theorem P_watch {X Rw M : Sg} (h : Inv X Rw M) : (sC_watch X).1 = (sM_watch M).1 ∧ Inv (sC_watch X).2 Rw (sM_watch M).2 := by
  have hJ := J_all h 256
  have hb : X 7 10 = M 0 11 := h.2.1.2.1
  unfold sC_watch sM_watch sL_watch sM_w
  generalize sL_it X 256 = p at hJ ⊢
  generalize sM_it (pt M 0 12 0) 256 = q at hJ ⊢
  obtain ⟨h0, hL, hQ, hA, hT, h11⟩ := hJ
  refine ⟨?_, h0, ?_, hQ, hA, hT⟩
  · show p.2 7 10 - X 7 10 = q.1
    rw [hL.2.1, h11, hb, Int32.add_comm, Int32.add_sub_cancel]
  · exact hL
end
section
-- ===== text and actions; what is seen =====
theorem P_put {X Rw M : Sg} (b : Int32) (h : Inv X Rw M) : (sC_put X b).1 = (sM_put M b).1 ∧ Inv (sC_put X b).2 Rw (sM_put M b).2 := by
  have hh := h
  obtain ⟨h0, hL, hQ, hA, ⟨a1, ⟨t, ht, e1, e2⟩, a3⟩⟩ := h
  unfold sC_put sM_put
  by_cases a : X 0 5 = 256
  · rw [if_pos a, if_pos (by rw [e2, ← e1]; exact a)]; exact ⟨rfl, hh⟩
  · have ht' : t < 256 := by
      rcases Nat.lt_or_ge t 256 with q | q
      · exact q
      · exact absurd (by rw [e1, show t = 256 by omega]; rfl) a
    rw [if_neg a, if_neg (by rw [e2, ← e1]; exact a)]
    refine ⟨by show X 0 5 + 1 = M 0 22 + 1; rw [e1, e2], h0, hL, hQ, hA, ?_, ⟨t + 1, ht', ?_, ?_⟩, fun i => ?_⟩
    · show upd (X 21) (ix (X 0 5)) _ = upd (M 17) (ix (M 0 22)) _
      rw [a1, e1, e2]
    · show X 0 5 + 1 = _; rw [e1, nI_1]
    · show M 0 22 + 1 = _; rw [e2, nI_1]
    · show fits .byte (.int (upd (X 21) (ix (X 0 5)) (nb b.toInt8.toInt32) i)) = true
      unfold upd
      by_cases q : i = ix (X 0 5)
      · rw [if_pos q, show nb b.toInt8.toInt32 = b.toInt8.toInt32 from pk_vb b]; exact pk_fb b
      · rw [if_neg q]; exact a3 i
theorem put_in {X Rw M : Sg} (h : Inv X Rw M) (c : ¬ X 0 5 = 256) : vp_in (X 0 5) 256 := by
  obtain ⟨-, -, -, -, ⟨-, ⟨t, ht, e1, e2⟩, -⟩⟩ := h
  rw [e1] at c ⊢
  refine vp_in_nI ?_ (by decide)
  rcases Nat.lt_or_ge t 256 with q | q
  · exact q
  · exact absurd (by rw [show t = 256 by omega]; rfl) c
theorem put_inM {X Rw M : Sg} (h : Inv X Rw M) (c : ¬ M 0 22 = 256) : vp_in (M 0 22) 256 := by
  obtain ⟨-, -, -, -, ⟨-, ⟨t, ht, e1, e2⟩, -⟩⟩ := h
  rw [e2] at c ⊢
  refine vp_in_nI ?_ (by decide)
  rcases Nat.lt_or_ge t 256 with q | q
  · exact q
  · exact absurd (by rw [show t = 256 by omega]; rfl) c
theorem nb_fit {v : Int32} (h : fits .byte (.int v) = true) : nb v = v := by
  show v.toInt8.toInt32 = v
  have h2 : -128 ≤ v ∧ v ≤ 127 := by simpa [fits] using h
  have l : (-128 : Int) ≤ v.toInt := by simpa using i32_le.mp h2.1
  have u : v.toInt ≤ 127 := by simpa using i32_le.mp h2.2
  apply Int32.toInt_inj.mp
  rw [Int8.toInt_toInt32, Int32.toInt_toInt8]
  rw [Int.bmod_eq_of_le (by omega) (by omega)]
theorem cp_17 (M : Sg) (e : Int32) : ∀ n, (sM_cp M e n) 17 = M 17
  | 0 => rfl
  | n + 1 => cp_17 M e n
theorem cp_ix {j n : Nat} (hj : j < 32) (hn : n < 256) : ix (256 * nI j + nI n) = 256 * j + n := by
  rw [show (256 : Int32) = nI 256 from rfl, pk_mul, nI_add]
  exact nI_clamp (by omega)
theorem cp_16 (M : Sg) (j : Nat) (hj : j < 32) : ∀ n i, n ≤ 256 → (sM_cp M (nI j) n) 16 i = if 256 * j ≤ i ∧ i < 256 * j + n then nb (M 17 (i - 256 * j)) else M 16 i
  | 0, i, _ => by rw [if_neg (by omega)]; rfl
  | n + 1, i, hn => by
    show upd ((sM_cp M (nI j) n) 16) (ix (256 * nI j + nI n)) (nb ((sM_cp M (nI j) n) 17 n)) i = _
    rw [cp_ix hj (by omega), cp_17]
    by_cases q : i = 256 * j + n
    · subst q
      rw [pk_us, if_pos (by omega), show 256 * j + n - 256 * j = n by omega]
    · rw [pk_un q, cp_16 M j hj n i (by omega)]
      by_cases r : 256 * j ≤ i ∧ i < 256 * j + n
      · rw [if_pos r, if_pos (by omega)]
      · rw [if_neg r, if_neg (by omega)]
theorem R0_cp {X M : Sg} {lk : Int32} (e : Int32) (h : R0 X M lk) : ∀ n, R0 X (sM_cp M e n) lk
  | 0 => h
  | n + 1 => R0_cp e h n
theorem RL_cp {X M : Sg} {b : Int32} (e : Int32) (h : RL X M b) : ∀ n, RL X (sM_cp M e n) b
  | 0 => h
  | n + 1 => RL_cp e h n
theorem RQ_cp {X M : Sg} (e : Int32) (h : RQ X M) : ∀ n, RQ X (sM_cp M e n)
  | 0 => h
  | n + 1 => RQ_cp e h n
theorem RT_cp {X M : Sg} (e : Int32) (h : RT X M) : ∀ n, RT X (sM_cp M e n)
  | 0 => h
  | n + 1 => RT_cp e h n
theorem cp_14 (M : Sg) (e : Int32) : ∀ n, (sM_cp M e n) 14 = M 14
  | 0 => rfl
  | n + 1 => cp_14 M e n
theorem cp_15 (M : Sg) (e : Int32) : ∀ n, (sM_cp M e n) 15 = M 15
  | 0 => rfl
  | n + 1 => cp_15 M e n
theorem P_act {X Rw M : Sg} (e : Int32) (h : Inv X Rw M) : (sC_act (X, Rw) e).1 = (sM_act M e).1 ∧ Inv (sC_act (X, Rw) e).2.1 (sC_act (X, Rw) e).2.2 (sM_act M e).2 := by
  obtain ⟨h0, hL, hQ, ⟨b1, b2, b3⟩, ⟨a1, ⟨t, ht, e1, e2⟩, a3⟩⟩ := h
  have hI : Inv (pt X 0 5 0) Rw (pt M 0 22 0) := ⟨h0, hL, hQ, ⟨b1, b2, b3⟩, a1, ⟨0, by omega, rfl, rfl⟩, a3⟩
  unfold sC_act sM_act
  dsimp only
  rw [is_same]
  by_cases a : sM_isEvent e = 0
  · rw [if_pos a, if_pos a]; exact ⟨rfl, hI⟩
  rw [if_neg a, if_neg a]
  by_cases b : X 0 5 = 0
  · rw [if_pos b, if_pos (by rw [e2, ← e1]; exact b)]; exact ⟨rfl, hI⟩
  rw [if_neg b, if_neg (by rw [e2, ← e1]; exact b)]
  obtain ⟨j, hj, ej⟩ := vp_in_of (sM_isEvent_in a) (by decide)
  have ij : ix e = j := by rw [ej]; exact nI_clamp (by omega)
  unfold sA_add
  dsimp only
  by_cases c : X 19 (ix e) ≤ 0
  · rw [if_pos (show (pt X 0 5 0) 19 (ix e) ≤ 0 from c), if_pos (show M 14 (ix e) ≤ 0 by rw [← b1]; exact c)]
    have it : ix (X 0 5) = t := by rw [e1]; exact nI_clamp (by omega)
    have it2 : ix (M 0 22) = t := by rw [e2]; exact nI_clamp (by omega)
    have i0 : ix 0 = 0 := sb_cl0
    rw [it, it2, ij, i0, ej]
    dsimp only
    have g0 : R0 (pt (pt (pt X 0 5 0) 19 j (X 0 5)) 20 j (nz 0)) (pt (pt (pt M 0 22 0) 14 j (M 0 22)) 15 j (nz 0)) (X 0 6) := h0
    have gL : RL (pt (pt (pt X 0 5 0) 19 j (X 0 5)) 20 j (nz 0)) (pt (pt (pt M 0 22 0) 14 j (M 0 22)) 15 j (nz 0)) (M 0 11) := hL
    have gQ : RQ (pt (pt (pt X 0 5 0) 19 j (X 0 5)) 20 j (nz 0)) (pt (pt (pt M 0 22 0) 14 j (M 0 22)) 15 j (nz 0)) := hQ
    have gT : RT (pt (pt (pt X 0 5 0) 19 j (X 0 5)) 20 j (nz 0)) (pt (pt (pt M 0 22 0) 14 j (M 0 22)) 15 j (nz 0)) := ⟨a1, ⟨0, by omega, rfl, rfl⟩, a3⟩
    refine ⟨rfl, R0_cp _ g0 t, ?_, RQ_cp _ gQ t, ⟨?_, ?_, fun k hk => ?_⟩, RT_cp _ gT t⟩
    · rw [sM_cp_0]; exact RL_cp _ gL t
    · rw [cp_14]
      show upd (X 19) j (X 0 5) = upd (M 14) j (M 0 22)
      rw [b1, e1, e2]
    · rw [cp_15]
      show upd (X 20) j (nz 0) = upd (M 15) j (nz 0)
      rw [b2]
    · by_cases q : k = j
      · subst q
        refine ⟨t, ht, ?_, fun i hi => ?_⟩
        · show upd (X 19) k (X 0 5) k = nI t
          rw [pk_us, e1]
        · rw [cp_16 _ k hk t _ ht, if_pos (by omega), va_up_self, show 256 * k + i - 256 * k = i by omega, pk_cpy_in (by omega) (by omega)]
          show X 21 (0 + (i - 0)) = nb (M 17 i)
          rw [← a1, nb_fit (a3 i), Nat.zero_add, Nat.sub_zero]
      · obtain ⟨n, hn, en, hr⟩ := b3 k hk
        refine ⟨n, hn, ?_, fun i hi => ?_⟩
        · show upd (X 19) j (X 0 5) k = nI n
          rw [pk_un q, en]
        · rw [cp_16 _ j hj t _ ht, if_neg (by omega), va_up_ne _ _ q]
          exact hr i hi
  · rw [if_neg (show ¬ (pt X 0 5 0) 19 (ix e) ≤ 0 from c), if_neg (show ¬ M 14 (ix e) ≤ 0 by rw [← b1]; exact c)]; exact ⟨rfl, hI⟩
theorem P_drop {X Rw M : Sg} (e : Int32) (h : Inv X Rw M) : (sC_drop X e).1 = (sM_drop M e).1 ∧ Inv (sC_drop X e).2 Rw (sM_drop M e).2 := by
  have hh := h
  obtain ⟨h0, hL, hQ, ⟨b1, b2, b3⟩, hT⟩ := h
  unfold sC_drop sM_drop sA_drop
  rw [is_same, ← b1, ← b2]
  by_cases a : sM_isEvent e = 0
  · rw [if_pos a, if_pos a]; exact ⟨rfl, hh⟩
  rw [if_neg a, if_neg a]
  by_cases b : X 19 (ix e) = 0
  · rw [if_pos b, if_pos b]; exact ⟨rfl, hh⟩
  rw [if_neg b, if_neg b]
  by_cases c : X 20 (ix e) = 0
  · rw [if_pos c, if_pos c]
    refine ⟨rfl, h0, hL, hQ, ⟨?_, b2, fun k hk => ?_⟩, hT⟩
    · show upd (X 19) _ 0 = upd (M 14) _ 0; rw [b1]
    · by_cases q : k = ix e
      · refine ⟨0, by omega, ?_, fun i hi => absurd hi (by omega)⟩
        show upd (X 19) (ix e) 0 k = nI 0
        rw [q, pk_us]; rfl
      · obtain ⟨n, hn, en, hr⟩ := b3 k hk
        refine ⟨n, hn, ?_, hr⟩
        show upd (X 19) (ix e) 0 k = nI n
        rw [pk_un q, en]
  · rw [if_neg c, if_neg c]; exact ⟨rfl, hh⟩
theorem P_arm {X Rw M : Sg} (e b : Int32) (h : Inv X Rw M) : (sC_arm X e b).1 = (sM_arm M e b).1 ∧ Inv (sC_arm X e b).2 Rw (sM_arm M e b).2 := by
  have hh := h
  obtain ⟨h0, hL, hQ, ⟨b1, b2, b3⟩, hT⟩ := h
  unfold sC_arm sM_arm sA_arm
  rw [is_same, ← b1]
  by_cases a : sM_isEvent e = 0
  · rw [if_pos a, if_pos a]; exact ⟨rfl, hh⟩
  rw [if_neg a, if_neg a]
  by_cases c : X 19 (ix e) = 0
  · rw [if_pos c, if_pos c]; exact ⟨rfl, hh⟩
  rw [if_neg c, if_neg c]
  refine ⟨rfl, h0, hL, hQ, ⟨b1, ?_, b3⟩, hT⟩
  show upd (X 20) _ _ = upd (M 15) _ _
  rw [b2]
theorem P_event {X Rw M : Sg} (e w : Int32) (h : Inv X Rw M) : (sC_event X e w).1 = (sM_event M e w).1 ∧ Inv (sC_event X e w).2 Rw (sM_event M e w).2 := by
  have hh := h
  obtain ⟨h0, hL, hQ, ⟨b1, b2, b3⟩, hT⟩ := h
  unfold sC_event sM_event
  rw [is_same, ← b1, ← b2, ← h0.2.1]
  by_cases a : sM_isEvent e = 0
  · rw [if_pos a, if_pos a]; exact ⟨rfl, hh⟩
  rw [if_neg a, if_neg a]
  by_cases w0 : w = 0
  · rw [if_pos w0, if_pos w0]
    by_cases b : X 6 (ix e) = 0
    · rw [if_pos b, if_pos b]; exact ⟨rfl, hh⟩
    · rw [if_neg b, if_neg b]; exact ⟨rfl, hh⟩
  rw [if_neg w0, if_neg w0]
  by_cases w1 : w = 1
  · rw [if_pos w1, if_pos w1]; exact ⟨rfl, hh⟩
  rw [if_neg w1, if_neg w1]
  by_cases w2 : w = 2
  · rw [if_pos w2, if_pos w2]
    by_cases b : X 19 (ix e) ≤ 0
    · rw [if_pos b, if_pos b]; exact ⟨rfl, hh⟩
    · rw [if_neg b, if_neg b]
      by_cases c : X 20 (ix e) = 0
      · rw [if_pos c, if_pos c]; exact ⟨rfl, hh⟩
      · rw [if_neg c, if_neg c]; exact ⟨rfl, hh⟩
  rw [if_neg w2, if_neg w2]; exact ⟨rfl, hh⟩
theorem at_in {X Rw M : Sg} {e k : Int32} (h : Inv X Rw M) (a : ¬ sM_isEvent e = 0) (b : ¬ k < 0) (c : k < X 19 (ix e)) : ∃ j i : Nat, j < 32 ∧ i < 256 ∧ e = nI j ∧ k = nI i ∧ Rw j i = M 16 (256 * j + i) := by
  obtain ⟨h0, hL, hQ, ⟨b1, b2, b3⟩, hT⟩ := h
  obtain ⟨j, hj, ej⟩ := vp_in_of (sM_isEvent_in a) (by decide)
  have ij : ix e = j := by rw [ej]; exact nI_clamp (by omega)
  obtain ⟨n, hn, en, hr⟩ := b3 j hj
  obtain ⟨i, hi, ei⟩ := nI_of b
  rw [ij, en, ei, nI_ltI hi (by omega)] at c
  exact ⟨j, i, hj, by omega, ej, ei, hr i c⟩
theorem P_actionAt {X Rw M : Sg} (e k : Int32) (h : Inv X Rw M) : (sC_actionAt X Rw e k).1 = (sM_actionAt M e k).1 ∧ Inv (sC_actionAt X Rw e k).2 Rw (sM_actionAt M e k).2 := by
  unfold sC_actionAt sM_actionAt
  rw [is_same]
  by_cases a : sM_isEvent e = 0
  · rw [if_pos a, if_pos a]; exact ⟨rfl, h⟩
  rw [if_neg a, if_neg a]
  by_cases b : k < 0
  · rw [if_pos b, if_pos b]; exact ⟨rfl, h⟩
  rw [if_neg b, if_neg b]
  rw [← h.2.2.2.1.1]
  by_cases c : k < X 19 (ix e)
  · rw [if_pos c, if_neg (Int32.not_le.mpr c)]
    obtain ⟨j, i, hj, hi, ej, ei, er⟩ := at_in h a b c
    refine ⟨?_, h⟩
    show Rw (ix e) (ix k) &&& 255 = M 16 (ix (256 * e + k)) &&& 255
    have i1 : ix (nI j) = j := nI_clamp (by omega)
    have i2 : ix (nI i) = i := nI_clamp (by omega)
    rw [ej, ei, cp_ix hj hi, i1, i2, er]
  · rw [if_neg c, if_pos (Int32.not_lt.mp c)]; exact ⟨rfl, h⟩
theorem P_count {X Rw M : Sg} (w : Int32) (h : Inv X Rw M) : (sC_count X w).1 = (sM_count M w).1 ∧ Inv (sC_count X w).2 Rw (sM_count M w).2 := by
  have hh := h
  obtain ⟨h0, ⟨⟨c1, -⟩, d1, d2, -⟩, ⟨⟨n, f, -, -, e1, e2, -⟩, e4, e5⟩, -⟩ := h
  unfold sC_count sM_count
  rw [show sM_limits M = X 7 9 by rw [d2, sM_limits, c1]]
  rw [← d1, e1, e2, ← e4, ← e5]
  by_cases w0 : w = 0
  · rw [if_pos w0, if_pos w0]; exact ⟨rfl, hh⟩
  rw [if_neg w0, if_neg w0]
  by_cases w1 : w = 1
  · rw [if_pos w1, if_pos w1]; exact ⟨rfl, hh⟩
  rw [if_neg w1, if_neg w1]
  by_cases w2 : w = 2
  · rw [if_pos w2, if_pos w2]; exact ⟨rfl, hh⟩
  rw [if_neg w2, if_neg w2]
  by_cases w3 : w = 3
  · rw [if_pos w3, if_pos w3]; exact ⟨rfl, hh⟩
  rw [if_neg w3, if_neg w3]
  by_cases w4 : w = 4
  · rw [if_pos w4, if_pos w4]; exact ⟨rfl, hh⟩
  rw [if_neg w4, if_neg w4]; exact ⟨rfl, hh⟩
theorem Inv_0 : Inv zS zS zS := by
  refine ⟨⟨rfl, rfl, rfl, isZ_0⟩, ⟨⟨rfl, rfl, rfl, rfl, rfl, rfl, rfl, rfl, rfl⟩, rfl, ?_, fun _ => isZ_0, fun _ => isZ_0, fun _ => isZ_0, fun _ => vp_in_nI (n := 0) (by decide) (by decide)⟩, ⟨⟨0, 0, by decide, by decide, rfl, rfl, rfl, fun k q => absurd q (by omega)⟩, rfl, rfl⟩, ⟨rfl, rfl, fun e _ => ⟨0, by decide, rfl, fun k q => absurd q (by omega)⟩⟩, rfl, ⟨0, by decide, rfl, rfl⟩, fun _ => rfl⟩
  have : ∀ n, cntN (fun _ => 0) n = 0 := by
    intro n
    induction n with
    | zero => rfl
    | succ n ih =>
      show cntN _ n + _ = 0
      rw [ih, if_pos rfl]
      rfl
  exact (this 256).symm
end
section
/-! THE CLAIM OUT OF ONE WALK OF THE LAW'S BODY. Your part is whole_start (and what it stands on); all else here is the same for every law, but numbers. -/
def lw_P (b : Addr) (xs : List Int32) (args : Array Value) (s : State) : Prop := args = #[.ref b] ∧ s.IntsAt b xs ∧ xs.length ≤ 4096 ∧ (Jvm.Cond.and given_1 narrow_1).before args s = true
def lw_Q (_ : Array Value) (s : State) (o : Outcome) (t : State) : Prop := o = .returned (some (.int 1)) ∧ Framed s o t [] 600000 7302250
def lw_Z (below : List Frame) (a : Array Value) (s : State) : State → Prop := fun t => ∃ o, t.status = .running ∧ Ended t below o ∧ lw_Q a s o t
/-- the law's own end, with 1 on the stack, nothing written that was there before, its room as the claim has it -/
theorem lw_ret {p : Program} {l : Launch} {e : Env} {s : State} {m : MethodId} {below : List Frame} {meth : Method} {c : Code} {b : Nat} (hx : p.tables.exec = Jvm.exec) (hb : c.code = code) (hr : meth.sig.returnType = ret) (hlocks : meth.locks = false) {pc : Nat} {H : Heap} {ls : Array Slot} (hdg : decode code pc = .ok (.ireturn, 1)) : W p l e room_1 s m #[Value.ref b] below meth c H [] 600000 7302250 (lw_Z below #[Value.ref b] s) (F0 m pc ls [.int 1]) := by
  intro T hT X
  obtain ⟨fs, hret, hrun, hended, hW, hframe⟩ := X.leave (v := some (.int 1)) (hlocks := hlocks) (fun h => by rw [hr] at h; cases h)
  have hmeth' : T.vm.method? m = some meth := X.method'
  refine ⟨T.setFrames fs, ?_, .returned (some (.int 1)), hrun, hended, rfl, ⟨_, rfl⟩, hW, hframe⟩
  jvm_step X.here [X.here.top, hx, hb, hdg, hmeth', hr, ret, narrow_b1]
  (try refine ⟨rfl, ?_⟩); (try refine ⟨rfl, ?_⟩)
  first | (intro acts; rw [hret _ acts rfl rfl rfl]) | rw [hret _ _ rfl rfl rfl]
  exact Steps.refl _
/-- what holds at the law's entry: the machine, the code, the tables' words (any of lw_tbl by 'hts w (by decide +kernel)'), the script of L ints xs at the cell b, what the Statement gives of the start (any of its parts by flat_of_before) -/
def lw_At (p : Program) (s : State) (m : MethodId) (meth : Method) (c : Code) (b L : Nat) (xs : Nat → Int32) : Prop :=
  p.tables.exec = Jvm.exec ∧ c.code = code ∧ meth.sig.returnType = ret ∧ c.maxLocals = 4 ∧ s.vm.findClass R_law = some m.cls ∧ (∀ w ∈ lw_tbl, w.before #[Value.ref b] s = true) ∧ va_X b L xs s s.heap ∧ b < s.heap.size ∧ meth.locks = false ∧ (Jvm.Cond.and given_1 narrow_1).before #[Value.ref b] s = true
-- ===== the law's own walk: what every case of its switch has =====
theorem good_tbl {args : Array Value} {s : State} (h : ∀ w ∈ lw_tbl, w.before args s = true) : ∀ w ∈ lw_good, w.before args s = true := fun w hw => h w (List.mem_filter.mp hw).1
def LC (p : Program) (s : State) (m : MethodId) (c : Code) (D : va_G) (cA : Nat → ClassId) (b L : Nat) (xs : Nat → Int32) : Prop :=
  p.tables.exec = Jvm.exec ∧ c.code = code ∧ c.maxLocals = 4 ∧ s.vm.findClass R_law = some m.cls ∧ (∀ w ∈ lw_good, w.before #[Value.ref b] s = true) ∧ KK D cA s ∧ va_X b L xs s s.heap ∧ b < s.heap.size
theorem s_in {x3 J : Int32} {k L j : Nat} (e3 : x3 = nI k) (h : k + 8 ≤ L) (hL : L ≤ 4096) (eJ : J = nI j) (hj : j < 8) : vp_in (x3 + J) L := by
  rw [e3, eJ, nI_add]
  exact vp_in_nI (by omega) (by omega)
theorem s_in0 {x3 : Int32} {k L : Nat} (e3 : x3 = nI k) (h : k + 8 ≤ L) (hL : L ≤ 4096) : vp_in x3 L := by
  rw [e3]
  exact vp_in_nI (by omega) (by omega)
section LCALLS
variable {p : Program} {l : Launch} {e : Env} {R : Room} {s : State} {m : MethodId} {args : Array Value} {below : List Frame} {meth : Method} {c : Code} {H : Heap} {locs : List Loc} {cells slots : Nat} {Q : State → Prop}
variable {cc b : ByteArray} {pc nL n fr lo idx ci : Nat} {ls : Array Slot} {rest st0 As : List Value} {D : va_G} {cA : Nat → ClassId} {A : Nat → Prop} {a : Nat} {own C : String} {y : MethodName} {ret : Option FieldType} {St : Type} {Wf : St → va_W} {X : St} {sp : Int32 × St} {rr : Int32} {X' : St} {wl wr : va_W} {r0 : vw_C} {fs : List Value}
theorem cVL (hM : Ct l y b n ret fr lo D cA (.ref a :: As) Wf X sp) (lk : LkV own idx C y b n ret As.length) (hx : p.tables.exec = Jvm.exec) (hb : c.code = cc) (hml : c.maxLocals = nL) (hown : s.vm.findClass own = some m.cls) (hts : ∀ w ∈ lw_good, w.before args s = true) (hKK : KK D cA s)
    (hP : va_P D classes (Wf X ++ wr) H) (hD : va_D A (Wf X ++ wr)) (hS : va_S A s.heap H locs) (hA : ∀ q, s.heap.size ≤ q → A q) (hls : ls.size = nL) (q0 : Nat) (he : (Wf X)[q0]? = some (a, .inr (ci, fs))) (hc : classes[ci]? = some r0) (hC : r0.1 = C)
    (hroom : fr + 1 ≤ R.frames ∧ 8 + (n + 11) + lo ≤ R.locals) (hcs : cells ≤ R.cells ∧ slots ≤ R.slots) (hsp : sp = (rr, X')) (hadr : (Wf X').map Prod.fst = (Wf X).map Prod.fst) (hst : st0 = As.reverse ++ .ref a :: rest) (hW : (rest.map fun v => v.category).sum ≤ 8) (hdg : decode cc pc = .ok (.invokevirtual idx, 3))
    (kk : ∀ (H1 : Heap) (locs1 : List Loc), va_P D classes (Wf X' ++ wr) H1 → va_D A (Wf X' ++ wr) → va_S A s.heap H1 locs1 → W p l e R s m args below meth c H1 locs1 cells slots Q (F0 m (pc + 3) ls (.int rr :: rest))) :
    W p l e R s m args below meth c H locs cells slots Q (F0 m pc ls st0) :=
  cV3 (wl := []) hM lk hx hb hml hown hts hKK hP hD hS hA hls q0 he hc hC hroom hcs hsp hadr hst hW hdg (fun H1 locs1 a1 a2 a3 => kk H1 locs1 a1 a2 a3)
theorem cVR (hM : Ct l y b n ret fr lo D cA (.ref a :: As) Wf X sp) (lk : LkV own idx C y b n ret As.length) (hx : p.tables.exec = Jvm.exec) (hb : c.code = cc) (hml : c.maxLocals = nL) (hown : s.vm.findClass own = some m.cls) (hts : ∀ w ∈ lw_good, w.before args s = true) (hKK : KK D cA s)
    (hP : va_P D classes (wl ++ Wf X) H) (hD : va_D A (wl ++ Wf X)) (hS : va_S A s.heap H locs) (hA : ∀ q, s.heap.size ≤ q → A q) (hls : ls.size = nL) (q0 : Nat) (he : (Wf X)[q0]? = some (a, .inr (ci, fs))) (hc : classes[ci]? = some r0) (hC : r0.1 = C)
    (hroom : fr + 1 ≤ R.frames ∧ 8 + (n + 11) + lo ≤ R.locals) (hcs : cells ≤ R.cells ∧ slots ≤ R.slots) (hsp : sp = (rr, X')) (hadr : (Wf X').map Prod.fst = (Wf X).map Prod.fst) (hst : st0 = As.reverse ++ .ref a :: rest) (hW : (rest.map fun v => v.category).sum ≤ 8) (hdg : decode cc pc = .ok (.invokevirtual idx, 3))
    (kk : ∀ (H1 : Heap) (locs1 : List Loc), va_P D classes (wl ++ Wf X') H1 → va_D A (wl ++ Wf X') → va_S A s.heap H1 locs1 → W p l e R s m args below meth c H1 locs1 cells slots Q (F0 m (pc + 3) ls (.int rr :: rest))) :
    W p l e R s m args below meth c H locs cells slots Q (F0 m pc ls st0) :=
  cV3 (wl := wl) (wr := []) hM lk hx hb hml hown hts hKK (by rw [List.append_nil]; exact hP) (by rw [List.append_nil]; exact hD) hS hA hls q0 he hc hC hroom hcs hsp hadr hst hW hdg (fun H1 locs1 a1 a2 a3 => kk H1 locs1 (by rw [List.append_nil] at a1; exact a1) (by rw [List.append_nil] at a2; exact a2) a3)
end LCALLS
theorem at_C {X Rw M : Sg} {e k : Int32} (h : Inv X Rw M) (a : ¬ sE_is e = 0) (b : ¬ k < 0) (c : k < X 19 (ix e)) : vp_in k 256 := by
  rw [is_same] at a
  obtain ⟨j, i, hj, hi, ej, ei, -⟩ := at_in h a b c
  rw [ei]; exact vp_in_nI hi (by decide)
theorem at_M {X Rw M : Sg} {e k : Int32} (h : Inv X Rw M) (a : ¬ sM_isEvent e = 0) (b : ¬ k < 0) (c : ¬ M 14 (ix e) ≤ k) : vp_in (256 * e + k) 8192 := by
  rw [← h.2.2.2.1.1] at c
  obtain ⟨j, i, hj, hi, ej, ei, -⟩ := at_in h a b (Int32.not_le.mp c)
  exact ac_in (by rw [ej]; exact vp_in_nI hj (by decide)) ei hi
theorem lk_law_13 : LkV R_law 13 R_C y_C_set b_C_set 3 (some .boolean) 2 := LkV.of tw_153 tw_154 tw_155 tw_1 tw_156 (by decide +kernel)
theorem lk_law_17 : LkV R_law 17 R_M y_M_set b_M_set 3 (some .boolean) 2 := LkV.of tw_367 tw_368 tw_369 tw_6 tw_370 (by decide +kernel)
theorem lk_law_18 : LkV R_law 18 R_C y_C_add b_C_add 8 (some .int) 7 := LkV.of tw_157 tw_158 tw_159 tw_1 tw_160 (by decide +kernel)
theorem lk_law_22 : LkV R_law 22 R_M y_M_add b_M_add 8 (some .int) 7 := LkV.of tw_371 tw_372 tw_373 tw_6 tw_374 (by decide +kernel)
theorem lk_law_23 : LkV R_law 23 R_C y_C_remove b_C_remove 2 (some .int) 1 := LkV.of tw_168 tw_169 tw_170 tw_1 tw_171 (by decide +kernel)
theorem lk_law_27 : LkV R_law 27 R_M y_M_remove b_M_remove 2 (some .int) 1 := LkV.of tw_382 tw_383 tw_384 tw_6 tw_385 (by decide +kernel)
theorem lk_law_28 : LkV R_law 28 R_C y_C_enable b_C_enable 3 (some .int) 2 := LkV.of tw_180 tw_181 tw_182 tw_1 tw_183 (by decide +kernel)
theorem lk_law_32 : LkV R_law 32 R_M y_M_enable b_M_enable 3 (some .int) 2 := LkV.of tw_390 tw_391 tw_392 tw_6 tw_393 (by decide +kernel)
theorem lk_law_33 : LkV R_law 33 R_C y_C_watch b_C_watch 2 (some .int) 0 := LkV.of tw_188 tw_189 tw_190 tw_1 tw_191 (by decide +kernel)
theorem lk_law_37 : LkV R_law 37 R_M y_M_watch b_M_watch 5 (some .int) 0 := LkV.of tw_394 tw_395 tw_396 tw_6 tw_397 (by decide +kernel)
theorem lk_law_38 : LkV R_law 38 R_C y_C_linked b_C_linked 1 (some .boolean) 0 := LkV.of tw_210 tw_211 tw_212 tw_1 tw_213 (by decide +kernel)
theorem lk_law_42 : LkV R_law 42 R_M y_M_linked b_M_linked 1 (some .boolean) 0 := LkV.of tw_402 tw_403 tw_404 tw_6 tw_405 (by decide +kernel)
theorem lk_law_43 : LkV R_law 43 R_C y_C_raise b_C_raise 3 (some .boolean) 2 := LkV.of tw_214 tw_215 tw_216 tw_1 tw_217 (by decide +kernel)
theorem lk_law_46 : LkV R_law 46 R_M y_M_raise b_M_raise 3 (some .boolean) 2 := LkV.of tw_406 tw_407 tw_408 tw_6 tw_409 (by decide +kernel)
theorem lk_law_47 : LkV R_law 47 R_C y_C_work b_C_work 1 (some .int) 0 := LkV.of tw_220 tw_221 tw_222 tw_1 tw_223 (by decide +kernel)
theorem lk_law_50 : LkV R_law 50 R_M y_M_work b_M_work 3 (some .int) 0 := LkV.of tw_413 tw_414 tw_415 tw_6 tw_416 (by decide +kernel)
theorem lk_law_51 : LkV R_law 51 R_C y_C_lose b_C_lose 1 (some .int) 0 := LkV.of tw_228 tw_229 tw_230 tw_1 tw_231 (by decide +kernel)
theorem lk_law_54 : LkV R_law 54 R_M y_M_lose b_M_lose 2 (some .int) 0 := LkV.of tw_417 tw_418 tw_419 tw_6 tw_420 (by decide +kernel)
theorem lk_law_55 : LkV R_law 55 R_C y_C_tell b_C_tell 3 (some .int) 2 := LkV.of tw_236 tw_237 tw_238 tw_1 tw_239 (by decide +kernel)
theorem lk_law_58 : LkV R_law 58 R_M y_M_tell b_M_tell 3 (some .int) 2 := LkV.of tw_421 tw_422 tw_423 tw_6 tw_424 (by decide +kernel)
theorem lk_law_59 : LkV R_law 59 R_C y_C_put b_C_put 2 (some .int) 1 := LkV.of tw_240 tw_241 tw_242 tw_1 tw_243 (by decide +kernel)
theorem lk_law_62 : LkV R_law 62 R_M y_M_put b_M_put 2 (some .int) 1 := LkV.of tw_425 tw_426 tw_427 tw_6 tw_428 (by decide +kernel)
theorem lk_law_63 : LkV R_law 63 R_C y_C_act b_C_act 3 (some .int) 1 := LkV.of tw_244 tw_245 tw_246 tw_1 tw_247 (by decide +kernel)
theorem lk_law_66 : LkV R_law 66 R_M y_M_act b_M_act 4 (some .int) 1 := LkV.of tw_429 tw_430 tw_431 tw_6 tw_432 (by decide +kernel)
theorem lk_law_67 : LkV R_law 67 R_C y_C_drop b_C_drop 2 (some .int) 1 := LkV.of tw_255 tw_256 tw_257 tw_1 tw_258 (by decide +kernel)
theorem lk_law_70 : LkV R_law 70 R_M y_M_drop b_M_drop 2 (some .int) 1 := LkV.of tw_433 tw_434 tw_435 tw_6 tw_436 (by decide +kernel)
theorem lk_law_71 : LkV R_law 71 R_C y_C_arm b_C_arm 3 (some .int) 2 := LkV.of tw_263 tw_264 tw_265 tw_1 tw_266 (by decide +kernel)
theorem lk_law_74 : LkV R_law 74 R_M y_M_arm b_M_arm 3 (some .int) 2 := LkV.of tw_437 tw_438 tw_439 tw_6 tw_440 (by decide +kernel)
theorem lk_law_75 : LkV R_law 75 R_C y_C_limit b_C_limit 3 (some .int) 2 := LkV.of tw_271 tw_272 tw_273 tw_1 tw_274 (by decide +kernel)
theorem lk_law_79 : LkV R_law 79 R_M y_M_limit b_M_limit 3 (some .int) 2 := LkV.of tw_441 tw_442 tw_443 tw_6 tw_444 (by decide +kernel)
theorem lk_law_80 : LkV R_law 80 R_C y_C_event b_C_event 3 (some .int) 2 := LkV.of tw_276 tw_277 tw_278 tw_1 tw_279 (by decide +kernel)
theorem lk_law_83 : LkV R_law 83 R_M y_M_event b_M_event 3 (some .int) 2 := LkV.of tw_445 tw_446 tw_447 tw_6 tw_448 (by decide +kernel)
theorem lk_law_84 : LkV R_law 84 R_C y_C_actionAt b_C_actionAt 3 (some .int) 2 := LkV.of tw_280 tw_281 tw_282 tw_1 tw_283 (by decide +kernel)
theorem lk_law_87 : LkV R_law 87 R_M y_M_actionAt b_M_actionAt 3 (some .int) 2 := LkV.of tw_449 tw_450 tw_451 tw_6 tw_452 (by decide +kernel)
theorem lk_law_88 : LkV R_law 88 R_C y_C_count b_C_count 2 (some .int) 1 := LkV.of tw_284 tw_285 tw_286 tw_1 tw_287 (by decide +kernel)
theorem lk_law_91 : LkV R_law 91 R_M y_M_count b_M_count 2 (some .int) 1 := LkV.of tw_453 tw_454 tw_455 tw_6 tw_456 (by decide +kernel)
end
section
set_option maxHeartbeats 4000000 in
set_option maxRecDepth 100000 in
/-- case 0: set -/
theorem lc_0 {p : Program} {l : Launch} {e : Env} {s : State} {m : MethodId} {below : List Frame} {meth : Method} {c : Code} {Q : State → Prop} {D : va_G} {cA : Nat → ClassId} {b L : Nat} {xs : Nat → Int32} (C0 : LC p s m c D cA b L xs) {h g : Nat → Nat} {X Rw M : Sg} {H : Heap} {locs : List Loc} {ls : Array Slot} {x3 : Int32} {k : Nat} (e3 : x3 = nI k) (hk8 : k + 8 ≤ L) (hL : L ≤ 4096) (hI : Inv X Rw M) (hP : va_P D classes (wC cA h Rw X ++ wM cA g M) H) (hD : va_D (fun q : Nat => s.heap.size ≤ q) (wC cA h Rw X ++ wM cA g M)) (hS : va_S (fun q : Nat => s.heap.size ≤ q) s.heap H locs) (hl : lv_has ls 4 [(0, .ref b), (1, .ref (h 0)), (2, .ref (g 0)), (3, .int x3)])
    (kk : ∀ (X' Rw' M' : Sg) (H' : Heap) (locs' : List Loc), Inv X' Rw' M' → va_P D classes (wC cA h Rw' X' ++ wM cA g M') H' → va_D (fun q : Nat => s.heap.size ≤ q) (wC cA h Rw' X' ++ wM cA g M') → va_S (fun q : Nat => s.heap.size ≤ q) s.heap H' locs' → W p l e room_1 s m #[Value.ref b] below meth c H' locs' 600000 7302250 Q (F0 m 702 ls [])) :
    W p l e room_1 s m #[Value.ref b] below meth c H locs 600000 7302250 Q (F0 m 120 ls []) := by
  obtain ⟨hx, hb, hml, hown, hts, hKK, hX, hbl⟩ := C0
  have hA : ∀ q : Nat, s.heap.size ≤ q → (fun q : Nat => s.heap.size ≤ q) q := fun _ h => h
  have hbA : ¬ (fun q : Nat => s.heap.size ≤ q) b := Nat.not_le.mpr hbl
  refine lv_aload_n hx hb d_law_law_120 rfl (lv_at hl 1 rfl) ?_
  refine lv_aload_n hx hb d_law_law_121 rfl (lv_at hl 0 rfl) ?_
  refine lv_iload_n hx hb d_law_law_122 rfl (lv_at hl 3 rfl) ?_
  refine lv_iconst (v := 1) hx hb d_law_law_123 (by decide) ?_
  refine lv_iadd hx hb d_law_law_124 ?_
  refine va_sld hx hb hX hbl hbA hS (s_in (j := 1) e3 hk8 hL rfl (by decide)) d_law_law_125 ?_
  refine lv_aload_n hx hb d_law_law_126 rfl (lv_at hl 0 rfl) ?_
  refine lv_iload_n hx hb d_law_law_127 rfl (lv_at hl 3 rfl) ?_
  refine lv_iconst (v := 2) hx hb d_law_law_128 (by decide) ?_
  refine lv_iadd hx hb d_law_law_129 ?_
  refine va_sld hx hb hX hbl hbA hS (s_in (j := 2) e3 hk8 hL rfl (by decide)) d_law_law_130 ?_
  obtain ⟨r1, Y1, e1⟩ : ∃ r Y, (sC_set X (xs (ix (x3 + 1))) (xs (ix (x3 + 2)))) = (r, Y) := ⟨_, _, Prod.eta _ |>.symm⟩
  refine cVL (Wf := wC cA h Rw) (X := X) (rr := r1) (X' := Y1) (c_C_set l D cA h Rw X (xs (ix (x3 + 1))) (xs (ix (x3 + 2))) ) lk_law_13 hx hb hml hown hts hKK hP hD hS hA hl.1 0 rfl rfl rfl ⟨by decide, by decide⟩ ⟨Nat.le_refl _, Nat.le_refl _⟩ e1 wC_adr rfl (Nat.le_of_ble_eq_true rfl) d_law_law_131 (fun H locs hP hD hS => ?_)
  refine lv_aload_n hx hb d_law_law_134 rfl (lv_at hl 2 rfl) ?_
  refine lv_aload_n hx hb d_law_law_135 rfl (lv_at hl 0 rfl) ?_
  refine lv_iload_n hx hb d_law_law_136 rfl (lv_at hl 3 rfl) ?_
  refine lv_iconst (v := 1) hx hb d_law_law_137 (by decide) ?_
  refine lv_iadd hx hb d_law_law_138 ?_
  refine va_sld hx hb hX hbl hbA hS (s_in (j := 1) e3 hk8 hL rfl (by decide)) d_law_law_139 ?_
  refine lv_aload_n hx hb d_law_law_140 rfl (lv_at hl 0 rfl) ?_
  refine lv_iload_n hx hb d_law_law_141 rfl (lv_at hl 3 rfl) ?_
  refine lv_iconst (v := 2) hx hb d_law_law_142 (by decide) ?_
  refine lv_iadd hx hb d_law_law_143 ?_
  refine va_sld hx hb hX hbl hbA hS (s_in (j := 2) e3 hk8 hL rfl (by decide)) d_law_law_144 ?_
  obtain ⟨r2, Y2, e2⟩ : ∃ r Y, (sM_set (th M) (xs (ix (x3 + 1))) (xs (ix (x3 + 2)))) = (r, Y) := ⟨_, _, Prod.eta _ |>.symm⟩
  refine cVR (wl := wC cA h Rw Y1) (Wf := wM cA g) (X := M) (rr := r2) (X' := Y2) (c_M_set l D cA g M (xs (ix (x3 + 1))) (xs (ix (x3 + 2))) ) lk_law_17 hx hb hml hown hts hKK hP hD hS hA hl.1 0 rfl rfl rfl ⟨by decide, by decide⟩ ⟨Nat.le_refl _, Nat.le_refl _⟩ e2 wM_adr rfl (Nat.le_of_ble_eq_true rfl) d_law_law_145 (fun H locs hP hD hS => ?_)
  have hp := P_set (xs (ix (x3 + 1))) (xs (ix (x3 + 2))) hI.th
  rw [e1, e2] at hp
  refine lv_icmp_eq (tgt := 702) hx hb d_law_law_148 (by decide) (fun c_148 => ?_) (fun c_148 => ?_)
  · exact kk _ _ _ _ _ hp.2 hP hD hS
  · exact absurd hp.1 c_148
set_option maxHeartbeats 4000000 in
set_option maxRecDepth 100000 in
/-- case 1: add -/
theorem lc_1 {p : Program} {l : Launch} {e : Env} {s : State} {m : MethodId} {below : List Frame} {meth : Method} {c : Code} {Q : State → Prop} {D : va_G} {cA : Nat → ClassId} {b L : Nat} {xs : Nat → Int32} (C0 : LC p s m c D cA b L xs) {h g : Nat → Nat} {X Rw M : Sg} {H : Heap} {locs : List Loc} {ls : Array Slot} {x3 : Int32} {k : Nat} (e3 : x3 = nI k) (hk8 : k + 8 ≤ L) (hL : L ≤ 4096) (hI : Inv X Rw M) (hP : va_P D classes (wC cA h Rw X ++ wM cA g M) H) (hD : va_D (fun q : Nat => s.heap.size ≤ q) (wC cA h Rw X ++ wM cA g M)) (hS : va_S (fun q : Nat => s.heap.size ≤ q) s.heap H locs) (hl : lv_has ls 4 [(0, .ref b), (1, .ref (h 0)), (2, .ref (g 0)), (3, .int x3)])
    (kk : ∀ (X' Rw' M' : Sg) (H' : Heap) (locs' : List Loc), Inv X' Rw' M' → va_P D classes (wC cA h Rw' X' ++ wM cA g M') H' → va_D (fun q : Nat => s.heap.size ≤ q) (wC cA h Rw' X' ++ wM cA g M') → va_S (fun q : Nat => s.heap.size ≤ q) s.heap H' locs' → W p l e room_1 s m #[Value.ref b] below meth c H' locs' 600000 7302250 Q (F0 m 702 ls [])) :
    W p l e room_1 s m #[Value.ref b] below meth c H locs 600000 7302250 Q (F0 m 153 ls []) := by
  obtain ⟨hx, hb, hml, hown, hts, hKK, hX, hbl⟩ := C0
  have hA : ∀ q : Nat, s.heap.size ≤ q → (fun q : Nat => s.heap.size ≤ q) q := fun _ h => h
  have hbA : ¬ (fun q : Nat => s.heap.size ≤ q) b := Nat.not_le.mpr hbl
  refine lv_aload_n hx hb d_law_law_153 rfl (lv_at hl 1 rfl) ?_
  refine lv_aload_n hx hb d_law_law_154 rfl (lv_at hl 0 rfl) ?_
  refine lv_iload_n hx hb d_law_law_155 rfl (lv_at hl 3 rfl) ?_
  refine lv_iconst (v := 1) hx hb d_law_law_156 (by decide) ?_
  refine lv_iadd hx hb d_law_law_157 ?_
  refine va_sld hx hb hX hbl hbA hS (s_in (j := 1) e3 hk8 hL rfl (by decide)) d_law_law_158 ?_
  refine lv_aload_n hx hb d_law_law_159 rfl (lv_at hl 0 rfl) ?_
  refine lv_iload_n hx hb d_law_law_160 rfl (lv_at hl 3 rfl) ?_
  refine lv_iconst (v := 2) hx hb d_law_law_161 (by decide) ?_
  refine lv_iadd hx hb d_law_law_162 ?_
  refine va_sld hx hb hX hbl hbA hS (s_in (j := 2) e3 hk8 hL rfl (by decide)) d_law_law_163 ?_
  refine lv_aload_n hx hb d_law_law_164 rfl (lv_at hl 0 rfl) ?_
  refine lv_iload_n hx hb d_law_law_165 rfl (lv_at hl 3 rfl) ?_
  refine lv_iconst (v := 3) hx hb d_law_law_166 (by decide) ?_
  refine lv_iadd hx hb d_law_law_167 ?_
  refine va_sld hx hb hX hbl hbA hS (s_in (j := 3) e3 hk8 hL rfl (by decide)) d_law_law_168 ?_
  refine lv_aload_n hx hb d_law_law_169 rfl (lv_at hl 0 rfl) ?_
  refine lv_iload_n hx hb d_law_law_170 rfl (lv_at hl 3 rfl) ?_
  refine lv_iconst (v := 4) hx hb d_law_law_171 (by decide) ?_
  refine lv_iadd hx hb d_law_law_172 ?_
  refine va_sld hx hb hX hbl hbA hS (s_in (j := 4) e3 hk8 hL rfl (by decide)) d_law_law_173 ?_
  refine lv_aload_n hx hb d_law_law_174 rfl (lv_at hl 0 rfl) ?_
  refine lv_iload_n hx hb d_law_law_175 rfl (lv_at hl 3 rfl) ?_
  refine lv_iconst (v := 5) hx hb d_law_law_176 (by decide) ?_
  refine lv_iadd hx hb d_law_law_177 ?_
  refine va_sld hx hb hX hbl hbA hS (s_in (j := 5) e3 hk8 hL rfl (by decide)) d_law_law_178 ?_
  refine lv_aload_n hx hb d_law_law_179 rfl (lv_at hl 0 rfl) ?_
  refine lv_iload_n hx hb d_law_law_180 rfl (lv_at hl 3 rfl) ?_
  refine lv_bipush (v := 6) hx hb d_law_law_181 (by decide) ?_
  refine lv_iadd hx hb d_law_law_183 ?_
  refine va_sld hx hb hX hbl hbA hS (s_in (j := 6) e3 hk8 hL rfl (by decide)) d_law_law_184 ?_
  refine lv_aload_n hx hb d_law_law_185 rfl (lv_at hl 0 rfl) ?_
  refine lv_iload_n hx hb d_law_law_186 rfl (lv_at hl 3 rfl) ?_
  refine lv_bipush (v := 7) hx hb d_law_law_187 (by decide) ?_
  refine lv_iadd hx hb d_law_law_189 ?_
  refine va_sld hx hb hX hbl hbA hS (s_in (j := 7) e3 hk8 hL rfl (by decide)) d_law_law_190 ?_
  refine lv_if_eq (tgt := 198) hx hb d_law_law_191 (by decide) (fun c_191 => ?_) (fun c_191 => ?_)
  · refine lv_iconst (v := 0) hx hb d_law_law_198 (by decide) ?_
    obtain ⟨r1, Y1, e1⟩ : ∃ r Y, (sL_add X (xs (ix (x3 + 1))) (xs (ix (x3 + 2))) (xs (ix (x3 + 3))) (xs (ix (x3 + 4))) (xs (ix (x3 + 5))) (xs (ix (x3 + 6))) 0) = (r, Y) := ⟨_, _, Prod.eta _ |>.symm⟩
    refine cVL (Wf := wC cA h Rw) (X := X) (rr := r1) (X' := Y1) (c_C_add l D cA h Rw X (xs (ix (x3 + 1))) (xs (ix (x3 + 2))) (xs (ix (x3 + 3))) (xs (ix (x3 + 4))) (xs (ix (x3 + 5))) (xs (ix (x3 + 6))) 0 ) lk_law_18 hx hb hml hown hts hKK hP hD hS hA hl.1 0 rfl rfl rfl ⟨by decide, by decide⟩ ⟨Nat.le_refl _, Nat.le_refl _⟩ e1 wC_adr rfl (Nat.le_of_ble_eq_true rfl) d_law_law_199 (fun H locs hP hD hS => ?_)
    refine lv_aload_n hx hb d_law_law_202 rfl (lv_at hl 2 rfl) ?_
    refine lv_aload_n hx hb d_law_law_203 rfl (lv_at hl 0 rfl) ?_
    refine lv_iload_n hx hb d_law_law_204 rfl (lv_at hl 3 rfl) ?_
    refine lv_iconst (v := 1) hx hb d_law_law_205 (by decide) ?_
    refine lv_iadd hx hb d_law_law_206 ?_
    refine va_sld hx hb hX hbl hbA hS (s_in (j := 1) e3 hk8 hL rfl (by decide)) d_law_law_207 ?_
    refine lv_aload_n hx hb d_law_law_208 rfl (lv_at hl 0 rfl) ?_
    refine lv_iload_n hx hb d_law_law_209 rfl (lv_at hl 3 rfl) ?_
    refine lv_iconst (v := 2) hx hb d_law_law_210 (by decide) ?_
    refine lv_iadd hx hb d_law_law_211 ?_
    refine va_sld hx hb hX hbl hbA hS (s_in (j := 2) e3 hk8 hL rfl (by decide)) d_law_law_212 ?_
    refine lv_aload_n hx hb d_law_law_213 rfl (lv_at hl 0 rfl) ?_
    refine lv_iload_n hx hb d_law_law_214 rfl (lv_at hl 3 rfl) ?_
    refine lv_iconst (v := 3) hx hb d_law_law_215 (by decide) ?_
    refine lv_iadd hx hb d_law_law_216 ?_
    refine va_sld hx hb hX hbl hbA hS (s_in (j := 3) e3 hk8 hL rfl (by decide)) d_law_law_217 ?_
    refine lv_aload_n hx hb d_law_law_218 rfl (lv_at hl 0 rfl) ?_
    refine lv_iload_n hx hb d_law_law_219 rfl (lv_at hl 3 rfl) ?_
    refine lv_iconst (v := 4) hx hb d_law_law_220 (by decide) ?_
    refine lv_iadd hx hb d_law_law_221 ?_
    refine va_sld hx hb hX hbl hbA hS (s_in (j := 4) e3 hk8 hL rfl (by decide)) d_law_law_222 ?_
    refine lv_aload_n hx hb d_law_law_223 rfl (lv_at hl 0 rfl) ?_
    refine lv_iload_n hx hb d_law_law_224 rfl (lv_at hl 3 rfl) ?_
    refine lv_iconst (v := 5) hx hb d_law_law_225 (by decide) ?_
    refine lv_iadd hx hb d_law_law_226 ?_
    refine va_sld hx hb hX hbl hbA hS (s_in (j := 5) e3 hk8 hL rfl (by decide)) d_law_law_227 ?_
    refine lv_aload_n hx hb d_law_law_228 rfl (lv_at hl 0 rfl) ?_
    refine lv_iload_n hx hb d_law_law_229 rfl (lv_at hl 3 rfl) ?_
    refine lv_bipush (v := 6) hx hb d_law_law_230 (by decide) ?_
    refine lv_iadd hx hb d_law_law_232 ?_
    refine va_sld hx hb hX hbl hbA hS (s_in (j := 6) e3 hk8 hL rfl (by decide)) d_law_law_233 ?_
    refine lv_aload_n hx hb d_law_law_234 rfl (lv_at hl 0 rfl) ?_
    refine lv_iload_n hx hb d_law_law_235 rfl (lv_at hl 3 rfl) ?_
    refine lv_bipush (v := 7) hx hb d_law_law_236 (by decide) ?_
    refine lv_iadd hx hb d_law_law_238 ?_
    refine va_sld hx hb hX hbl hbA hS (s_in (j := 7) e3 hk8 hL rfl (by decide)) d_law_law_239 ?_
    refine lv_if_eq (tgt := 247) hx hb d_law_law_240 (by decide) (fun c_240 => ?_) (fun c_240 => ?_)
    · refine lv_iconst (v := 0) hx hb d_law_law_247 (by decide) ?_
      obtain ⟨r2, Y2, e2⟩ : ∃ r Y, (sM_add (th M) (xs (ix (x3 + 1))) (xs (ix (x3 + 2))) (xs (ix (x3 + 3))) (xs (ix (x3 + 4))) (xs (ix (x3 + 5))) (xs (ix (x3 + 6))) 0) = (r, Y) := ⟨_, _, Prod.eta _ |>.symm⟩
      refine cVR (wl := wC cA h Rw Y1) (Wf := wM cA g) (X := M) (rr := r2) (X' := Y2) (c_M_add l D cA g M (xs (ix (x3 + 1))) (xs (ix (x3 + 2))) (xs (ix (x3 + 3))) (xs (ix (x3 + 4))) (xs (ix (x3 + 5))) (xs (ix (x3 + 6))) 0 ) lk_law_22 hx hb hml hown hts hKK hP hD hS hA hl.1 0 rfl rfl rfl ⟨by decide, by decide⟩ ⟨Nat.le_refl _, Nat.le_refl _⟩ e2 wM_adr rfl (Nat.le_of_ble_eq_true rfl) d_law_law_248 (fun H locs hP hD hS => ?_)
      have hp := P_add (xs (ix (x3 + 1))) (xs (ix (x3 + 2))) (xs (ix (x3 + 3))) (xs (ix (x3 + 4))) (xs (ix (x3 + 5))) (xs (ix (x3 + 6))) 0 hI.th
      rw [e1, e2] at hp
      refine lv_icmp_eq (tgt := 702) hx hb d_law_law_251 (by decide) (fun c_251 => ?_) (fun c_251 => ?_)
      · exact kk _ _ _ _ _ hp.2 hP hD hS
      · exact absurd hp.1 c_251
    · exact absurd c_191 c_240
  · refine lv_iconst (v := 1) hx hb d_law_law_194 (by decide) ?_
    refine lv_goto (tgt := 199) hx hb d_law_law_195 (by decide) ?_
    obtain ⟨r1, Y1, e1⟩ : ∃ r Y, (sL_add X (xs (ix (x3 + 1))) (xs (ix (x3 + 2))) (xs (ix (x3 + 3))) (xs (ix (x3 + 4))) (xs (ix (x3 + 5))) (xs (ix (x3 + 6))) 1) = (r, Y) := ⟨_, _, Prod.eta _ |>.symm⟩
    refine cVL (Wf := wC cA h Rw) (X := X) (rr := r1) (X' := Y1) (c_C_add l D cA h Rw X (xs (ix (x3 + 1))) (xs (ix (x3 + 2))) (xs (ix (x3 + 3))) (xs (ix (x3 + 4))) (xs (ix (x3 + 5))) (xs (ix (x3 + 6))) 1 ) lk_law_18 hx hb hml hown hts hKK hP hD hS hA hl.1 0 rfl rfl rfl ⟨by decide, by decide⟩ ⟨Nat.le_refl _, Nat.le_refl _⟩ e1 wC_adr rfl (Nat.le_of_ble_eq_true rfl) d_law_law_199 (fun H locs hP hD hS => ?_)
    refine lv_aload_n hx hb d_law_law_202 rfl (lv_at hl 2 rfl) ?_
    refine lv_aload_n hx hb d_law_law_203 rfl (lv_at hl 0 rfl) ?_
    refine lv_iload_n hx hb d_law_law_204 rfl (lv_at hl 3 rfl) ?_
    refine lv_iconst (v := 1) hx hb d_law_law_205 (by decide) ?_
    refine lv_iadd hx hb d_law_law_206 ?_
    refine va_sld hx hb hX hbl hbA hS (s_in (j := 1) e3 hk8 hL rfl (by decide)) d_law_law_207 ?_
    refine lv_aload_n hx hb d_law_law_208 rfl (lv_at hl 0 rfl) ?_
    refine lv_iload_n hx hb d_law_law_209 rfl (lv_at hl 3 rfl) ?_
    refine lv_iconst (v := 2) hx hb d_law_law_210 (by decide) ?_
    refine lv_iadd hx hb d_law_law_211 ?_
    refine va_sld hx hb hX hbl hbA hS (s_in (j := 2) e3 hk8 hL rfl (by decide)) d_law_law_212 ?_
    refine lv_aload_n hx hb d_law_law_213 rfl (lv_at hl 0 rfl) ?_
    refine lv_iload_n hx hb d_law_law_214 rfl (lv_at hl 3 rfl) ?_
    refine lv_iconst (v := 3) hx hb d_law_law_215 (by decide) ?_
    refine lv_iadd hx hb d_law_law_216 ?_
    refine va_sld hx hb hX hbl hbA hS (s_in (j := 3) e3 hk8 hL rfl (by decide)) d_law_law_217 ?_
    refine lv_aload_n hx hb d_law_law_218 rfl (lv_at hl 0 rfl) ?_
    refine lv_iload_n hx hb d_law_law_219 rfl (lv_at hl 3 rfl) ?_
    refine lv_iconst (v := 4) hx hb d_law_law_220 (by decide) ?_
    refine lv_iadd hx hb d_law_law_221 ?_
    refine va_sld hx hb hX hbl hbA hS (s_in (j := 4) e3 hk8 hL rfl (by decide)) d_law_law_222 ?_
    refine lv_aload_n hx hb d_law_law_223 rfl (lv_at hl 0 rfl) ?_
    refine lv_iload_n hx hb d_law_law_224 rfl (lv_at hl 3 rfl) ?_
    refine lv_iconst (v := 5) hx hb d_law_law_225 (by decide) ?_
    refine lv_iadd hx hb d_law_law_226 ?_
    refine va_sld hx hb hX hbl hbA hS (s_in (j := 5) e3 hk8 hL rfl (by decide)) d_law_law_227 ?_
    refine lv_aload_n hx hb d_law_law_228 rfl (lv_at hl 0 rfl) ?_
    refine lv_iload_n hx hb d_law_law_229 rfl (lv_at hl 3 rfl) ?_
    refine lv_bipush (v := 6) hx hb d_law_law_230 (by decide) ?_
    refine lv_iadd hx hb d_law_law_232 ?_
    refine va_sld hx hb hX hbl hbA hS (s_in (j := 6) e3 hk8 hL rfl (by decide)) d_law_law_233 ?_
    refine lv_aload_n hx hb d_law_law_234 rfl (lv_at hl 0 rfl) ?_
    refine lv_iload_n hx hb d_law_law_235 rfl (lv_at hl 3 rfl) ?_
    refine lv_bipush (v := 7) hx hb d_law_law_236 (by decide) ?_
    refine lv_iadd hx hb d_law_law_238 ?_
    refine va_sld hx hb hX hbl hbA hS (s_in (j := 7) e3 hk8 hL rfl (by decide)) d_law_law_239 ?_
    refine lv_if_eq (tgt := 247) hx hb d_law_law_240 (by decide) (fun c_240 => ?_) (fun c_240 => ?_)
    · exact absurd c_240 c_191
    · refine lv_iconst (v := 1) hx hb d_law_law_243 (by decide) ?_
      refine lv_goto (tgt := 248) hx hb d_law_law_244 (by decide) ?_
      obtain ⟨r2, Y2, e2⟩ : ∃ r Y, (sM_add (th M) (xs (ix (x3 + 1))) (xs (ix (x3 + 2))) (xs (ix (x3 + 3))) (xs (ix (x3 + 4))) (xs (ix (x3 + 5))) (xs (ix (x3 + 6))) 1) = (r, Y) := ⟨_, _, Prod.eta _ |>.symm⟩
      refine cVR (wl := wC cA h Rw Y1) (Wf := wM cA g) (X := M) (rr := r2) (X' := Y2) (c_M_add l D cA g M (xs (ix (x3 + 1))) (xs (ix (x3 + 2))) (xs (ix (x3 + 3))) (xs (ix (x3 + 4))) (xs (ix (x3 + 5))) (xs (ix (x3 + 6))) 1 ) lk_law_22 hx hb hml hown hts hKK hP hD hS hA hl.1 0 rfl rfl rfl ⟨by decide, by decide⟩ ⟨Nat.le_refl _, Nat.le_refl _⟩ e2 wM_adr rfl (Nat.le_of_ble_eq_true rfl) d_law_law_248 (fun H locs hP hD hS => ?_)
      have hp := P_add (xs (ix (x3 + 1))) (xs (ix (x3 + 2))) (xs (ix (x3 + 3))) (xs (ix (x3 + 4))) (xs (ix (x3 + 5))) (xs (ix (x3 + 6))) 1 hI.th
      rw [e1, e2] at hp
      refine lv_icmp_eq (tgt := 702) hx hb d_law_law_251 (by decide) (fun c_251 => ?_) (fun c_251 => ?_)
      · exact kk _ _ _ _ _ hp.2 hP hD hS
      · exact absurd hp.1 c_251
set_option maxHeartbeats 4000000 in
set_option maxRecDepth 100000 in
/-- case 2: remove -/
theorem lc_2 {p : Program} {l : Launch} {e : Env} {s : State} {m : MethodId} {below : List Frame} {meth : Method} {c : Code} {Q : State → Prop} {D : va_G} {cA : Nat → ClassId} {b L : Nat} {xs : Nat → Int32} (C0 : LC p s m c D cA b L xs) {h g : Nat → Nat} {X Rw M : Sg} {H : Heap} {locs : List Loc} {ls : Array Slot} {x3 : Int32} {k : Nat} (e3 : x3 = nI k) (hk8 : k + 8 ≤ L) (hL : L ≤ 4096) (hI : Inv X Rw M) (hP : va_P D classes (wC cA h Rw X ++ wM cA g M) H) (hD : va_D (fun q : Nat => s.heap.size ≤ q) (wC cA h Rw X ++ wM cA g M)) (hS : va_S (fun q : Nat => s.heap.size ≤ q) s.heap H locs) (hl : lv_has ls 4 [(0, .ref b), (1, .ref (h 0)), (2, .ref (g 0)), (3, .int x3)])
    (kk : ∀ (X' Rw' M' : Sg) (H' : Heap) (locs' : List Loc), Inv X' Rw' M' → va_P D classes (wC cA h Rw' X' ++ wM cA g M') H' → va_D (fun q : Nat => s.heap.size ≤ q) (wC cA h Rw' X' ++ wM cA g M') → va_S (fun q : Nat => s.heap.size ≤ q) s.heap H' locs' → W p l e room_1 s m #[Value.ref b] below meth c H' locs' 600000 7302250 Q (F0 m 702 ls [])) :
    W p l e room_1 s m #[Value.ref b] below meth c H locs 600000 7302250 Q (F0 m 256 ls []) := by
  obtain ⟨hx, hb, hml, hown, hts, hKK, hX, hbl⟩ := C0
  have hA : ∀ q : Nat, s.heap.size ≤ q → (fun q : Nat => s.heap.size ≤ q) q := fun _ h => h
  have hbA : ¬ (fun q : Nat => s.heap.size ≤ q) b := Nat.not_le.mpr hbl
  refine lv_aload_n hx hb d_law_law_256 rfl (lv_at hl 1 rfl) ?_
  refine lv_aload_n hx hb d_law_law_257 rfl (lv_at hl 0 rfl) ?_
  refine lv_iload_n hx hb d_law_law_258 rfl (lv_at hl 3 rfl) ?_
  refine lv_iconst (v := 1) hx hb d_law_law_259 (by decide) ?_
  refine lv_iadd hx hb d_law_law_260 ?_
  refine va_sld hx hb hX hbl hbA hS (s_in (j := 1) e3 hk8 hL rfl (by decide)) d_law_law_261 ?_
  obtain ⟨r1, Y1, e1⟩ : ∃ r Y, (sL_remove X (xs (ix (x3 + 1)))) = (r, Y) := ⟨_, _, Prod.eta _ |>.symm⟩
  refine cVL (Wf := wC cA h Rw) (X := X) (rr := r1) (X' := Y1) (c_C_remove l D cA h Rw X (xs (ix (x3 + 1))) ) lk_law_23 hx hb hml hown hts hKK hP hD hS hA hl.1 0 rfl rfl rfl ⟨by decide, by decide⟩ ⟨Nat.le_refl _, Nat.le_refl _⟩ e1 wC_adr rfl (Nat.le_of_ble_eq_true rfl) d_law_law_262 (fun H locs hP hD hS => ?_)
  refine lv_aload_n hx hb d_law_law_265 rfl (lv_at hl 2 rfl) ?_
  refine lv_aload_n hx hb d_law_law_266 rfl (lv_at hl 0 rfl) ?_
  refine lv_iload_n hx hb d_law_law_267 rfl (lv_at hl 3 rfl) ?_
  refine lv_iconst (v := 1) hx hb d_law_law_268 (by decide) ?_
  refine lv_iadd hx hb d_law_law_269 ?_
  refine va_sld hx hb hX hbl hbA hS (s_in (j := 1) e3 hk8 hL rfl (by decide)) d_law_law_270 ?_
  obtain ⟨r2, Y2, e2⟩ : ∃ r Y, (sM_remove (th M) (xs (ix (x3 + 1)))) = (r, Y) := ⟨_, _, Prod.eta _ |>.symm⟩
  refine cVR (wl := wC cA h Rw Y1) (Wf := wM cA g) (X := M) (rr := r2) (X' := Y2) (c_M_remove l D cA g M (xs (ix (x3 + 1))) ) lk_law_27 hx hb hml hown hts hKK hP hD hS hA hl.1 0 rfl rfl rfl ⟨by decide, by decide⟩ ⟨Nat.le_refl _, Nat.le_refl _⟩ e2 wM_adr rfl (Nat.le_of_ble_eq_true rfl) d_law_law_271 (fun H locs hP hD hS => ?_)
  have hp := P_remove (xs (ix (x3 + 1))) hI.th
  rw [e1, e2] at hp
  refine lv_icmp_eq (tgt := 702) hx hb d_law_law_274 (by decide) (fun c_274 => ?_) (fun c_274 => ?_)
  · exact kk _ _ _ _ _ hp.2 hP hD hS
  · exact absurd hp.1 c_274
set_option maxHeartbeats 4000000 in
set_option maxRecDepth 100000 in
/-- case 3: enable -/
theorem lc_3 {p : Program} {l : Launch} {e : Env} {s : State} {m : MethodId} {below : List Frame} {meth : Method} {c : Code} {Q : State → Prop} {D : va_G} {cA : Nat → ClassId} {b L : Nat} {xs : Nat → Int32} (C0 : LC p s m c D cA b L xs) {h g : Nat → Nat} {X Rw M : Sg} {H : Heap} {locs : List Loc} {ls : Array Slot} {x3 : Int32} {k : Nat} (e3 : x3 = nI k) (hk8 : k + 8 ≤ L) (hL : L ≤ 4096) (hI : Inv X Rw M) (hP : va_P D classes (wC cA h Rw X ++ wM cA g M) H) (hD : va_D (fun q : Nat => s.heap.size ≤ q) (wC cA h Rw X ++ wM cA g M)) (hS : va_S (fun q : Nat => s.heap.size ≤ q) s.heap H locs) (hl : lv_has ls 4 [(0, .ref b), (1, .ref (h 0)), (2, .ref (g 0)), (3, .int x3)])
    (kk : ∀ (X' Rw' M' : Sg) (H' : Heap) (locs' : List Loc), Inv X' Rw' M' → va_P D classes (wC cA h Rw' X' ++ wM cA g M') H' → va_D (fun q : Nat => s.heap.size ≤ q) (wC cA h Rw' X' ++ wM cA g M') → va_S (fun q : Nat => s.heap.size ≤ q) s.heap H' locs' → W p l e room_1 s m #[Value.ref b] below meth c H' locs' 600000 7302250 Q (F0 m 702 ls [])) :
    W p l e room_1 s m #[Value.ref b] below meth c H locs 600000 7302250 Q (F0 m 279 ls []) := by
  obtain ⟨hx, hb, hml, hown, hts, hKK, hX, hbl⟩ := C0
  have hA : ∀ q : Nat, s.heap.size ≤ q → (fun q : Nat => s.heap.size ≤ q) q := fun _ h => h
  have hbA : ¬ (fun q : Nat => s.heap.size ≤ q) b := Nat.not_le.mpr hbl
  refine lv_aload_n hx hb d_law_law_279 rfl (lv_at hl 1 rfl) ?_
  refine lv_aload_n hx hb d_law_law_280 rfl (lv_at hl 0 rfl) ?_
  refine lv_iload_n hx hb d_law_law_281 rfl (lv_at hl 3 rfl) ?_
  refine lv_iconst (v := 1) hx hb d_law_law_282 (by decide) ?_
  refine lv_iadd hx hb d_law_law_283 ?_
  refine va_sld hx hb hX hbl hbA hS (s_in (j := 1) e3 hk8 hL rfl (by decide)) d_law_law_284 ?_
  refine lv_aload_n hx hb d_law_law_285 rfl (lv_at hl 0 rfl) ?_
  refine lv_iload_n hx hb d_law_law_286 rfl (lv_at hl 3 rfl) ?_
  refine lv_iconst (v := 2) hx hb d_law_law_287 (by decide) ?_
  refine lv_iadd hx hb d_law_law_288 ?_
  refine va_sld hx hb hX hbl hbA hS (s_in (j := 2) e3 hk8 hL rfl (by decide)) d_law_law_289 ?_
  refine lv_if_eq (tgt := 297) hx hb d_law_law_290 (by decide) (fun c_290 => ?_) (fun c_290 => ?_)
  · refine lv_iconst (v := 0) hx hb d_law_law_297 (by decide) ?_
    obtain ⟨r1, Y1, e1⟩ : ∃ r Y, (sL_enable X (xs (ix (x3 + 1))) 0) = (r, Y) := ⟨_, _, Prod.eta _ |>.symm⟩
    refine cVL (Wf := wC cA h Rw) (X := X) (rr := r1) (X' := Y1) (c_C_enable l D cA h Rw X (xs (ix (x3 + 1))) 0 ) lk_law_28 hx hb hml hown hts hKK hP hD hS hA hl.1 0 rfl rfl rfl ⟨by decide, by decide⟩ ⟨Nat.le_refl _, Nat.le_refl _⟩ e1 wC_adr rfl (Nat.le_of_ble_eq_true rfl) d_law_law_298 (fun H locs hP hD hS => ?_)
    refine lv_aload_n hx hb d_law_law_301 rfl (lv_at hl 2 rfl) ?_
    refine lv_aload_n hx hb d_law_law_302 rfl (lv_at hl 0 rfl) ?_
    refine lv_iload_n hx hb d_law_law_303 rfl (lv_at hl 3 rfl) ?_
    refine lv_iconst (v := 1) hx hb d_law_law_304 (by decide) ?_
    refine lv_iadd hx hb d_law_law_305 ?_
    refine va_sld hx hb hX hbl hbA hS (s_in (j := 1) e3 hk8 hL rfl (by decide)) d_law_law_306 ?_
    refine lv_aload_n hx hb d_law_law_307 rfl (lv_at hl 0 rfl) ?_
    refine lv_iload_n hx hb d_law_law_308 rfl (lv_at hl 3 rfl) ?_
    refine lv_iconst (v := 2) hx hb d_law_law_309 (by decide) ?_
    refine lv_iadd hx hb d_law_law_310 ?_
    refine va_sld hx hb hX hbl hbA hS (s_in (j := 2) e3 hk8 hL rfl (by decide)) d_law_law_311 ?_
    refine lv_if_eq (tgt := 319) hx hb d_law_law_312 (by decide) (fun c_312 => ?_) (fun c_312 => ?_)
    · refine lv_iconst (v := 0) hx hb d_law_law_319 (by decide) ?_
      obtain ⟨r2, Y2, e2⟩ : ∃ r Y, (sM_enable (th M) (xs (ix (x3 + 1))) 0) = (r, Y) := ⟨_, _, Prod.eta _ |>.symm⟩
      refine cVR (wl := wC cA h Rw Y1) (Wf := wM cA g) (X := M) (rr := r2) (X' := Y2) (c_M_enable l D cA g M (xs (ix (x3 + 1))) 0 ) lk_law_32 hx hb hml hown hts hKK hP hD hS hA hl.1 0 rfl rfl rfl ⟨by decide, by decide⟩ ⟨Nat.le_refl _, Nat.le_refl _⟩ e2 wM_adr rfl (Nat.le_of_ble_eq_true rfl) d_law_law_320 (fun H locs hP hD hS => ?_)
      have hp := P_enable (xs (ix (x3 + 1))) 0 hI.th
      rw [e1, e2] at hp
      refine lv_icmp_eq (tgt := 702) hx hb d_law_law_323 (by decide) (fun c_323 => ?_) (fun c_323 => ?_)
      · exact kk _ _ _ _ _ hp.2 hP hD hS
      · exact absurd hp.1 c_323
    · exact absurd c_290 c_312
  · refine lv_iconst (v := 1) hx hb d_law_law_293 (by decide) ?_
    refine lv_goto (tgt := 298) hx hb d_law_law_294 (by decide) ?_
    obtain ⟨r1, Y1, e1⟩ : ∃ r Y, (sL_enable X (xs (ix (x3 + 1))) 1) = (r, Y) := ⟨_, _, Prod.eta _ |>.symm⟩
    refine cVL (Wf := wC cA h Rw) (X := X) (rr := r1) (X' := Y1) (c_C_enable l D cA h Rw X (xs (ix (x3 + 1))) 1 ) lk_law_28 hx hb hml hown hts hKK hP hD hS hA hl.1 0 rfl rfl rfl ⟨by decide, by decide⟩ ⟨Nat.le_refl _, Nat.le_refl _⟩ e1 wC_adr rfl (Nat.le_of_ble_eq_true rfl) d_law_law_298 (fun H locs hP hD hS => ?_)
    refine lv_aload_n hx hb d_law_law_301 rfl (lv_at hl 2 rfl) ?_
    refine lv_aload_n hx hb d_law_law_302 rfl (lv_at hl 0 rfl) ?_
    refine lv_iload_n hx hb d_law_law_303 rfl (lv_at hl 3 rfl) ?_
    refine lv_iconst (v := 1) hx hb d_law_law_304 (by decide) ?_
    refine lv_iadd hx hb d_law_law_305 ?_
    refine va_sld hx hb hX hbl hbA hS (s_in (j := 1) e3 hk8 hL rfl (by decide)) d_law_law_306 ?_
    refine lv_aload_n hx hb d_law_law_307 rfl (lv_at hl 0 rfl) ?_
    refine lv_iload_n hx hb d_law_law_308 rfl (lv_at hl 3 rfl) ?_
    refine lv_iconst (v := 2) hx hb d_law_law_309 (by decide) ?_
    refine lv_iadd hx hb d_law_law_310 ?_
    refine va_sld hx hb hX hbl hbA hS (s_in (j := 2) e3 hk8 hL rfl (by decide)) d_law_law_311 ?_
    refine lv_if_eq (tgt := 319) hx hb d_law_law_312 (by decide) (fun c_312 => ?_) (fun c_312 => ?_)
    · exact absurd c_312 c_290
    · refine lv_iconst (v := 1) hx hb d_law_law_315 (by decide) ?_
      refine lv_goto (tgt := 320) hx hb d_law_law_316 (by decide) ?_
      obtain ⟨r2, Y2, e2⟩ : ∃ r Y, (sM_enable (th M) (xs (ix (x3 + 1))) 1) = (r, Y) := ⟨_, _, Prod.eta _ |>.symm⟩
      refine cVR (wl := wC cA h Rw Y1) (Wf := wM cA g) (X := M) (rr := r2) (X' := Y2) (c_M_enable l D cA g M (xs (ix (x3 + 1))) 1 ) lk_law_32 hx hb hml hown hts hKK hP hD hS hA hl.1 0 rfl rfl rfl ⟨by decide, by decide⟩ ⟨Nat.le_refl _, Nat.le_refl _⟩ e2 wM_adr rfl (Nat.le_of_ble_eq_true rfl) d_law_law_320 (fun H locs hP hD hS => ?_)
      have hp := P_enable (xs (ix (x3 + 1))) 1 hI.th
      rw [e1, e2] at hp
      refine lv_icmp_eq (tgt := 702) hx hb d_law_law_323 (by decide) (fun c_323 => ?_) (fun c_323 => ?_)
      · exact kk _ _ _ _ _ hp.2 hP hD hS
      · exact absurd hp.1 c_323
set_option maxHeartbeats 4000000 in
set_option maxRecDepth 100000 in
/-- case 4: watch -/
theorem lc_4 {p : Program} {l : Launch} {e : Env} {s : State} {m : MethodId} {below : List Frame} {meth : Method} {c : Code} {Q : State → Prop} {D : va_G} {cA : Nat → ClassId} {b L : Nat} {xs : Nat → Int32} (C0 : LC p s m c D cA b L xs) {h g : Nat → Nat} {X Rw M : Sg} {H : Heap} {locs : List Loc} {ls : Array Slot} {x3 : Int32} {k : Nat} (e3 : x3 = nI k) (hk8 : k + 8 ≤ L) (hL : L ≤ 4096) (hI : Inv X Rw M) (hP : va_P D classes (wC cA h Rw X ++ wM cA g M) H) (hD : va_D (fun q : Nat => s.heap.size ≤ q) (wC cA h Rw X ++ wM cA g M)) (hS : va_S (fun q : Nat => s.heap.size ≤ q) s.heap H locs) (hl : lv_has ls 4 [(0, .ref b), (1, .ref (h 0)), (2, .ref (g 0)), (3, .int x3)])
    (kk : ∀ (X' Rw' M' : Sg) (H' : Heap) (locs' : List Loc), Inv X' Rw' M' → va_P D classes (wC cA h Rw' X' ++ wM cA g M') H' → va_D (fun q : Nat => s.heap.size ≤ q) (wC cA h Rw' X' ++ wM cA g M') → va_S (fun q : Nat => s.heap.size ≤ q) s.heap H' locs' → W p l e room_1 s m #[Value.ref b] below meth c H' locs' 600000 7302250 Q (F0 m 702 ls [])) :
    W p l e room_1 s m #[Value.ref b] below meth c H locs 600000 7302250 Q (F0 m 328 ls []) := by
  obtain ⟨hx, hb, hml, hown, hts, hKK, hX, hbl⟩ := C0
  have hA : ∀ q : Nat, s.heap.size ≤ q → (fun q : Nat => s.heap.size ≤ q) q := fun _ h => h
  have hbA : ¬ (fun q : Nat => s.heap.size ≤ q) b := Nat.not_le.mpr hbl
  refine lv_aload_n hx hb d_law_law_328 rfl (lv_at hl 1 rfl) ?_
  obtain ⟨r1, Y1, e1⟩ : ∃ r Y, (sC_watch X) = (r, Y) := ⟨_, _, Prod.eta _ |>.symm⟩
  refine cVL (Wf := wC cA h Rw) (X := X) (rr := r1) (X' := Y1) (c_C_watch l D cA h Rw X  (fun k _ => W_par hI k) (fun k _ => W_ring hI k) (W_link hI)) lk_law_33 hx hb hml hown hts hKK hP hD hS hA hl.1 0 rfl rfl rfl ⟨by decide, by decide⟩ ⟨Nat.le_refl _, Nat.le_refl _⟩ e1 wC_adr rfl (Nat.le_of_ble_eq_true rfl) d_law_law_329 (fun H locs hP hD hS => ?_)
  refine lv_aload_n hx hb d_law_law_332 rfl (lv_at hl 2 rfl) ?_
  obtain ⟨r2, Y2, e2⟩ : ∃ r Y, (sM_watch (th M)) = (r, Y) := ⟨_, _, Prod.eta _ |>.symm⟩
  refine cVR (wl := wC cA h Rw Y1) (Wf := wM cA g) (X := M) (rr := r2) (X' := Y2) (c_M_watch l D cA g M  (fun k _ => W_parM hI.th k) (fun k _ => W_wait hI.th k)) lk_law_37 hx hb hml hown hts hKK hP hD hS hA hl.1 0 rfl rfl rfl ⟨by decide, by decide⟩ ⟨Nat.le_refl _, Nat.le_refl _⟩ e2 wM_adr rfl (Nat.le_of_ble_eq_true rfl) d_law_law_333 (fun H locs hP hD hS => ?_)
  have hp := P_watch  hI.th
  rw [e1, e2] at hp
  refine lv_icmp_eq (tgt := 702) hx hb d_law_law_336 (by decide) (fun c_336 => ?_) (fun c_336 => ?_)
  · exact kk _ _ _ _ _ hp.2 hP hD hS
  · exact absurd hp.1 c_336
set_option maxHeartbeats 4000000 in
set_option maxRecDepth 100000 in
/-- case 5: linked -/
theorem lc_5 {p : Program} {l : Launch} {e : Env} {s : State} {m : MethodId} {below : List Frame} {meth : Method} {c : Code} {Q : State → Prop} {D : va_G} {cA : Nat → ClassId} {b L : Nat} {xs : Nat → Int32} (C0 : LC p s m c D cA b L xs) {h g : Nat → Nat} {X Rw M : Sg} {H : Heap} {locs : List Loc} {ls : Array Slot} {x3 : Int32} {k : Nat} (e3 : x3 = nI k) (hk8 : k + 8 ≤ L) (hL : L ≤ 4096) (hI : Inv X Rw M) (hP : va_P D classes (wC cA h Rw X ++ wM cA g M) H) (hD : va_D (fun q : Nat => s.heap.size ≤ q) (wC cA h Rw X ++ wM cA g M)) (hS : va_S (fun q : Nat => s.heap.size ≤ q) s.heap H locs) (hl : lv_has ls 4 [(0, .ref b), (1, .ref (h 0)), (2, .ref (g 0)), (3, .int x3)])
    (kk : ∀ (X' Rw' M' : Sg) (H' : Heap) (locs' : List Loc), Inv X' Rw' M' → va_P D classes (wC cA h Rw' X' ++ wM cA g M') H' → va_D (fun q : Nat => s.heap.size ≤ q) (wC cA h Rw' X' ++ wM cA g M') → va_S (fun q : Nat => s.heap.size ≤ q) s.heap H' locs' → W p l e room_1 s m #[Value.ref b] below meth c H' locs' 600000 7302250 Q (F0 m 702 ls [])) :
    W p l e room_1 s m #[Value.ref b] below meth c H locs 600000 7302250 Q (F0 m 341 ls []) := by
  obtain ⟨hx, hb, hml, hown, hts, hKK, hX, hbl⟩ := C0
  have hA : ∀ q : Nat, s.heap.size ≤ q → (fun q : Nat => s.heap.size ≤ q) q := fun _ h => h
  have hbA : ¬ (fun q : Nat => s.heap.size ≤ q) b := Nat.not_le.mpr hbl
  have hzC : isZ (X 0 6) := hI.1.2.2.2
  have hzM : isZ (M 0 12) := by rw [← hI.1.2.2.1]; exact hzC
  refine lv_aload_n hx hb d_law_law_341 rfl (lv_at hl 1 rfl) ?_
  obtain ⟨r1, Y1, e1⟩ : ∃ r Y, ((X 0 6, X) : Int32 × Sg) = (r, Y) := ⟨_, _, Prod.eta _ |>.symm⟩
  refine cVL (Wf := wC cA h Rw) (X := X) (rr := r1) (X' := Y1) (c_C_linked l D cA h Rw X  hzC) lk_law_38 hx hb hml hown hts hKK hP hD hS hA hl.1 0 rfl rfl rfl ⟨by decide, by decide⟩ ⟨Nat.le_refl _, Nat.le_refl _⟩ e1 wC_adr rfl (Nat.le_of_ble_eq_true rfl) d_law_law_342 (fun H locs hP hD hS => ?_)
  refine lv_aload_n hx hb d_law_law_345 rfl (lv_at hl 2 rfl) ?_
  obtain ⟨r2, Y2, e2⟩ : ∃ r Y, (((th M) 0 12, th M) : Int32 × Sg) = (r, Y) := ⟨_, _, Prod.eta _ |>.symm⟩
  refine cVR (wl := wC cA h Rw Y1) (Wf := wM cA g) (X := M) (rr := r2) (X' := Y2) (c_M_linked l D cA g M  hzM) lk_law_42 hx hb hml hown hts hKK hP hD hS hA hl.1 0 rfl rfl rfl ⟨by decide, by decide⟩ ⟨Nat.le_refl _, Nat.le_refl _⟩ e2 wM_adr rfl (Nat.le_of_ble_eq_true rfl) d_law_law_346 (fun H locs hP hD hS => ?_)
  obtain ⟨rfl, rfl⟩ := Prod.mk.inj e1
  obtain ⟨rfl, rfl⟩ := Prod.mk.inj e2
  have hp : X 0 6 = (th M) 0 12 ∧ Inv X Rw (th M) := ⟨hI.1.2.2.1, hI.th⟩
  refine lv_icmp_eq (tgt := 702) hx hb d_law_law_349 (by decide) (fun c_349 => ?_) (fun c_349 => ?_)
  · exact kk _ _ _ _ _ hp.2 hP hD hS
  · exact absurd hp.1 c_349
set_option maxHeartbeats 4000000 in
set_option maxRecDepth 100000 in
/-- case 6: raise -/
theorem lc_6 {p : Program} {l : Launch} {e : Env} {s : State} {m : MethodId} {below : List Frame} {meth : Method} {c : Code} {Q : State → Prop} {D : va_G} {cA : Nat → ClassId} {b L : Nat} {xs : Nat → Int32} (C0 : LC p s m c D cA b L xs) {h g : Nat → Nat} {X Rw M : Sg} {H : Heap} {locs : List Loc} {ls : Array Slot} {x3 : Int32} {k : Nat} (e3 : x3 = nI k) (hk8 : k + 8 ≤ L) (hL : L ≤ 4096) (hI : Inv X Rw M) (hP : va_P D classes (wC cA h Rw X ++ wM cA g M) H) (hD : va_D (fun q : Nat => s.heap.size ≤ q) (wC cA h Rw X ++ wM cA g M)) (hS : va_S (fun q : Nat => s.heap.size ≤ q) s.heap H locs) (hl : lv_has ls 4 [(0, .ref b), (1, .ref (h 0)), (2, .ref (g 0)), (3, .int x3)])
    (kk : ∀ (X' Rw' M' : Sg) (H' : Heap) (locs' : List Loc), Inv X' Rw' M' → va_P D classes (wC cA h Rw' X' ++ wM cA g M') H' → va_D (fun q : Nat => s.heap.size ≤ q) (wC cA h Rw' X' ++ wM cA g M') → va_S (fun q : Nat => s.heap.size ≤ q) s.heap H' locs' → W p l e room_1 s m #[Value.ref b] below meth c H' locs' 600000 7302250 Q (F0 m 702 ls [])) :
    W p l e room_1 s m #[Value.ref b] below meth c H locs 600000 7302250 Q (F0 m 354 ls []) := by
  obtain ⟨hx, hb, hml, hown, hts, hKK, hX, hbl⟩ := C0
  have hA : ∀ q : Nat, s.heap.size ≤ q → (fun q : Nat => s.heap.size ≤ q) q := fun _ h => h
  have hbA : ¬ (fun q : Nat => s.heap.size ≤ q) b := Nat.not_le.mpr hbl
  refine lv_aload_n hx hb d_law_law_354 rfl (lv_at hl 1 rfl) ?_
  refine lv_aload_n hx hb d_law_law_355 rfl (lv_at hl 0 rfl) ?_
  refine lv_iload_n hx hb d_law_law_356 rfl (lv_at hl 3 rfl) ?_
  refine lv_iconst (v := 1) hx hb d_law_law_357 (by decide) ?_
  refine lv_iadd hx hb d_law_law_358 ?_
  refine va_sld hx hb hX hbl hbA hS (s_in (j := 1) e3 hk8 hL rfl (by decide)) d_law_law_359 ?_
  refine lv_aload_n hx hb d_law_law_360 rfl (lv_at hl 0 rfl) ?_
  refine lv_iload_n hx hb d_law_law_361 rfl (lv_at hl 3 rfl) ?_
  refine lv_iconst (v := 2) hx hb d_law_law_362 (by decide) ?_
  refine lv_iadd hx hb d_law_law_363 ?_
  refine va_sld hx hb hX hbl hbA hS (s_in (j := 2) e3 hk8 hL rfl (by decide)) d_law_law_364 ?_
  obtain ⟨r1, Y1, e1⟩ : ∃ r Y, (sC_raise X (xs (ix (x3 + 1))) (xs (ix (x3 + 2)))) = (r, Y) := ⟨_, _, Prod.eta _ |>.symm⟩
  refine cVL (Wf := wC cA h Rw) (X := X) (rr := r1) (X' := Y1) (c_C_raise l D cA h Rw X (xs (ix (x3 + 1))) (xs (ix (x3 + 2))) hI.2.2.1.k) lk_law_43 hx hb hml hown hts hKK hP hD hS hA hl.1 0 rfl rfl rfl ⟨by decide, by decide⟩ ⟨Nat.le_refl _, Nat.le_refl _⟩ e1 wC_adr rfl (Nat.le_of_ble_eq_true rfl) d_law_law_365 (fun H locs hP hD hS => ?_)
  refine lv_aload_n hx hb d_law_law_368 rfl (lv_at hl 2 rfl) ?_
  refine lv_aload_n hx hb d_law_law_369 rfl (lv_at hl 0 rfl) ?_
  refine lv_iload_n hx hb d_law_law_370 rfl (lv_at hl 3 rfl) ?_
  refine lv_iconst (v := 1) hx hb d_law_law_371 (by decide) ?_
  refine lv_iadd hx hb d_law_law_372 ?_
  refine va_sld hx hb hX hbl hbA hS (s_in (j := 1) e3 hk8 hL rfl (by decide)) d_law_law_373 ?_
  refine lv_aload_n hx hb d_law_law_374 rfl (lv_at hl 0 rfl) ?_
  refine lv_iload_n hx hb d_law_law_375 rfl (lv_at hl 3 rfl) ?_
  refine lv_iconst (v := 2) hx hb d_law_law_376 (by decide) ?_
  refine lv_iadd hx hb d_law_law_377 ?_
  refine va_sld hx hb hX hbl hbA hS (s_in (j := 2) e3 hk8 hL rfl (by decide)) d_law_law_378 ?_
  obtain ⟨r2, Y2, e2⟩ : ∃ r Y, (sM_raise (th M) (xs (ix (x3 + 1))) (xs (ix (x3 + 2)))) = (r, Y) := ⟨_, _, Prod.eta _ |>.symm⟩
  refine cVR (wl := wC cA h Rw Y1) (Wf := wM cA g) (X := M) (rr := r2) (X' := Y2) (c_M_raise l D cA g M (xs (ix (x3 + 1))) (xs (ix (x3 + 2))) (fun q => hI.2.2.1.free q)) lk_law_46 hx hb hml hown hts hKK hP hD hS hA hl.1 0 rfl rfl rfl ⟨by decide, by decide⟩ ⟨Nat.le_refl _, Nat.le_refl _⟩ e2 wM_adr rfl (Nat.le_of_ble_eq_true rfl) d_law_law_379 (fun H locs hP hD hS => ?_)
  have hp := P_raise (xs (ix (x3 + 1))) (xs (ix (x3 + 2))) hI.th
  rw [e1, e2] at hp
  refine lv_icmp_eq (tgt := 702) hx hb d_law_law_382 (by decide) (fun c_382 => ?_) (fun c_382 => ?_)
  · exact kk _ _ _ _ _ hp.2 hP hD hS
  · exact absurd hp.1 c_382
set_option maxHeartbeats 4000000 in
set_option maxRecDepth 100000 in
/-- case 7: work -/
theorem lc_7 {p : Program} {l : Launch} {e : Env} {s : State} {m : MethodId} {below : List Frame} {meth : Method} {c : Code} {Q : State → Prop} {D : va_G} {cA : Nat → ClassId} {b L : Nat} {xs : Nat → Int32} (C0 : LC p s m c D cA b L xs) {h g : Nat → Nat} {X Rw M : Sg} {H : Heap} {locs : List Loc} {ls : Array Slot} {x3 : Int32} {k : Nat} (e3 : x3 = nI k) (hk8 : k + 8 ≤ L) (hL : L ≤ 4096) (hI : Inv X Rw M) (hP : va_P D classes (wC cA h Rw X ++ wM cA g M) H) (hD : va_D (fun q : Nat => s.heap.size ≤ q) (wC cA h Rw X ++ wM cA g M)) (hS : va_S (fun q : Nat => s.heap.size ≤ q) s.heap H locs) (hl : lv_has ls 4 [(0, .ref b), (1, .ref (h 0)), (2, .ref (g 0)), (3, .int x3)])
    (kk : ∀ (X' Rw' M' : Sg) (H' : Heap) (locs' : List Loc), Inv X' Rw' M' → va_P D classes (wC cA h Rw' X' ++ wM cA g M') H' → va_D (fun q : Nat => s.heap.size ≤ q) (wC cA h Rw' X' ++ wM cA g M') → va_S (fun q : Nat => s.heap.size ≤ q) s.heap H' locs' → W p l e room_1 s m #[Value.ref b] below meth c H' locs' 600000 7302250 Q (F0 m 702 ls [])) :
    W p l e room_1 s m #[Value.ref b] below meth c H locs 600000 7302250 Q (F0 m 387 ls []) := by
  obtain ⟨hx, hb, hml, hown, hts, hKK, hX, hbl⟩ := C0
  have hA : ∀ q : Nat, s.heap.size ≤ q → (fun q : Nat => s.heap.size ≤ q) q := fun _ h => h
  have hbA : ¬ (fun q : Nat => s.heap.size ≤ q) b := Nat.not_le.mpr hbl
  refine lv_aload_n hx hb d_law_law_387 rfl (lv_at hl 1 rfl) ?_
  obtain ⟨r1, Y1, e1⟩ : ∃ r Y, (sE_work X) = (r, Y) := ⟨_, _, Prod.eta _ |>.symm⟩
  refine cVL (Wf := wC cA h Rw) (X := X) (rr := r1) (X' := Y1) (c_C_work l D cA h Rw X  hI.2.2.1.first) lk_law_47 hx hb hml hown hts hKK hP hD hS hA hl.1 0 rfl rfl rfl ⟨by decide, by decide⟩ ⟨Nat.le_refl _, Nat.le_refl _⟩ e1 wC_adr rfl (Nat.le_of_ble_eq_true rfl) d_law_law_388 (fun H locs hP hD hS => ?_)
  refine lv_aload_n hx hb d_law_law_391 rfl (lv_at hl 2 rfl) ?_
  obtain ⟨r2, Y2, e2⟩ : ∃ r Y, (sM_work (th M)) = (r, Y) := ⟨_, _, Prod.eta _ |>.symm⟩
  refine cVR (wl := wC cA h Rw Y1) (Wf := wM cA g) (X := M) (rr := r2) (X' := Y2) (c_M_work l D cA g M  hI.2.2.1.wait) lk_law_50 hx hb hml hown hts hKK hP hD hS hA hl.1 0 rfl rfl rfl ⟨by decide, by decide⟩ ⟨Nat.le_refl _, Nat.le_refl _⟩ e2 wM_adr rfl (Nat.le_of_ble_eq_true rfl) d_law_law_392 (fun H locs hP hD hS => ?_)
  have hp := P_work  hI.th
  rw [e1, e2] at hp
  refine lv_icmp_eq (tgt := 702) hx hb d_law_law_395 (by decide) (fun c_395 => ?_) (fun c_395 => ?_)
  · exact kk _ _ _ _ _ hp.2 hP hD hS
  · exact absurd hp.1 c_395
set_option maxHeartbeats 4000000 in
set_option maxRecDepth 100000 in
/-- case 8: lose -/
theorem lc_8 {p : Program} {l : Launch} {e : Env} {s : State} {m : MethodId} {below : List Frame} {meth : Method} {c : Code} {Q : State → Prop} {D : va_G} {cA : Nat → ClassId} {b L : Nat} {xs : Nat → Int32} (C0 : LC p s m c D cA b L xs) {h g : Nat → Nat} {X Rw M : Sg} {H : Heap} {locs : List Loc} {ls : Array Slot} {x3 : Int32} {k : Nat} (e3 : x3 = nI k) (hk8 : k + 8 ≤ L) (hL : L ≤ 4096) (hI : Inv X Rw M) (hP : va_P D classes (wC cA h Rw X ++ wM cA g M) H) (hD : va_D (fun q : Nat => s.heap.size ≤ q) (wC cA h Rw X ++ wM cA g M)) (hS : va_S (fun q : Nat => s.heap.size ≤ q) s.heap H locs) (hl : lv_has ls 4 [(0, .ref b), (1, .ref (h 0)), (2, .ref (g 0)), (3, .int x3)])
    (kk : ∀ (X' Rw' M' : Sg) (H' : Heap) (locs' : List Loc), Inv X' Rw' M' → va_P D classes (wC cA h Rw' X' ++ wM cA g M') H' → va_D (fun q : Nat => s.heap.size ≤ q) (wC cA h Rw' X' ++ wM cA g M') → va_S (fun q : Nat => s.heap.size ≤ q) s.heap H' locs' → W p l e room_1 s m #[Value.ref b] below meth c H' locs' 600000 7302250 Q (F0 m 702 ls [])) :
    W p l e room_1 s m #[Value.ref b] below meth c H locs 600000 7302250 Q (F0 m 400 ls []) := by
  obtain ⟨hx, hb, hml, hown, hts, hKK, hX, hbl⟩ := C0
  have hA : ∀ q : Nat, s.heap.size ≤ q → (fun q : Nat => s.heap.size ≤ q) q := fun _ h => h
  have hbA : ¬ (fun q : Nat => s.heap.size ≤ q) b := Nat.not_le.mpr hbl
  refine lv_aload_n hx hb d_law_law_400 rfl (lv_at hl 1 rfl) ?_
  obtain ⟨r1, Y1, e1⟩ : ∃ r Y, (sE_lose X) = (r, Y) := ⟨_, _, Prod.eta _ |>.symm⟩
  refine cVL (Wf := wC cA h Rw) (X := X) (rr := r1) (X' := Y1) (c_C_lose l D cA h Rw X  ) lk_law_51 hx hb hml hown hts hKK hP hD hS hA hl.1 0 rfl rfl rfl ⟨by decide, by decide⟩ ⟨Nat.le_refl _, Nat.le_refl _⟩ e1 wC_adr rfl (Nat.le_of_ble_eq_true rfl) d_law_law_401 (fun H locs hP hD hS => ?_)
  refine lv_aload_n hx hb d_law_law_404 rfl (lv_at hl 2 rfl) ?_
  obtain ⟨r2, Y2, e2⟩ : ∃ r Y, (sM_lose (th M)) = (r, Y) := ⟨_, _, Prod.eta _ |>.symm⟩
  refine cVR (wl := wC cA h Rw Y1) (Wf := wM cA g) (X := M) (rr := r2) (X' := Y2) (c_M_lose l D cA g M  ) lk_law_54 hx hb hml hown hts hKK hP hD hS hA hl.1 0 rfl rfl rfl ⟨by decide, by decide⟩ ⟨Nat.le_refl _, Nat.le_refl _⟩ e2 wM_adr rfl (Nat.le_of_ble_eq_true rfl) d_law_law_405 (fun H locs hP hD hS => ?_)
  have hp := P_lose  hI.th
  rw [e1, e2] at hp
  refine lv_icmp_eq (tgt := 702) hx hb d_law_law_408 (by decide) (fun c_408 => ?_) (fun c_408 => ?_)
  · exact kk _ _ _ _ _ hp.2 hP hD hS
  · exact absurd hp.1 c_408
set_option maxHeartbeats 4000000 in
set_option maxRecDepth 100000 in
/-- case 9: tell -/
theorem lc_9 {p : Program} {l : Launch} {e : Env} {s : State} {m : MethodId} {below : List Frame} {meth : Method} {c : Code} {Q : State → Prop} {D : va_G} {cA : Nat → ClassId} {b L : Nat} {xs : Nat → Int32} (C0 : LC p s m c D cA b L xs) {h g : Nat → Nat} {X Rw M : Sg} {H : Heap} {locs : List Loc} {ls : Array Slot} {x3 : Int32} {k : Nat} (e3 : x3 = nI k) (hk8 : k + 8 ≤ L) (hL : L ≤ 4096) (hI : Inv X Rw M) (hP : va_P D classes (wC cA h Rw X ++ wM cA g M) H) (hD : va_D (fun q : Nat => s.heap.size ≤ q) (wC cA h Rw X ++ wM cA g M)) (hS : va_S (fun q : Nat => s.heap.size ≤ q) s.heap H locs) (hl : lv_has ls 4 [(0, .ref b), (1, .ref (h 0)), (2, .ref (g 0)), (3, .int x3)])
    (kk : ∀ (X' Rw' M' : Sg) (H' : Heap) (locs' : List Loc), Inv X' Rw' M' → va_P D classes (wC cA h Rw' X' ++ wM cA g M') H' → va_D (fun q : Nat => s.heap.size ≤ q) (wC cA h Rw' X' ++ wM cA g M') → va_S (fun q : Nat => s.heap.size ≤ q) s.heap H' locs' → W p l e room_1 s m #[Value.ref b] below meth c H' locs' 600000 7302250 Q (F0 m 702 ls [])) :
    W p l e room_1 s m #[Value.ref b] below meth c H locs 600000 7302250 Q (F0 m 413 ls []) := by
  obtain ⟨hx, hb, hml, hown, hts, hKK, hX, hbl⟩ := C0
  have hA : ∀ q : Nat, s.heap.size ≤ q → (fun q : Nat => s.heap.size ≤ q) q := fun _ h => h
  have hbA : ¬ (fun q : Nat => s.heap.size ≤ q) b := Nat.not_le.mpr hbl
  refine lv_aload_n hx hb d_law_law_413 rfl (lv_at hl 1 rfl) ?_
  refine lv_aload_n hx hb d_law_law_414 rfl (lv_at hl 0 rfl) ?_
  refine lv_iload_n hx hb d_law_law_415 rfl (lv_at hl 3 rfl) ?_
  refine lv_iconst (v := 1) hx hb d_law_law_416 (by decide) ?_
  refine lv_iadd hx hb d_law_law_417 ?_
  refine va_sld hx hb hX hbl hbA hS (s_in (j := 1) e3 hk8 hL rfl (by decide)) d_law_law_418 ?_
  refine lv_aload_n hx hb d_law_law_419 rfl (lv_at hl 0 rfl) ?_
  refine lv_iload_n hx hb d_law_law_420 rfl (lv_at hl 3 rfl) ?_
  refine lv_iconst (v := 2) hx hb d_law_law_421 (by decide) ?_
  refine lv_iadd hx hb d_law_law_422 ?_
  refine va_sld hx hb hX hbl hbA hS (s_in (j := 2) e3 hk8 hL rfl (by decide)) d_law_law_423 ?_
  refine lv_if_eq (tgt := 431) hx hb d_law_law_424 (by decide) (fun c_424 => ?_) (fun c_424 => ?_)
  · refine lv_iconst (v := 0) hx hb d_law_law_431 (by decide) ?_
    obtain ⟨r1, Y1, e1⟩ : ∃ r Y, (sC_tell X (xs (ix (x3 + 1))) 0) = (r, Y) := ⟨_, _, Prod.eta _ |>.symm⟩
    refine cVL (Wf := wC cA h Rw) (X := X) (rr := r1) (X' := Y1) (c_C_tell l D cA h Rw X (xs (ix (x3 + 1))) 0 ) lk_law_55 hx hb hml hown hts hKK hP hD hS hA hl.1 0 rfl rfl rfl ⟨by decide, by decide⟩ ⟨Nat.le_refl _, Nat.le_refl _⟩ e1 wC_adr rfl (Nat.le_of_ble_eq_true rfl) d_law_law_432 (fun H locs hP hD hS => ?_)
    refine lv_aload_n hx hb d_law_law_435 rfl (lv_at hl 2 rfl) ?_
    refine lv_aload_n hx hb d_law_law_436 rfl (lv_at hl 0 rfl) ?_
    refine lv_iload_n hx hb d_law_law_437 rfl (lv_at hl 3 rfl) ?_
    refine lv_iconst (v := 1) hx hb d_law_law_438 (by decide) ?_
    refine lv_iadd hx hb d_law_law_439 ?_
    refine va_sld hx hb hX hbl hbA hS (s_in (j := 1) e3 hk8 hL rfl (by decide)) d_law_law_440 ?_
    refine lv_aload_n hx hb d_law_law_441 rfl (lv_at hl 0 rfl) ?_
    refine lv_iload_n hx hb d_law_law_442 rfl (lv_at hl 3 rfl) ?_
    refine lv_iconst (v := 2) hx hb d_law_law_443 (by decide) ?_
    refine lv_iadd hx hb d_law_law_444 ?_
    refine va_sld hx hb hX hbl hbA hS (s_in (j := 2) e3 hk8 hL rfl (by decide)) d_law_law_445 ?_
    refine lv_if_eq (tgt := 453) hx hb d_law_law_446 (by decide) (fun c_446 => ?_) (fun c_446 => ?_)
    · refine lv_iconst (v := 0) hx hb d_law_law_453 (by decide) ?_
      obtain ⟨r2, Y2, e2⟩ : ∃ r Y, (sM_tell (th M) (xs (ix (x3 + 1))) 0) = (r, Y) := ⟨_, _, Prod.eta _ |>.symm⟩
      refine cVR (wl := wC cA h Rw Y1) (Wf := wM cA g) (X := M) (rr := r2) (X' := Y2) (c_M_tell l D cA g M (xs (ix (x3 + 1))) 0 ) lk_law_58 hx hb hml hown hts hKK hP hD hS hA hl.1 0 rfl rfl rfl ⟨by decide, by decide⟩ ⟨Nat.le_refl _, Nat.le_refl _⟩ e2 wM_adr rfl (Nat.le_of_ble_eq_true rfl) d_law_law_454 (fun H locs hP hD hS => ?_)
      have hp := P_tell (xs (ix (x3 + 1))) 0 hI.th
      rw [e1, e2] at hp
      refine lv_icmp_eq (tgt := 702) hx hb d_law_law_457 (by decide) (fun c_457 => ?_) (fun c_457 => ?_)
      · exact kk _ _ _ _ _ hp.2 hP hD hS
      · exact absurd hp.1 c_457
    · exact absurd c_424 c_446
  · refine lv_iconst (v := 1) hx hb d_law_law_427 (by decide) ?_
    refine lv_goto (tgt := 432) hx hb d_law_law_428 (by decide) ?_
    obtain ⟨r1, Y1, e1⟩ : ∃ r Y, (sC_tell X (xs (ix (x3 + 1))) 1) = (r, Y) := ⟨_, _, Prod.eta _ |>.symm⟩
    refine cVL (Wf := wC cA h Rw) (X := X) (rr := r1) (X' := Y1) (c_C_tell l D cA h Rw X (xs (ix (x3 + 1))) 1 ) lk_law_55 hx hb hml hown hts hKK hP hD hS hA hl.1 0 rfl rfl rfl ⟨by decide, by decide⟩ ⟨Nat.le_refl _, Nat.le_refl _⟩ e1 wC_adr rfl (Nat.le_of_ble_eq_true rfl) d_law_law_432 (fun H locs hP hD hS => ?_)
    refine lv_aload_n hx hb d_law_law_435 rfl (lv_at hl 2 rfl) ?_
    refine lv_aload_n hx hb d_law_law_436 rfl (lv_at hl 0 rfl) ?_
    refine lv_iload_n hx hb d_law_law_437 rfl (lv_at hl 3 rfl) ?_
    refine lv_iconst (v := 1) hx hb d_law_law_438 (by decide) ?_
    refine lv_iadd hx hb d_law_law_439 ?_
    refine va_sld hx hb hX hbl hbA hS (s_in (j := 1) e3 hk8 hL rfl (by decide)) d_law_law_440 ?_
    refine lv_aload_n hx hb d_law_law_441 rfl (lv_at hl 0 rfl) ?_
    refine lv_iload_n hx hb d_law_law_442 rfl (lv_at hl 3 rfl) ?_
    refine lv_iconst (v := 2) hx hb d_law_law_443 (by decide) ?_
    refine lv_iadd hx hb d_law_law_444 ?_
    refine va_sld hx hb hX hbl hbA hS (s_in (j := 2) e3 hk8 hL rfl (by decide)) d_law_law_445 ?_
    refine lv_if_eq (tgt := 453) hx hb d_law_law_446 (by decide) (fun c_446 => ?_) (fun c_446 => ?_)
    · exact absurd c_446 c_424
    · refine lv_iconst (v := 1) hx hb d_law_law_449 (by decide) ?_
      refine lv_goto (tgt := 454) hx hb d_law_law_450 (by decide) ?_
      obtain ⟨r2, Y2, e2⟩ : ∃ r Y, (sM_tell (th M) (xs (ix (x3 + 1))) 1) = (r, Y) := ⟨_, _, Prod.eta _ |>.symm⟩
      refine cVR (wl := wC cA h Rw Y1) (Wf := wM cA g) (X := M) (rr := r2) (X' := Y2) (c_M_tell l D cA g M (xs (ix (x3 + 1))) 1 ) lk_law_58 hx hb hml hown hts hKK hP hD hS hA hl.1 0 rfl rfl rfl ⟨by decide, by decide⟩ ⟨Nat.le_refl _, Nat.le_refl _⟩ e2 wM_adr rfl (Nat.le_of_ble_eq_true rfl) d_law_law_454 (fun H locs hP hD hS => ?_)
      have hp := P_tell (xs (ix (x3 + 1))) 1 hI.th
      rw [e1, e2] at hp
      refine lv_icmp_eq (tgt := 702) hx hb d_law_law_457 (by decide) (fun c_457 => ?_) (fun c_457 => ?_)
      · exact kk _ _ _ _ _ hp.2 hP hD hS
      · exact absurd hp.1 c_457
set_option maxHeartbeats 4000000 in
set_option maxRecDepth 100000 in
/-- case 10: put -/
theorem lc_10 {p : Program} {l : Launch} {e : Env} {s : State} {m : MethodId} {below : List Frame} {meth : Method} {c : Code} {Q : State → Prop} {D : va_G} {cA : Nat → ClassId} {b L : Nat} {xs : Nat → Int32} (C0 : LC p s m c D cA b L xs) {h g : Nat → Nat} {X Rw M : Sg} {H : Heap} {locs : List Loc} {ls : Array Slot} {x3 : Int32} {k : Nat} (e3 : x3 = nI k) (hk8 : k + 8 ≤ L) (hL : L ≤ 4096) (hI : Inv X Rw M) (hP : va_P D classes (wC cA h Rw X ++ wM cA g M) H) (hD : va_D (fun q : Nat => s.heap.size ≤ q) (wC cA h Rw X ++ wM cA g M)) (hS : va_S (fun q : Nat => s.heap.size ≤ q) s.heap H locs) (hl : lv_has ls 4 [(0, .ref b), (1, .ref (h 0)), (2, .ref (g 0)), (3, .int x3)])
    (kk : ∀ (X' Rw' M' : Sg) (H' : Heap) (locs' : List Loc), Inv X' Rw' M' → va_P D classes (wC cA h Rw' X' ++ wM cA g M') H' → va_D (fun q : Nat => s.heap.size ≤ q) (wC cA h Rw' X' ++ wM cA g M') → va_S (fun q : Nat => s.heap.size ≤ q) s.heap H' locs' → W p l e room_1 s m #[Value.ref b] below meth c H' locs' 600000 7302250 Q (F0 m 702 ls [])) :
    W p l e room_1 s m #[Value.ref b] below meth c H locs 600000 7302250 Q (F0 m 462 ls []) := by
  obtain ⟨hx, hb, hml, hown, hts, hKK, hX, hbl⟩ := C0
  have hA : ∀ q : Nat, s.heap.size ≤ q → (fun q : Nat => s.heap.size ≤ q) q := fun _ h => h
  have hbA : ¬ (fun q : Nat => s.heap.size ≤ q) b := Nat.not_le.mpr hbl
  refine lv_aload_n hx hb d_law_law_462 rfl (lv_at hl 1 rfl) ?_
  refine lv_aload_n hx hb d_law_law_463 rfl (lv_at hl 0 rfl) ?_
  refine lv_iload_n hx hb d_law_law_464 rfl (lv_at hl 3 rfl) ?_
  refine lv_iconst (v := 1) hx hb d_law_law_465 (by decide) ?_
  refine lv_iadd hx hb d_law_law_466 ?_
  refine va_sld hx hb hX hbl hbA hS (s_in (j := 1) e3 hk8 hL rfl (by decide)) d_law_law_467 ?_
  obtain ⟨r1, Y1, e1⟩ : ∃ r Y, (sC_put X (xs (ix (x3 + 1)))) = (r, Y) := ⟨_, _, Prod.eta _ |>.symm⟩
  refine cVL (Wf := wC cA h Rw) (X := X) (rr := r1) (X' := Y1) (c_C_put l D cA h Rw X (xs (ix (x3 + 1))) (put_in hI)) lk_law_59 hx hb hml hown hts hKK hP hD hS hA hl.1 0 rfl rfl rfl ⟨by decide, by decide⟩ ⟨Nat.le_refl _, Nat.le_refl _⟩ e1 wC_adr rfl (Nat.le_of_ble_eq_true rfl) d_law_law_468 (fun H locs hP hD hS => ?_)
  refine lv_aload_n hx hb d_law_law_471 rfl (lv_at hl 2 rfl) ?_
  refine lv_aload_n hx hb d_law_law_472 rfl (lv_at hl 0 rfl) ?_
  refine lv_iload_n hx hb d_law_law_473 rfl (lv_at hl 3 rfl) ?_
  refine lv_iconst (v := 1) hx hb d_law_law_474 (by decide) ?_
  refine lv_iadd hx hb d_law_law_475 ?_
  refine va_sld hx hb hX hbl hbA hS (s_in (j := 1) e3 hk8 hL rfl (by decide)) d_law_law_476 ?_
  obtain ⟨r2, Y2, e2⟩ : ∃ r Y, (sM_put (th M) (xs (ix (x3 + 1)))) = (r, Y) := ⟨_, _, Prod.eta _ |>.symm⟩
  refine cVR (wl := wC cA h Rw Y1) (Wf := wM cA g) (X := M) (rr := r2) (X' := Y2) (c_M_put l D cA g M (xs (ix (x3 + 1))) (put_inM hI)) lk_law_62 hx hb hml hown hts hKK hP hD hS hA hl.1 0 rfl rfl rfl ⟨by decide, by decide⟩ ⟨Nat.le_refl _, Nat.le_refl _⟩ e2 wM_adr rfl (Nat.le_of_ble_eq_true rfl) d_law_law_477 (fun H locs hP hD hS => ?_)
  have hp := P_put (xs (ix (x3 + 1))) hI.th
  rw [e1, e2] at hp
  refine lv_icmp_eq (tgt := 702) hx hb d_law_law_480 (by decide) (fun c_480 => ?_) (fun c_480 => ?_)
  · exact kk _ _ _ _ _ hp.2 hP hD hS
  · exact absurd hp.1 c_480
set_option maxHeartbeats 4000000 in
set_option maxRecDepth 100000 in
/-- case 11: act -/
theorem lc_11 {p : Program} {l : Launch} {e : Env} {s : State} {m : MethodId} {below : List Frame} {meth : Method} {c : Code} {Q : State → Prop} {D : va_G} {cA : Nat → ClassId} {b L : Nat} {xs : Nat → Int32} (C0 : LC p s m c D cA b L xs) {h g : Nat → Nat} {X Rw M : Sg} {H : Heap} {locs : List Loc} {ls : Array Slot} {x3 : Int32} {k : Nat} (e3 : x3 = nI k) (hk8 : k + 8 ≤ L) (hL : L ≤ 4096) (hI : Inv X Rw M) (hP : va_P D classes (wC cA h Rw X ++ wM cA g M) H) (hD : va_D (fun q : Nat => s.heap.size ≤ q) (wC cA h Rw X ++ wM cA g M)) (hS : va_S (fun q : Nat => s.heap.size ≤ q) s.heap H locs) (hl : lv_has ls 4 [(0, .ref b), (1, .ref (h 0)), (2, .ref (g 0)), (3, .int x3)])
    (kk : ∀ (X' Rw' M' : Sg) (H' : Heap) (locs' : List Loc), Inv X' Rw' M' → va_P D classes (wC cA h Rw' X' ++ wM cA g M') H' → va_D (fun q : Nat => s.heap.size ≤ q) (wC cA h Rw' X' ++ wM cA g M') → va_S (fun q : Nat => s.heap.size ≤ q) s.heap H' locs' → W p l e room_1 s m #[Value.ref b] below meth c H' locs' 600000 7302250 Q (F0 m 702 ls [])) :
    W p l e room_1 s m #[Value.ref b] below meth c H locs 600000 7302250 Q (F0 m 485 ls []) := by
  obtain ⟨hx, hb, hml, hown, hts, hKK, hX, hbl⟩ := C0
  have hA : ∀ q : Nat, s.heap.size ≤ q → (fun q : Nat => s.heap.size ≤ q) q := fun _ h => h
  have hbA : ¬ (fun q : Nat => s.heap.size ≤ q) b := Nat.not_le.mpr hbl
  refine lv_aload_n hx hb d_law_law_485 rfl (lv_at hl 1 rfl) ?_
  refine lv_aload_n hx hb d_law_law_486 rfl (lv_at hl 0 rfl) ?_
  refine lv_iload_n hx hb d_law_law_487 rfl (lv_at hl 3 rfl) ?_
  refine lv_iconst (v := 1) hx hb d_law_law_488 (by decide) ?_
  refine lv_iadd hx hb d_law_law_489 ?_
  refine va_sld hx hb hX hbl hbA hS (s_in (j := 1) e3 hk8 hL rfl (by decide)) d_law_law_490 ?_
  obtain ⟨r1, Y1, e1⟩ : ∃ r Y, (sC_act (X, Rw) (xs (ix (x3 + 1)))) = (r, Y) := ⟨_, _, Prod.eta _ |>.symm⟩
  refine cVL (Wf := wC2 cA h) (X := (X, Rw)) (rr := r1) (X' := Y1) (c_C_act l D cA h Rw X (xs (ix (x3 + 1))) ⟨hI.2.2.2.2.2.1.choose, hI.2.2.2.2.2.1.choose_spec.1, hI.2.2.2.2.2.1.choose_spec.2.1⟩ hI.2.2.2.2.2.2) lk_law_63 hx hb hml hown hts hKK hP hD hS hA hl.1 0 rfl rfl rfl ⟨by decide, by decide⟩ ⟨Nat.le_refl _, Nat.le_refl _⟩ e1 wC_adr rfl (Nat.le_of_ble_eq_true rfl) d_law_law_491 (fun H locs hP hD hS => ?_)
  have hP : va_P D classes (wC cA h Y1.2 Y1.1 ++ wM cA g M) H := hP
  have hD : va_D (fun q : Nat => s.heap.size ≤ q) (wC cA h Y1.2 Y1.1 ++ wM cA g M) := hD
  refine lv_aload_n hx hb d_law_law_494 rfl (lv_at hl 2 rfl) ?_
  refine lv_aload_n hx hb d_law_law_495 rfl (lv_at hl 0 rfl) ?_
  refine lv_iload_n hx hb d_law_law_496 rfl (lv_at hl 3 rfl) ?_
  refine lv_iconst (v := 1) hx hb d_law_law_497 (by decide) ?_
  refine lv_iadd hx hb d_law_law_498 ?_
  refine va_sld hx hb hX hbl hbA hS (s_in (j := 1) e3 hk8 hL rfl (by decide)) d_law_law_499 ?_
  obtain ⟨r2, Y2, e2⟩ : ∃ r Y, (sM_act (th M) (xs (ix (x3 + 1)))) = (r, Y) := ⟨_, _, Prod.eta _ |>.symm⟩
  refine cVR (wl := wC cA h Y1.2 Y1.1) (Wf := wM cA g) (X := M) (rr := r2) (X' := Y2) (c_M_act l D cA g M (xs (ix (x3 + 1))) ⟨hI.2.2.2.2.2.1.choose, hI.2.2.2.2.2.1.choose_spec.1, hI.2.2.2.2.2.1.choose_spec.2.2⟩) lk_law_66 hx hb hml hown hts hKK hP hD hS hA hl.1 0 rfl rfl rfl ⟨by decide, by decide⟩ ⟨Nat.le_refl _, Nat.le_refl _⟩ e2 wM_adr rfl (Nat.le_of_ble_eq_true rfl) d_law_law_500 (fun H locs hP hD hS => ?_)
  have hp := P_act (xs (ix (x3 + 1))) hI.th
  rw [e1, e2] at hp
  refine lv_icmp_eq (tgt := 702) hx hb d_law_law_503 (by decide) (fun c_503 => ?_) (fun c_503 => ?_)
  · exact kk _ Y1.2 _ _ _ hp.2 hP hD hS
  · exact absurd hp.1 c_503
set_option maxHeartbeats 4000000 in
set_option maxRecDepth 100000 in
/-- case 12: drop -/
theorem lc_12 {p : Program} {l : Launch} {e : Env} {s : State} {m : MethodId} {below : List Frame} {meth : Method} {c : Code} {Q : State → Prop} {D : va_G} {cA : Nat → ClassId} {b L : Nat} {xs : Nat → Int32} (C0 : LC p s m c D cA b L xs) {h g : Nat → Nat} {X Rw M : Sg} {H : Heap} {locs : List Loc} {ls : Array Slot} {x3 : Int32} {k : Nat} (e3 : x3 = nI k) (hk8 : k + 8 ≤ L) (hL : L ≤ 4096) (hI : Inv X Rw M) (hP : va_P D classes (wC cA h Rw X ++ wM cA g M) H) (hD : va_D (fun q : Nat => s.heap.size ≤ q) (wC cA h Rw X ++ wM cA g M)) (hS : va_S (fun q : Nat => s.heap.size ≤ q) s.heap H locs) (hl : lv_has ls 4 [(0, .ref b), (1, .ref (h 0)), (2, .ref (g 0)), (3, .int x3)])
    (kk : ∀ (X' Rw' M' : Sg) (H' : Heap) (locs' : List Loc), Inv X' Rw' M' → va_P D classes (wC cA h Rw' X' ++ wM cA g M') H' → va_D (fun q : Nat => s.heap.size ≤ q) (wC cA h Rw' X' ++ wM cA g M') → va_S (fun q : Nat => s.heap.size ≤ q) s.heap H' locs' → W p l e room_1 s m #[Value.ref b] below meth c H' locs' 600000 7302250 Q (F0 m 702 ls [])) :
    W p l e room_1 s m #[Value.ref b] below meth c H locs 600000 7302250 Q (F0 m 508 ls []) := by
  obtain ⟨hx, hb, hml, hown, hts, hKK, hX, hbl⟩ := C0
  have hA : ∀ q : Nat, s.heap.size ≤ q → (fun q : Nat => s.heap.size ≤ q) q := fun _ h => h
  have hbA : ¬ (fun q : Nat => s.heap.size ≤ q) b := Nat.not_le.mpr hbl
  refine lv_aload_n hx hb d_law_law_508 rfl (lv_at hl 1 rfl) ?_
  refine lv_aload_n hx hb d_law_law_509 rfl (lv_at hl 0 rfl) ?_
  refine lv_iload_n hx hb d_law_law_510 rfl (lv_at hl 3 rfl) ?_
  refine lv_iconst (v := 1) hx hb d_law_law_511 (by decide) ?_
  refine lv_iadd hx hb d_law_law_512 ?_
  refine va_sld hx hb hX hbl hbA hS (s_in (j := 1) e3 hk8 hL rfl (by decide)) d_law_law_513 ?_
  obtain ⟨r1, Y1, e1⟩ : ∃ r Y, (sC_drop X (xs (ix (x3 + 1)))) = (r, Y) := ⟨_, _, Prod.eta _ |>.symm⟩
  refine cVL (Wf := wC cA h Rw) (X := X) (rr := r1) (X' := Y1) (c_C_drop l D cA h Rw X (xs (ix (x3 + 1))) ) lk_law_67 hx hb hml hown hts hKK hP hD hS hA hl.1 0 rfl rfl rfl ⟨by decide, by decide⟩ ⟨Nat.le_refl _, Nat.le_refl _⟩ e1 wC_adr rfl (Nat.le_of_ble_eq_true rfl) d_law_law_514 (fun H locs hP hD hS => ?_)
  refine lv_aload_n hx hb d_law_law_517 rfl (lv_at hl 2 rfl) ?_
  refine lv_aload_n hx hb d_law_law_518 rfl (lv_at hl 0 rfl) ?_
  refine lv_iload_n hx hb d_law_law_519 rfl (lv_at hl 3 rfl) ?_
  refine lv_iconst (v := 1) hx hb d_law_law_520 (by decide) ?_
  refine lv_iadd hx hb d_law_law_521 ?_
  refine va_sld hx hb hX hbl hbA hS (s_in (j := 1) e3 hk8 hL rfl (by decide)) d_law_law_522 ?_
  obtain ⟨r2, Y2, e2⟩ : ∃ r Y, (sM_drop (th M) (xs (ix (x3 + 1)))) = (r, Y) := ⟨_, _, Prod.eta _ |>.symm⟩
  refine cVR (wl := wC cA h Rw Y1) (Wf := wM cA g) (X := M) (rr := r2) (X' := Y2) (c_M_drop l D cA g M (xs (ix (x3 + 1))) ) lk_law_70 hx hb hml hown hts hKK hP hD hS hA hl.1 0 rfl rfl rfl ⟨by decide, by decide⟩ ⟨Nat.le_refl _, Nat.le_refl _⟩ e2 wM_adr rfl (Nat.le_of_ble_eq_true rfl) d_law_law_523 (fun H locs hP hD hS => ?_)
  have hp := P_drop (xs (ix (x3 + 1))) hI.th
  rw [e1, e2] at hp
  refine lv_icmp_eq (tgt := 702) hx hb d_law_law_526 (by decide) (fun c_526 => ?_) (fun c_526 => ?_)
  · exact kk _ _ _ _ _ hp.2 hP hD hS
  · exact absurd hp.1 c_526
set_option maxHeartbeats 4000000 in
set_option maxRecDepth 100000 in
/-- case 13: arm -/
theorem lc_13 {p : Program} {l : Launch} {e : Env} {s : State} {m : MethodId} {below : List Frame} {meth : Method} {c : Code} {Q : State → Prop} {D : va_G} {cA : Nat → ClassId} {b L : Nat} {xs : Nat → Int32} (C0 : LC p s m c D cA b L xs) {h g : Nat → Nat} {X Rw M : Sg} {H : Heap} {locs : List Loc} {ls : Array Slot} {x3 : Int32} {k : Nat} (e3 : x3 = nI k) (hk8 : k + 8 ≤ L) (hL : L ≤ 4096) (hI : Inv X Rw M) (hP : va_P D classes (wC cA h Rw X ++ wM cA g M) H) (hD : va_D (fun q : Nat => s.heap.size ≤ q) (wC cA h Rw X ++ wM cA g M)) (hS : va_S (fun q : Nat => s.heap.size ≤ q) s.heap H locs) (hl : lv_has ls 4 [(0, .ref b), (1, .ref (h 0)), (2, .ref (g 0)), (3, .int x3)])
    (kk : ∀ (X' Rw' M' : Sg) (H' : Heap) (locs' : List Loc), Inv X' Rw' M' → va_P D classes (wC cA h Rw' X' ++ wM cA g M') H' → va_D (fun q : Nat => s.heap.size ≤ q) (wC cA h Rw' X' ++ wM cA g M') → va_S (fun q : Nat => s.heap.size ≤ q) s.heap H' locs' → W p l e room_1 s m #[Value.ref b] below meth c H' locs' 600000 7302250 Q (F0 m 702 ls [])) :
    W p l e room_1 s m #[Value.ref b] below meth c H locs 600000 7302250 Q (F0 m 531 ls []) := by
  obtain ⟨hx, hb, hml, hown, hts, hKK, hX, hbl⟩ := C0
  have hA : ∀ q : Nat, s.heap.size ≤ q → (fun q : Nat => s.heap.size ≤ q) q := fun _ h => h
  have hbA : ¬ (fun q : Nat => s.heap.size ≤ q) b := Nat.not_le.mpr hbl
  refine lv_aload_n hx hb d_law_law_531 rfl (lv_at hl 1 rfl) ?_
  refine lv_aload_n hx hb d_law_law_532 rfl (lv_at hl 0 rfl) ?_
  refine lv_iload_n hx hb d_law_law_533 rfl (lv_at hl 3 rfl) ?_
  refine lv_iconst (v := 1) hx hb d_law_law_534 (by decide) ?_
  refine lv_iadd hx hb d_law_law_535 ?_
  refine va_sld hx hb hX hbl hbA hS (s_in (j := 1) e3 hk8 hL rfl (by decide)) d_law_law_536 ?_
  refine lv_aload_n hx hb d_law_law_537 rfl (lv_at hl 0 rfl) ?_
  refine lv_iload_n hx hb d_law_law_538 rfl (lv_at hl 3 rfl) ?_
  refine lv_iconst (v := 2) hx hb d_law_law_539 (by decide) ?_
  refine lv_iadd hx hb d_law_law_540 ?_
  refine va_sld hx hb hX hbl hbA hS (s_in (j := 2) e3 hk8 hL rfl (by decide)) d_law_law_541 ?_
  refine lv_if_eq (tgt := 549) hx hb d_law_law_542 (by decide) (fun c_542 => ?_) (fun c_542 => ?_)
  · refine lv_iconst (v := 0) hx hb d_law_law_549 (by decide) ?_
    obtain ⟨r1, Y1, e1⟩ : ∃ r Y, (sC_arm X (xs (ix (x3 + 1))) 0) = (r, Y) := ⟨_, _, Prod.eta _ |>.symm⟩
    refine cVL (Wf := wC cA h Rw) (X := X) (rr := r1) (X' := Y1) (c_C_arm l D cA h Rw X (xs (ix (x3 + 1))) 0 ) lk_law_71 hx hb hml hown hts hKK hP hD hS hA hl.1 0 rfl rfl rfl ⟨by decide, by decide⟩ ⟨Nat.le_refl _, Nat.le_refl _⟩ e1 wC_adr rfl (Nat.le_of_ble_eq_true rfl) d_law_law_550 (fun H locs hP hD hS => ?_)
    refine lv_aload_n hx hb d_law_law_553 rfl (lv_at hl 2 rfl) ?_
    refine lv_aload_n hx hb d_law_law_554 rfl (lv_at hl 0 rfl) ?_
    refine lv_iload_n hx hb d_law_law_555 rfl (lv_at hl 3 rfl) ?_
    refine lv_iconst (v := 1) hx hb d_law_law_556 (by decide) ?_
    refine lv_iadd hx hb d_law_law_557 ?_
    refine va_sld hx hb hX hbl hbA hS (s_in (j := 1) e3 hk8 hL rfl (by decide)) d_law_law_558 ?_
    refine lv_aload_n hx hb d_law_law_559 rfl (lv_at hl 0 rfl) ?_
    refine lv_iload_n hx hb d_law_law_560 rfl (lv_at hl 3 rfl) ?_
    refine lv_iconst (v := 2) hx hb d_law_law_561 (by decide) ?_
    refine lv_iadd hx hb d_law_law_562 ?_
    refine va_sld hx hb hX hbl hbA hS (s_in (j := 2) e3 hk8 hL rfl (by decide)) d_law_law_563 ?_
    refine lv_if_eq (tgt := 571) hx hb d_law_law_564 (by decide) (fun c_564 => ?_) (fun c_564 => ?_)
    · refine lv_iconst (v := 0) hx hb d_law_law_571 (by decide) ?_
      obtain ⟨r2, Y2, e2⟩ : ∃ r Y, (sM_arm (th M) (xs (ix (x3 + 1))) 0) = (r, Y) := ⟨_, _, Prod.eta _ |>.symm⟩
      refine cVR (wl := wC cA h Rw Y1) (Wf := wM cA g) (X := M) (rr := r2) (X' := Y2) (c_M_arm l D cA g M (xs (ix (x3 + 1))) 0 ) lk_law_74 hx hb hml hown hts hKK hP hD hS hA hl.1 0 rfl rfl rfl ⟨by decide, by decide⟩ ⟨Nat.le_refl _, Nat.le_refl _⟩ e2 wM_adr rfl (Nat.le_of_ble_eq_true rfl) d_law_law_572 (fun H locs hP hD hS => ?_)
      have hp := P_arm (xs (ix (x3 + 1))) 0 hI.th
      rw [e1, e2] at hp
      refine lv_icmp_eq (tgt := 702) hx hb d_law_law_575 (by decide) (fun c_575 => ?_) (fun c_575 => ?_)
      · exact kk _ _ _ _ _ hp.2 hP hD hS
      · exact absurd hp.1 c_575
    · exact absurd c_542 c_564
  · refine lv_iconst (v := 1) hx hb d_law_law_545 (by decide) ?_
    refine lv_goto (tgt := 550) hx hb d_law_law_546 (by decide) ?_
    obtain ⟨r1, Y1, e1⟩ : ∃ r Y, (sC_arm X (xs (ix (x3 + 1))) 1) = (r, Y) := ⟨_, _, Prod.eta _ |>.symm⟩
    refine cVL (Wf := wC cA h Rw) (X := X) (rr := r1) (X' := Y1) (c_C_arm l D cA h Rw X (xs (ix (x3 + 1))) 1 ) lk_law_71 hx hb hml hown hts hKK hP hD hS hA hl.1 0 rfl rfl rfl ⟨by decide, by decide⟩ ⟨Nat.le_refl _, Nat.le_refl _⟩ e1 wC_adr rfl (Nat.le_of_ble_eq_true rfl) d_law_law_550 (fun H locs hP hD hS => ?_)
    refine lv_aload_n hx hb d_law_law_553 rfl (lv_at hl 2 rfl) ?_
    refine lv_aload_n hx hb d_law_law_554 rfl (lv_at hl 0 rfl) ?_
    refine lv_iload_n hx hb d_law_law_555 rfl (lv_at hl 3 rfl) ?_
    refine lv_iconst (v := 1) hx hb d_law_law_556 (by decide) ?_
    refine lv_iadd hx hb d_law_law_557 ?_
    refine va_sld hx hb hX hbl hbA hS (s_in (j := 1) e3 hk8 hL rfl (by decide)) d_law_law_558 ?_
    refine lv_aload_n hx hb d_law_law_559 rfl (lv_at hl 0 rfl) ?_
    refine lv_iload_n hx hb d_law_law_560 rfl (lv_at hl 3 rfl) ?_
    refine lv_iconst (v := 2) hx hb d_law_law_561 (by decide) ?_
    refine lv_iadd hx hb d_law_law_562 ?_
    refine va_sld hx hb hX hbl hbA hS (s_in (j := 2) e3 hk8 hL rfl (by decide)) d_law_law_563 ?_
    refine lv_if_eq (tgt := 571) hx hb d_law_law_564 (by decide) (fun c_564 => ?_) (fun c_564 => ?_)
    · exact absurd c_564 c_542
    · refine lv_iconst (v := 1) hx hb d_law_law_567 (by decide) ?_
      refine lv_goto (tgt := 572) hx hb d_law_law_568 (by decide) ?_
      obtain ⟨r2, Y2, e2⟩ : ∃ r Y, (sM_arm (th M) (xs (ix (x3 + 1))) 1) = (r, Y) := ⟨_, _, Prod.eta _ |>.symm⟩
      refine cVR (wl := wC cA h Rw Y1) (Wf := wM cA g) (X := M) (rr := r2) (X' := Y2) (c_M_arm l D cA g M (xs (ix (x3 + 1))) 1 ) lk_law_74 hx hb hml hown hts hKK hP hD hS hA hl.1 0 rfl rfl rfl ⟨by decide, by decide⟩ ⟨Nat.le_refl _, Nat.le_refl _⟩ e2 wM_adr rfl (Nat.le_of_ble_eq_true rfl) d_law_law_572 (fun H locs hP hD hS => ?_)
      have hp := P_arm (xs (ix (x3 + 1))) 1 hI.th
      rw [e1, e2] at hp
      refine lv_icmp_eq (tgt := 702) hx hb d_law_law_575 (by decide) (fun c_575 => ?_) (fun c_575 => ?_)
      · exact kk _ _ _ _ _ hp.2 hP hD hS
      · exact absurd hp.1 c_575
set_option maxHeartbeats 4000000 in
set_option maxRecDepth 100000 in
/-- case 14: limit -/
theorem lc_14 {p : Program} {l : Launch} {e : Env} {s : State} {m : MethodId} {below : List Frame} {meth : Method} {c : Code} {Q : State → Prop} {D : va_G} {cA : Nat → ClassId} {b L : Nat} {xs : Nat → Int32} (C0 : LC p s m c D cA b L xs) {h g : Nat → Nat} {X Rw M : Sg} {H : Heap} {locs : List Loc} {ls : Array Slot} {x3 : Int32} {k : Nat} (e3 : x3 = nI k) (hk8 : k + 8 ≤ L) (hL : L ≤ 4096) (hI : Inv X Rw M) (hP : va_P D classes (wC cA h Rw X ++ wM cA g M) H) (hD : va_D (fun q : Nat => s.heap.size ≤ q) (wC cA h Rw X ++ wM cA g M)) (hS : va_S (fun q : Nat => s.heap.size ≤ q) s.heap H locs) (hl : lv_has ls 4 [(0, .ref b), (1, .ref (h 0)), (2, .ref (g 0)), (3, .int x3)])
    (kk : ∀ (X' Rw' M' : Sg) (H' : Heap) (locs' : List Loc), Inv X' Rw' M' → va_P D classes (wC cA h Rw' X' ++ wM cA g M') H' → va_D (fun q : Nat => s.heap.size ≤ q) (wC cA h Rw' X' ++ wM cA g M') → va_S (fun q : Nat => s.heap.size ≤ q) s.heap H' locs' → W p l e room_1 s m #[Value.ref b] below meth c H' locs' 600000 7302250 Q (F0 m 702 ls [])) :
    W p l e room_1 s m #[Value.ref b] below meth c H locs 600000 7302250 Q (F0 m 580 ls []) := by
  obtain ⟨hx, hb, hml, hown, hts, hKK, hX, hbl⟩ := C0
  have hA : ∀ q : Nat, s.heap.size ≤ q → (fun q : Nat => s.heap.size ≤ q) q := fun _ h => h
  have hbA : ¬ (fun q : Nat => s.heap.size ≤ q) b := Nat.not_le.mpr hbl
  refine lv_aload_n hx hb d_law_law_580 rfl (lv_at hl 1 rfl) ?_
  refine lv_aload_n hx hb d_law_law_581 rfl (lv_at hl 0 rfl) ?_
  refine lv_iload_n hx hb d_law_law_582 rfl (lv_at hl 3 rfl) ?_
  refine lv_iconst (v := 1) hx hb d_law_law_583 (by decide) ?_
  refine lv_iadd hx hb d_law_law_584 ?_
  refine va_sld hx hb hX hbl hbA hS (s_in (j := 1) e3 hk8 hL rfl (by decide)) d_law_law_585 ?_
  refine lv_aload_n hx hb d_law_law_586 rfl (lv_at hl 0 rfl) ?_
  refine lv_iload_n hx hb d_law_law_587 rfl (lv_at hl 3 rfl) ?_
  refine lv_iconst (v := 2) hx hb d_law_law_588 (by decide) ?_
  refine lv_iadd hx hb d_law_law_589 ?_
  refine va_sld hx hb hX hbl hbA hS (s_in (j := 2) e3 hk8 hL rfl (by decide)) d_law_law_590 ?_
  obtain ⟨r1, Y1, e1⟩ : ∃ r Y, (sC_limit X (xs (ix (x3 + 1))) (xs (ix (x3 + 2)))) = (r, Y) := ⟨_, _, Prod.eta _ |>.symm⟩
  refine cVL (Wf := wC cA h Rw) (X := X) (rr := r1) (X' := Y1) (c_C_limit l D cA h Rw X (xs (ix (x3 + 1))) (xs (ix (x3 + 2))) ) lk_law_75 hx hb hml hown hts hKK hP hD hS hA hl.1 0 rfl rfl rfl ⟨by decide, by decide⟩ ⟨Nat.le_refl _, Nat.le_refl _⟩ e1 wC_adr rfl (Nat.le_of_ble_eq_true rfl) d_law_law_591 (fun H locs hP hD hS => ?_)
  refine lv_aload_n hx hb d_law_law_594 rfl (lv_at hl 2 rfl) ?_
  refine lv_aload_n hx hb d_law_law_595 rfl (lv_at hl 0 rfl) ?_
  refine lv_iload_n hx hb d_law_law_596 rfl (lv_at hl 3 rfl) ?_
  refine lv_iconst (v := 1) hx hb d_law_law_597 (by decide) ?_
  refine lv_iadd hx hb d_law_law_598 ?_
  refine va_sld hx hb hX hbl hbA hS (s_in (j := 1) e3 hk8 hL rfl (by decide)) d_law_law_599 ?_
  refine lv_aload_n hx hb d_law_law_600 rfl (lv_at hl 0 rfl) ?_
  refine lv_iload_n hx hb d_law_law_601 rfl (lv_at hl 3 rfl) ?_
  refine lv_iconst (v := 2) hx hb d_law_law_602 (by decide) ?_
  refine lv_iadd hx hb d_law_law_603 ?_
  refine va_sld hx hb hX hbl hbA hS (s_in (j := 2) e3 hk8 hL rfl (by decide)) d_law_law_604 ?_
  obtain ⟨r2, Y2, e2⟩ : ∃ r Y, (sM_limit (th M) (xs (ix (x3 + 1))) (xs (ix (x3 + 2)))) = (r, Y) := ⟨_, _, Prod.eta _ |>.symm⟩
  refine cVR (wl := wC cA h Rw Y1) (Wf := wM cA g) (X := M) (rr := r2) (X' := Y2) (c_M_limit l D cA g M (xs (ix (x3 + 1))) (xs (ix (x3 + 2))) ) lk_law_79 hx hb hml hown hts hKK hP hD hS hA hl.1 0 rfl rfl rfl ⟨by decide, by decide⟩ ⟨Nat.le_refl _, Nat.le_refl _⟩ e2 wM_adr rfl (Nat.le_of_ble_eq_true rfl) d_law_law_605 (fun H locs hP hD hS => ?_)
  have hp := P_limit (xs (ix (x3 + 1))) (xs (ix (x3 + 2))) hI.th
  rw [e1, e2] at hp
  refine lv_icmp_eq (tgt := 702) hx hb d_law_law_608 (by decide) (fun c_608 => ?_) (fun c_608 => ?_)
  · exact kk _ _ _ _ _ hp.2 hP hD hS
  · exact absurd hp.1 c_608
set_option maxHeartbeats 4000000 in
set_option maxRecDepth 100000 in
/-- case 15: event -/
theorem lc_15 {p : Program} {l : Launch} {e : Env} {s : State} {m : MethodId} {below : List Frame} {meth : Method} {c : Code} {Q : State → Prop} {D : va_G} {cA : Nat → ClassId} {b L : Nat} {xs : Nat → Int32} (C0 : LC p s m c D cA b L xs) {h g : Nat → Nat} {X Rw M : Sg} {H : Heap} {locs : List Loc} {ls : Array Slot} {x3 : Int32} {k : Nat} (e3 : x3 = nI k) (hk8 : k + 8 ≤ L) (hL : L ≤ 4096) (hI : Inv X Rw M) (hP : va_P D classes (wC cA h Rw X ++ wM cA g M) H) (hD : va_D (fun q : Nat => s.heap.size ≤ q) (wC cA h Rw X ++ wM cA g M)) (hS : va_S (fun q : Nat => s.heap.size ≤ q) s.heap H locs) (hl : lv_has ls 4 [(0, .ref b), (1, .ref (h 0)), (2, .ref (g 0)), (3, .int x3)])
    (kk : ∀ (X' Rw' M' : Sg) (H' : Heap) (locs' : List Loc), Inv X' Rw' M' → va_P D classes (wC cA h Rw' X' ++ wM cA g M') H' → va_D (fun q : Nat => s.heap.size ≤ q) (wC cA h Rw' X' ++ wM cA g M') → va_S (fun q : Nat => s.heap.size ≤ q) s.heap H' locs' → W p l e room_1 s m #[Value.ref b] below meth c H' locs' 600000 7302250 Q (F0 m 702 ls [])) :
    W p l e room_1 s m #[Value.ref b] below meth c H locs 600000 7302250 Q (F0 m 613 ls []) := by
  obtain ⟨hx, hb, hml, hown, hts, hKK, hX, hbl⟩ := C0
  have hA : ∀ q : Nat, s.heap.size ≤ q → (fun q : Nat => s.heap.size ≤ q) q := fun _ h => h
  have hbA : ¬ (fun q : Nat => s.heap.size ≤ q) b := Nat.not_le.mpr hbl
  refine lv_aload_n hx hb d_law_law_613 rfl (lv_at hl 1 rfl) ?_
  refine lv_aload_n hx hb d_law_law_614 rfl (lv_at hl 0 rfl) ?_
  refine lv_iload_n hx hb d_law_law_615 rfl (lv_at hl 3 rfl) ?_
  refine lv_iconst (v := 1) hx hb d_law_law_616 (by decide) ?_
  refine lv_iadd hx hb d_law_law_617 ?_
  refine va_sld hx hb hX hbl hbA hS (s_in (j := 1) e3 hk8 hL rfl (by decide)) d_law_law_618 ?_
  refine lv_aload_n hx hb d_law_law_619 rfl (lv_at hl 0 rfl) ?_
  refine lv_iload_n hx hb d_law_law_620 rfl (lv_at hl 3 rfl) ?_
  refine lv_iconst (v := 2) hx hb d_law_law_621 (by decide) ?_
  refine lv_iadd hx hb d_law_law_622 ?_
  refine va_sld hx hb hX hbl hbA hS (s_in (j := 2) e3 hk8 hL rfl (by decide)) d_law_law_623 ?_
  obtain ⟨r1, Y1, e1⟩ : ∃ r Y, (sC_event X (xs (ix (x3 + 1))) (xs (ix (x3 + 2)))) = (r, Y) := ⟨_, _, Prod.eta _ |>.symm⟩
  refine cVL (Wf := wC cA h Rw) (X := X) (rr := r1) (X' := Y1) (c_C_event l D cA h Rw X (xs (ix (x3 + 1))) (xs (ix (x3 + 2))) ) lk_law_80 hx hb hml hown hts hKK hP hD hS hA hl.1 0 rfl rfl rfl ⟨by decide, by decide⟩ ⟨Nat.le_refl _, Nat.le_refl _⟩ e1 wC_adr rfl (Nat.le_of_ble_eq_true rfl) d_law_law_624 (fun H locs hP hD hS => ?_)
  refine lv_aload_n hx hb d_law_law_627 rfl (lv_at hl 2 rfl) ?_
  refine lv_aload_n hx hb d_law_law_628 rfl (lv_at hl 0 rfl) ?_
  refine lv_iload_n hx hb d_law_law_629 rfl (lv_at hl 3 rfl) ?_
  refine lv_iconst (v := 1) hx hb d_law_law_630 (by decide) ?_
  refine lv_iadd hx hb d_law_law_631 ?_
  refine va_sld hx hb hX hbl hbA hS (s_in (j := 1) e3 hk8 hL rfl (by decide)) d_law_law_632 ?_
  refine lv_aload_n hx hb d_law_law_633 rfl (lv_at hl 0 rfl) ?_
  refine lv_iload_n hx hb d_law_law_634 rfl (lv_at hl 3 rfl) ?_
  refine lv_iconst (v := 2) hx hb d_law_law_635 (by decide) ?_
  refine lv_iadd hx hb d_law_law_636 ?_
  refine va_sld hx hb hX hbl hbA hS (s_in (j := 2) e3 hk8 hL rfl (by decide)) d_law_law_637 ?_
  obtain ⟨r2, Y2, e2⟩ : ∃ r Y, (sM_event (th M) (xs (ix (x3 + 1))) (xs (ix (x3 + 2)))) = (r, Y) := ⟨_, _, Prod.eta _ |>.symm⟩
  refine cVR (wl := wC cA h Rw Y1) (Wf := wM cA g) (X := M) (rr := r2) (X' := Y2) (c_M_event l D cA g M (xs (ix (x3 + 1))) (xs (ix (x3 + 2))) ) lk_law_83 hx hb hml hown hts hKK hP hD hS hA hl.1 0 rfl rfl rfl ⟨by decide, by decide⟩ ⟨Nat.le_refl _, Nat.le_refl _⟩ e2 wM_adr rfl (Nat.le_of_ble_eq_true rfl) d_law_law_638 (fun H locs hP hD hS => ?_)
  have hp := P_event (xs (ix (x3 + 1))) (xs (ix (x3 + 2))) hI.th
  rw [e1, e2] at hp
  refine lv_icmp_eq (tgt := 702) hx hb d_law_law_641 (by decide) (fun c_641 => ?_) (fun c_641 => ?_)
  · exact kk _ _ _ _ _ hp.2 hP hD hS
  · exact absurd hp.1 c_641
set_option maxHeartbeats 4000000 in
set_option maxRecDepth 100000 in
/-- case 16: actionAt -/
theorem lc_16 {p : Program} {l : Launch} {e : Env} {s : State} {m : MethodId} {below : List Frame} {meth : Method} {c : Code} {Q : State → Prop} {D : va_G} {cA : Nat → ClassId} {b L : Nat} {xs : Nat → Int32} (C0 : LC p s m c D cA b L xs) {h g : Nat → Nat} {X Rw M : Sg} {H : Heap} {locs : List Loc} {ls : Array Slot} {x3 : Int32} {k : Nat} (e3 : x3 = nI k) (hk8 : k + 8 ≤ L) (hL : L ≤ 4096) (hI : Inv X Rw M) (hP : va_P D classes (wC cA h Rw X ++ wM cA g M) H) (hD : va_D (fun q : Nat => s.heap.size ≤ q) (wC cA h Rw X ++ wM cA g M)) (hS : va_S (fun q : Nat => s.heap.size ≤ q) s.heap H locs) (hl : lv_has ls 4 [(0, .ref b), (1, .ref (h 0)), (2, .ref (g 0)), (3, .int x3)])
    (kk : ∀ (X' Rw' M' : Sg) (H' : Heap) (locs' : List Loc), Inv X' Rw' M' → va_P D classes (wC cA h Rw' X' ++ wM cA g M') H' → va_D (fun q : Nat => s.heap.size ≤ q) (wC cA h Rw' X' ++ wM cA g M') → va_S (fun q : Nat => s.heap.size ≤ q) s.heap H' locs' → W p l e room_1 s m #[Value.ref b] below meth c H' locs' 600000 7302250 Q (F0 m 702 ls [])) :
    W p l e room_1 s m #[Value.ref b] below meth c H locs 600000 7302250 Q (F0 m 646 ls []) := by
  obtain ⟨hx, hb, hml, hown, hts, hKK, hX, hbl⟩ := C0
  have hA : ∀ q : Nat, s.heap.size ≤ q → (fun q : Nat => s.heap.size ≤ q) q := fun _ h => h
  have hbA : ¬ (fun q : Nat => s.heap.size ≤ q) b := Nat.not_le.mpr hbl
  refine lv_aload_n hx hb d_law_law_646 rfl (lv_at hl 1 rfl) ?_
  refine lv_aload_n hx hb d_law_law_647 rfl (lv_at hl 0 rfl) ?_
  refine lv_iload_n hx hb d_law_law_648 rfl (lv_at hl 3 rfl) ?_
  refine lv_iconst (v := 1) hx hb d_law_law_649 (by decide) ?_
  refine lv_iadd hx hb d_law_law_650 ?_
  refine va_sld hx hb hX hbl hbA hS (s_in (j := 1) e3 hk8 hL rfl (by decide)) d_law_law_651 ?_
  refine lv_aload_n hx hb d_law_law_652 rfl (lv_at hl 0 rfl) ?_
  refine lv_iload_n hx hb d_law_law_653 rfl (lv_at hl 3 rfl) ?_
  refine lv_iconst (v := 2) hx hb d_law_law_654 (by decide) ?_
  refine lv_iadd hx hb d_law_law_655 ?_
  refine va_sld hx hb hX hbl hbA hS (s_in (j := 2) e3 hk8 hL rfl (by decide)) d_law_law_656 ?_
  obtain ⟨r1, Y1, e1⟩ : ∃ r Y, (sC_actionAt X Rw (xs (ix (x3 + 1))) (xs (ix (x3 + 2)))) = (r, Y) := ⟨_, _, Prod.eta _ |>.symm⟩
  refine cVL (Wf := wC cA h Rw) (X := X) (rr := r1) (X' := Y1) (c_C_actionAt l D cA h Rw X (xs (ix (x3 + 1))) (xs (ix (x3 + 2))) (at_C hI)) lk_law_84 hx hb hml hown hts hKK hP hD hS hA hl.1 0 rfl rfl rfl ⟨by decide, by decide⟩ ⟨Nat.le_refl _, Nat.le_refl _⟩ e1 wC_adr rfl (Nat.le_of_ble_eq_true rfl) d_law_law_657 (fun H locs hP hD hS => ?_)
  refine lv_aload_n hx hb d_law_law_660 rfl (lv_at hl 2 rfl) ?_
  refine lv_aload_n hx hb d_law_law_661 rfl (lv_at hl 0 rfl) ?_
  refine lv_iload_n hx hb d_law_law_662 rfl (lv_at hl 3 rfl) ?_
  refine lv_iconst (v := 1) hx hb d_law_law_663 (by decide) ?_
  refine lv_iadd hx hb d_law_law_664 ?_
  refine va_sld hx hb hX hbl hbA hS (s_in (j := 1) e3 hk8 hL rfl (by decide)) d_law_law_665 ?_
  refine lv_aload_n hx hb d_law_law_666 rfl (lv_at hl 0 rfl) ?_
  refine lv_iload_n hx hb d_law_law_667 rfl (lv_at hl 3 rfl) ?_
  refine lv_iconst (v := 2) hx hb d_law_law_668 (by decide) ?_
  refine lv_iadd hx hb d_law_law_669 ?_
  refine va_sld hx hb hX hbl hbA hS (s_in (j := 2) e3 hk8 hL rfl (by decide)) d_law_law_670 ?_
  obtain ⟨r2, Y2, e2⟩ : ∃ r Y, (sM_actionAt (th M) (xs (ix (x3 + 1))) (xs (ix (x3 + 2)))) = (r, Y) := ⟨_, _, Prod.eta _ |>.symm⟩
  refine cVR (wl := wC cA h Rw Y1) (Wf := wM cA g) (X := M) (rr := r2) (X' := Y2) (c_M_actionAt l D cA g M (xs (ix (x3 + 1))) (xs (ix (x3 + 2))) (at_M hI)) lk_law_87 hx hb hml hown hts hKK hP hD hS hA hl.1 0 rfl rfl rfl ⟨by decide, by decide⟩ ⟨Nat.le_refl _, Nat.le_refl _⟩ e2 wM_adr rfl (Nat.le_of_ble_eq_true rfl) d_law_law_671 (fun H locs hP hD hS => ?_)
  have hp := P_actionAt (xs (ix (x3 + 1))) (xs (ix (x3 + 2))) hI.th
  rw [e1, e2] at hp
  refine lv_icmp_eq (tgt := 702) hx hb d_law_law_674 (by decide) (fun c_674 => ?_) (fun c_674 => ?_)
  · exact kk _ _ _ _ _ hp.2 hP hD hS
  · exact absurd hp.1 c_674
set_option maxHeartbeats 4000000 in
set_option maxRecDepth 100000 in
/-- case 17: count -/
theorem lc_17 {p : Program} {l : Launch} {e : Env} {s : State} {m : MethodId} {below : List Frame} {meth : Method} {c : Code} {Q : State → Prop} {D : va_G} {cA : Nat → ClassId} {b L : Nat} {xs : Nat → Int32} (C0 : LC p s m c D cA b L xs) {h g : Nat → Nat} {X Rw M : Sg} {H : Heap} {locs : List Loc} {ls : Array Slot} {x3 : Int32} {k : Nat} (e3 : x3 = nI k) (hk8 : k + 8 ≤ L) (hL : L ≤ 4096) (hI : Inv X Rw M) (hP : va_P D classes (wC cA h Rw X ++ wM cA g M) H) (hD : va_D (fun q : Nat => s.heap.size ≤ q) (wC cA h Rw X ++ wM cA g M)) (hS : va_S (fun q : Nat => s.heap.size ≤ q) s.heap H locs) (hl : lv_has ls 4 [(0, .ref b), (1, .ref (h 0)), (2, .ref (g 0)), (3, .int x3)])
    (kk : ∀ (X' Rw' M' : Sg) (H' : Heap) (locs' : List Loc), Inv X' Rw' M' → va_P D classes (wC cA h Rw' X' ++ wM cA g M') H' → va_D (fun q : Nat => s.heap.size ≤ q) (wC cA h Rw' X' ++ wM cA g M') → va_S (fun q : Nat => s.heap.size ≤ q) s.heap H' locs' → W p l e room_1 s m #[Value.ref b] below meth c H' locs' 600000 7302250 Q (F0 m 702 ls [])) :
    W p l e room_1 s m #[Value.ref b] below meth c H locs 600000 7302250 Q (F0 m 679 ls []) := by
  obtain ⟨hx, hb, hml, hown, hts, hKK, hX, hbl⟩ := C0
  have hA : ∀ q : Nat, s.heap.size ≤ q → (fun q : Nat => s.heap.size ≤ q) q := fun _ h => h
  have hbA : ¬ (fun q : Nat => s.heap.size ≤ q) b := Nat.not_le.mpr hbl
  refine lv_aload_n hx hb d_law_law_679 rfl (lv_at hl 1 rfl) ?_
  refine lv_aload_n hx hb d_law_law_680 rfl (lv_at hl 0 rfl) ?_
  refine lv_iload_n hx hb d_law_law_681 rfl (lv_at hl 3 rfl) ?_
  refine lv_iconst (v := 1) hx hb d_law_law_682 (by decide) ?_
  refine lv_iadd hx hb d_law_law_683 ?_
  refine va_sld hx hb hX hbl hbA hS (s_in (j := 1) e3 hk8 hL rfl (by decide)) d_law_law_684 ?_
  obtain ⟨r1, Y1, e1⟩ : ∃ r Y, (sC_count X (xs (ix (x3 + 1)))) = (r, Y) := ⟨_, _, Prod.eta _ |>.symm⟩
  refine cVL (Wf := wC cA h Rw) (X := X) (rr := r1) (X' := Y1) (c_C_count l D cA h Rw X (xs (ix (x3 + 1))) ) lk_law_88 hx hb hml hown hts hKK hP hD hS hA hl.1 0 rfl rfl rfl ⟨by decide, by decide⟩ ⟨Nat.le_refl _, Nat.le_refl _⟩ e1 wC_adr rfl (Nat.le_of_ble_eq_true rfl) d_law_law_685 (fun H locs hP hD hS => ?_)
  refine lv_aload_n hx hb d_law_law_688 rfl (lv_at hl 2 rfl) ?_
  refine lv_aload_n hx hb d_law_law_689 rfl (lv_at hl 0 rfl) ?_
  refine lv_iload_n hx hb d_law_law_690 rfl (lv_at hl 3 rfl) ?_
  refine lv_iconst (v := 1) hx hb d_law_law_691 (by decide) ?_
  refine lv_iadd hx hb d_law_law_692 ?_
  refine va_sld hx hb hX hbl hbA hS (s_in (j := 1) e3 hk8 hL rfl (by decide)) d_law_law_693 ?_
  obtain ⟨r2, Y2, e2⟩ : ∃ r Y, (sM_count (th M) (xs (ix (x3 + 1)))) = (r, Y) := ⟨_, _, Prod.eta _ |>.symm⟩
  refine cVR (wl := wC cA h Rw Y1) (Wf := wM cA g) (X := M) (rr := r2) (X' := Y2) (c_M_count l D cA g M (xs (ix (x3 + 1))) ) lk_law_91 hx hb hml hown hts hKK hP hD hS hA hl.1 0 rfl rfl rfl ⟨by decide, by decide⟩ ⟨Nat.le_refl _, Nat.le_refl _⟩ e2 wM_adr rfl (Nat.le_of_ble_eq_true rfl) d_law_law_694 (fun H locs hP hD hS => ?_)
  have hp := P_count (xs (ix (x3 + 1))) hI.th
  rw [e1, e2] at hp
  refine lv_icmp_eq (tgt := 702) hx hb d_law_law_697 (by decide) (fun c_697 => ?_) (fun c_697 => ?_)
  · exact kk _ _ _ _ _ hp.2 hP hD hS
  · exact absurd hp.1 c_697
end
section
-- ===== the law's loop, and its start =====
theorem lw_gt {L k : Nat} {x3 : Int32} (e3 : x3 = nI k) (hk : k ≤ L) (hL : L ≤ 4096) (c : ¬ (Int32.ofNat L - 8 < x3)) : k + 8 ≤ L := by
  have h : (Int32.ofNat L - 8).toInt = (L : Int) - 8 := pk_sub_toInt (a := L) (b := 8) (by omega) (by decide)
  rw [Int32.lt_iff_toInt_lt, h, e3, nI_toInt (by omega)] at c
  omega
set_option maxHeartbeats 4000000 in
set_option maxRecDepth 100000 in
theorem law_loop {p : Program} {l : Launch} {e : Env} {s : State} {m : MethodId} {below : List Frame} {meth : Method} {c : Code} {D : va_G} {cA : Nat → ClassId} {b L : Nat} {xs : Nat → Int32} {h g : Nat → Nat} (hL : L ≤ 4096) (C0 : LC p s m c D cA b L xs) (hr : meth.sig.returnType = ret) (hlocks : meth.locks = false) :
    ∀ (n k : Nat) (x3 : Int32) (X Rw M : Sg) (H : Heap) (locs : List Loc) (ls : Array Slot), k ≤ L → L + 1 ≤ k + n → x3 = nI k → Inv X Rw M → va_P D classes (wC cA h Rw X ++ wM cA g M) H → va_D (fun q : Nat => s.heap.size ≤ q) (wC cA h Rw X ++ wM cA g M) → va_S (fun q : Nat => s.heap.size ≤ q) s.heap H locs → lv_has ls 4 [(0, .ref b), (1, .ref (h 0)), (2, .ref (g 0)), (3, .int x3)] →
      W p l e room_1 s m #[Value.ref b] below meth c H locs 600000 7302250 (lw_Z below #[Value.ref b] s) (F0 m 18 ls []) := by
  obtain ⟨hx, hb, hml, hown, hts, hKK, hX, hbl⟩ := id C0
  have hbA : ¬ (fun q : Nat => s.heap.size ≤ q) b := Nat.not_le.mpr hbl
  intro n
  induction n with
  | zero =>
    intro k x3 X Rw M H locs ls h1 h2
    exact absurd h2 (by omega)
  | succ n ih =>
    intro k x3 X Rw M H locs ls hk hn e3 hI hP hD hS hl
    refine lv_iload_n hx hb d_law_law_18 rfl (lv_at hl 3 rfl) ?_
    refine lv_aload_n hx hb d_law_law_19 rfl (lv_at hl 0 rfl) ?_
    refine va_slen hx hb hX hbl hbA hS d_law_law_20 ?_
    refine lv_bipush (v := 8) hx hb d_law_law_21 (by decide) ?_
    refine lv_isub hx hb d_law_law_23 ?_
    refine lv_icmp_gt (tgt := 708) hx hb d_law_law_24 (by decide) (fun c_24 => ?_) (fun c_24 => ?_)
    · refine lv_iconst (v := 1) hx hb d_law_law_708 (by decide) ?_
      refine va_forget (fun q hq => hS.2.2 q hq) ?_
      exact lw_ret hx hb hr hlocks d_law_law_709
    · have hk8 : k + 8 ≤ L := lw_gt e3 hk hL c_24
      have next : ∀ (X' Rw' M' : Sg) (H' : Heap) (locs' : List Loc), Inv X' Rw' M' → va_P D classes (wC cA h Rw' X' ++ wM cA g M') H' → va_D (fun q : Nat => s.heap.size ≤ q) (wC cA h Rw' X' ++ wM cA g M') → va_S (fun q : Nat => s.heap.size ≤ q) s.heap H' locs' → W p l e room_1 s m #[Value.ref b] below meth c H' locs' 600000 7302250 (lw_Z below #[Value.ref b] s) (F0 m 702 ls []) := by
        intro X' Rw' M' H' locs' hI' hP' hD' hS'
        refine lv_iinc (v := x3 + 8) (lv' := [(3, .int (x3 + 8)), (0, .ref b), (1, .ref (h 0)), (2, .ref (g 0))]) hx hb d_law_law_702 hl (k := 3) rfl rfl (by decide) rfl (fun ls hl => ?_)
        refine lv_goto (tgt := 18) hx hb d_law_law_705 (by decide) ?_
        exact ih (k + 8) _ _ _ _ _ _ _ hk8 (by omega) (by rw [e3]; exact nI_add k 8) hI' hP' hD' hS' (lv_sub hl [1, 2, 3, 0] rfl)
      refine lv_aload_n hx hb d_law_law_27 rfl (lv_at hl 0 rfl) ?_
      refine lv_iload_n hx hb d_law_law_28 rfl (lv_at hl 3 rfl) ?_
      refine va_sld hx hb hX hbl hbA hS (s_in0 e3 hk8 hL) d_law_law_29 ?_
      refine lv_bipush (v := 31) hx hb d_law_law_30 (by decide) ?_
      refine lv_iand hx hb d_law_law_32 ?_
      refine lv_topi (fun sw esw => ?_)
      clear esw
      by_cases w_0 : sw = 0
      · refine lv_tableIn (tgt := 120) hx hb d_law_law_33 (by rw [w_0]; decide) (by rw [w_0]; decide) (off := 87) (by rw [w_0]; rfl) (by decide) ?_
        exact lc_0 C0 e3 hk8 hL hI hP hD hS hl next
      by_cases w_1 : sw = 1
      · refine lv_tableIn (tgt := 153) hx hb d_law_law_33 (by rw [w_1]; decide) (by rw [w_1]; decide) (off := 120) (by rw [w_1]; rfl) (by decide) ?_
        exact lc_1 C0 e3 hk8 hL hI hP hD hS hl next
      by_cases w_2 : sw = 2
      · refine lv_tableIn (tgt := 256) hx hb d_law_law_33 (by rw [w_2]; decide) (by rw [w_2]; decide) (off := 223) (by rw [w_2]; rfl) (by decide) ?_
        exact lc_2 C0 e3 hk8 hL hI hP hD hS hl next
      by_cases w_3 : sw = 3
      · refine lv_tableIn (tgt := 279) hx hb d_law_law_33 (by rw [w_3]; decide) (by rw [w_3]; decide) (off := 246) (by rw [w_3]; rfl) (by decide) ?_
        exact lc_3 C0 e3 hk8 hL hI hP hD hS hl next
      by_cases w_4 : sw = 4
      · refine lv_tableIn (tgt := 328) hx hb d_law_law_33 (by rw [w_4]; decide) (by rw [w_4]; decide) (off := 295) (by rw [w_4]; rfl) (by decide) ?_
        exact lc_4 C0 e3 hk8 hL hI hP hD hS hl next
      by_cases w_5 : sw = 5
      · refine lv_tableIn (tgt := 341) hx hb d_law_law_33 (by rw [w_5]; decide) (by rw [w_5]; decide) (off := 308) (by rw [w_5]; rfl) (by decide) ?_
        exact lc_5 C0 e3 hk8 hL hI hP hD hS hl next
      by_cases w_6 : sw = 6
      · refine lv_tableIn (tgt := 354) hx hb d_law_law_33 (by rw [w_6]; decide) (by rw [w_6]; decide) (off := 321) (by rw [w_6]; rfl) (by decide) ?_
        exact lc_6 C0 e3 hk8 hL hI hP hD hS hl next
      by_cases w_7 : sw = 7
      · refine lv_tableIn (tgt := 387) hx hb d_law_law_33 (by rw [w_7]; decide) (by rw [w_7]; decide) (off := 354) (by rw [w_7]; rfl) (by decide) ?_
        exact lc_7 C0 e3 hk8 hL hI hP hD hS hl next
      by_cases w_8 : sw = 8
      · refine lv_tableIn (tgt := 400) hx hb d_law_law_33 (by rw [w_8]; decide) (by rw [w_8]; decide) (off := 367) (by rw [w_8]; rfl) (by decide) ?_
        exact lc_8 C0 e3 hk8 hL hI hP hD hS hl next
      by_cases w_9 : sw = 9
      · refine lv_tableIn (tgt := 413) hx hb d_law_law_33 (by rw [w_9]; decide) (by rw [w_9]; decide) (off := 380) (by rw [w_9]; rfl) (by decide) ?_
        exact lc_9 C0 e3 hk8 hL hI hP hD hS hl next
      by_cases w_10 : sw = 10
      · refine lv_tableIn (tgt := 462) hx hb d_law_law_33 (by rw [w_10]; decide) (by rw [w_10]; decide) (off := 429) (by rw [w_10]; rfl) (by decide) ?_
        exact lc_10 C0 e3 hk8 hL hI hP hD hS hl next
      by_cases w_11 : sw = 11
      · refine lv_tableIn (tgt := 485) hx hb d_law_law_33 (by rw [w_11]; decide) (by rw [w_11]; decide) (off := 452) (by rw [w_11]; rfl) (by decide) ?_
        exact lc_11 C0 e3 hk8 hL hI hP hD hS hl next
      by_cases w_12 : sw = 12
      · refine lv_tableIn (tgt := 508) hx hb d_law_law_33 (by rw [w_12]; decide) (by rw [w_12]; decide) (off := 475) (by rw [w_12]; rfl) (by decide) ?_
        exact lc_12 C0 e3 hk8 hL hI hP hD hS hl next
      by_cases w_13 : sw = 13
      · refine lv_tableIn (tgt := 531) hx hb d_law_law_33 (by rw [w_13]; decide) (by rw [w_13]; decide) (off := 498) (by rw [w_13]; rfl) (by decide) ?_
        exact lc_13 C0 e3 hk8 hL hI hP hD hS hl next
      by_cases w_14 : sw = 14
      · refine lv_tableIn (tgt := 580) hx hb d_law_law_33 (by rw [w_14]; decide) (by rw [w_14]; decide) (off := 547) (by rw [w_14]; rfl) (by decide) ?_
        exact lc_14 C0 e3 hk8 hL hI hP hD hS hl next
      by_cases w_15 : sw = 15
      · refine lv_tableIn (tgt := 613) hx hb d_law_law_33 (by rw [w_15]; decide) (by rw [w_15]; decide) (off := 580) (by rw [w_15]; rfl) (by decide) ?_
        exact lc_15 C0 e3 hk8 hL hI hP hD hS hl next
      by_cases w_16 : sw = 16
      · refine lv_tableIn (tgt := 646) hx hb d_law_law_33 (by rw [w_16]; decide) (by rw [w_16]; decide) (off := 613) (by rw [w_16]; rfl) (by decide) ?_
        exact lc_16 C0 e3 hk8 hL hI hP hD hS hl next
      by_cases w_17 : sw = 17
      · refine lv_tableIn (tgt := 679) hx hb d_law_law_33 (by rw [w_17]; decide) (by rw [w_17]; decide) (off := 646) (by rw [w_17]; rfl) (by decide) ?_
        exact lc_17 C0 e3 hk8 hL hI hP hD hS hl next
      refine lv_tableOut (tgt := 702) hx hb d_law_law_33 (by have z0 := lv_neT w_0 (a := 0) rfl; have z1 := lv_neT w_1 (a := 1) rfl; have z2 := lv_neT w_2 (a := 2) rfl; have z3 := lv_neT w_3 (a := 3) rfl; have z4 := lv_neT w_4 (a := 4) rfl; have z5 := lv_neT w_5 (a := 5) rfl; have z6 := lv_neT w_6 (a := 6) rfl; have z7 := lv_neT w_7 (a := 7) rfl; have z8 := lv_neT w_8 (a := 8) rfl; have z9 := lv_neT w_9 (a := 9) rfl; have z10 := lv_neT w_10 (a := 10) rfl; have z11 := lv_neT w_11 (a := 11) rfl; have z12 := lv_neT w_12 (a := 12) rfl; have z13 := lv_neT w_13 (a := 13) rfl; have z14 := lv_neT w_14 (a := 14) rfl; have z15 := lv_neT w_15 (a := 15) rfl; have z16 := lv_neT w_16 (a := 16) rfl; have z17 := lv_neT w_17 (a := 17) rfl; omega) (by decide) ?_
      exact next X Rw M H locs hI hP hD hS
/-- what the tables say of byte[][] -/
theorem over_BB {args : Array Value} {s : State} (h : (Cond.arrayOver (.array .byte)).before args s = true) : ∃ (comp cBB : ClassId) (k : Class), s.vm.findClass "[B" = some comp ∧ s.vm.classes[cBB]? = some k ∧ k.kind = .array comp (.array .byte) ∧ s.vm.findClass "[[B" = some cBB := by
  unfold Cond.before Cond.holds at h
  simp only [Cond.value, beq_iff_eq] at h
  obtain ⟨comp, h1, h⟩ := Option.bind_eq_some_iff.mp h
  obtain ⟨cBB, h2, h⟩ := Option.bind_eq_some_iff.mp h
  obtain ⟨k, h3, h⟩ := Option.map_eq_some_iff.mp h
  obtain ⟨hlt, hp, -⟩ := Array.findIdx?_eq_some_iff_getElem.mp h2
  rw [(Array.getElem?_eq_some_iff.mp h3).2] at hp
  cases hk : k.kind with
  | array c2 ty =>
    rw [hk] at h hp
    simp at h hp
    exact ⟨comp, cBB, k, h1, h3, by rw [hk, hp, h.1], h.2⟩
  | _ => rw [hk] at h; simp at h
theorem nest_all {args : Array Value} {s : State} (h : ∀ w ∈ lw_tbl, w.before args s = true) : ∀ w ∈ nestW, va_Nw w s := by
  intro w hw
  obtain ⟨h1, h2⟩ := List.mem_filter.mp hw
  have h3 := h w h1
  cases w <;> first | exact va_Nw.of rfl h3 | (simp [isNest] at h2)
set_option maxHeartbeats 4000000 in
set_option maxRecDepth 100000 in
theorem KK_start {args : Array Value} {s : State} (ht : ∀ w ∈ lw_tbl, w.before args s = true) : ∃ (D : va_G) (cA : Nat → ClassId), KK D cA s := by
  have hts := good_tbl ht
  obtain ⟨c0, iS0, hKn0⟩ := u_known (C := R_C) (T := F_C) (N := 7) (n := 7) hts i_C (hts _ tw_9)
  obtain ⟨c1, iS1, hKn1⟩ := u_known (C := R_N) (T := F_N) (N := 1) (n := 1) hts i_N (hts _ tw_17)
  obtain ⟨c2, iS2, hKn2⟩ := u_known (C := R_E) (T := F_E) (N := 7) (n := 7) hts i_E (hts _ tw_29)
  obtain ⟨c3, iS3, hKn3⟩ := u_known (C := R_L) (T := F_L) (N := 11) (n := 11) hts i_L (hts _ tw_62)
  obtain ⟨c4, iS4, hKn4⟩ := u_known (C := R_A) (T := F_A) (N := 3) (n := 3) hts i_A (hts _ tw_110)
  obtain ⟨c5, iS5, hKn5⟩ := u_known (C := R_M) (T := F_M) (N := 24) (n := 24) hts i_M (hts _ tw_289)
  obtain ⟨dC, dI, hKc⟩ : ∃ (dC : Nat → ClassId) (dI : Nat → Nat → Nat), ∀ (k : Nat) (q : vw_C), classes[k]? = some q → u_Kn s q.1 q.2.1 q.2.2 (dC k) (dI k) := by
    refine ⟨fun k => if k = 0 then c0 else if k = 1 then c1 else if k = 2 then c2 else if k = 3 then c3 else if k = 4 then c4 else c5, fun k => if k = 0 then iS0 else if k = 1 then iS1 else if k = 2 then iS2 else if k = 3 then iS3 else if k = 4 then iS4 else iS5, ?_⟩
    intro k q hq
    match k, hq with
    | 0, hq => cases hq; exact hKn0
    | 1, hq => cases hq; exact hKn1
    | 2, hq => cases hq; exact hKn2
    | 3, hq => cases hq; exact hKn3
    | 4, hq => cases hq; exact hKn4
    | 5, hq => cases hq; exact hKn5
    | k + 6, hq => simp [classes] at hq
  obtain ⟨a0, k0, m0, f0, g0, d0⟩ := Cond.arrayClass_spec (hts _ tw_27)
  obtain ⟨a1, k1, m1, f1, g1, d1⟩ := Cond.arrayClass_spec (hts _ tw_60)
  obtain ⟨a2, k2, m2, f2, g2, d2⟩ := Cond.arrayClass_spec (hts _ tw_130)
  obtain ⟨comp, a3, k3, f3, g3, d3, r3⟩ := over_BB (ht _ tn_116)
  have ec : comp = a2 := Option.some.inj (f3.symm.trans f2)
  subst ec
  have AT : ∀ {a : ClassId} {k : Class} {m : ClassId} {ty : FieldType}, s.vm.classes[a]? = some k → k.kind = .array m ty → ArrOfT s a ty := fun hk hd n z => ⟨fun k h => (by cases h), _, hk, _, hd⟩
  refine ⟨(dC, dI), fun k => if k = 0 then a0 else if k = 1 then a1 else if k = 2 then comp else a3, ⟨hKc, fun k q hq => ?_⟩, nest_all ht, va_Fw.of (ht _ tn_199) (ht _ tn_198) (ht _ tn_204) (ht _ tn_202) (ht _ tn_200), ⟨k3, g3, d3⟩⟩
  match k, hq with
  | 0, hq => cases hq; exact ⟨AT g0 d0, f0⟩
  | 1, hq => cases hq; exact ⟨AT g1 d1, f1⟩
  | 2, hq => cases hq; exact ⟨AT g2 d2, f2⟩
  | 3, hq => cases hq; exact ⟨AT g3 d3, r3⟩
  | k + 4, hq => simp at hq
set_option maxHeartbeats 4000000 in
set_option maxRecDepth 100000 in
/-- THE LAW, from its entry -/
theorem whole_start {p : Program} {e : Env} {s : State} {m : MethodId} {below : List Frame} {meth : Method} {c : Code} (l : Launch) {b L : Nat} {xs : Nat → Int32} (hL : L ≤ 4096) (C0 : lw_At p s m meth c b L xs) : W p l e room_1 s m #[Value.ref b] below meth c s.heap [] 0 0 (lw_Z below #[Value.ref b] s) (entryFrame m ([Value.ref b] : List Value).toArray 4) := by
  obtain ⟨hx, hb, hr, hml, hown, ht, hX, hbl, hlocks, hgv⟩ := C0
  have hts := good_tbl ht
  obtain ⟨D, cA, hKK⟩ := KK_start ht
  have hA : ∀ q : Nat, s.heap.size ≤ q → (fun q : Nat => s.heap.size ≤ q) q := fun _ h => h
  have hK := hKK.1
  have hS : va_S (fun q : Nat => s.heap.size ≤ q) s.heap s.heap [] := va_S.rf
  have hP : va_P D classes [] s.heap := fun k q h => by simp at h
  have hD : va_D (fun q : Nat => s.heap.size ≤ q) [] := ⟨fun i j p q h => by simp at h, fun k q h => by simp at h⟩
  have hl := lv_entry ([.ref b]) (n := 4) (Nat.le_of_ble_eq_true rfl)
  rw [lg_entry_eq]
  generalize (lg_sl ([.ref b]) ++ List.replicate (4 - (lg_sl ([.ref b])).length) Slot.unset).toArray = ls at hl ⊢
  have hl : lv_has ls 4 [(0, .ref b)] := hl
  refine va_new (ci := 0) (fs := [.null, .null, .null, .null, .null, .int 0, .int 0]) (C := R_C) (T := F_C) (N := 7) hx hb hts i_C t_C t_C_ok hown (hts _ tw_8) (hts _ tw_9) (hts _ tw_1) hK hP hD hS hA rfl (fun j hj => by rcases (show j = 0 ∨ j = 1 ∨ j = 2 ∨ j = 3 ∨ j = 4 ∨ j = 5 ∨ j = 6 by omega) with rfl | rfl | rfl | rfl | rfl | rfl | rfl <;> rfl) (Nat.le_of_ble_eq_true rfl) (Nat.le_of_ble_eq_true rfl) d_law_law_0 (fun q0 H hP hD hS => ?_)
  refine W.widen (k := 1) (n := 7) (Nat.le_refl _) (Nat.le_refl _) ?_
  refine lv_dup hx hb d_law_law_3 rfl ?_
  refine cI (wl := []) (w0 := [(q0, .inr (0, [.null, .null, .null, .null, .null, .int 0, .int 0]))]) (c_C_init l D cA q0) (LkI.of tw_12 tw_1 tw_11 (by decide +kernel)) tw_10 hx hb hml hown hts hKK hP hD hS hA hl.1 ⟨by decide, by decide⟩ ⟨Nat.le_of_ble_eq_true rfl, Nat.le_of_ble_eq_true rfl⟩ (Nat.le_of_ble_eq_true rfl) d_law_law_4 (fun h H locs e0 hP hD hS => ?_)
  rw [← e0]
  refine W.widen (k := 54) (n := 11069) (Nat.le_refl _) (Nat.le_refl _) ?_
  have hP : va_P D classes (wC cA h zS zS) H := hP
  have hD : va_D (fun q : Nat => s.heap.size ≤ q) (wC cA h zS zS) := hD
  refine lv_astore_n (lv' := [(1, .ref (h 0)), (0, .ref b)]) hx hb d_law_law_7 rfl hl (by decide) rfl (fun ls hl => ?_)
  refine va_new (ci := 5) (fs := [.int 0, .null, .null, .null, .null, .null, .null, .null, .null, .null, .null, .int 0, .int 0, .int 0, .null, .null, .int 0, .int 0, .null, .null, .null, .null, .int 0, .null]) (C := R_M) (T := F_M) (N := 24) hx hb hts i_M t_M t_M_ok hown (hts _ tw_288) (hts _ tw_289) (hts _ tw_6) hK hP hD hS hA rfl (fun j hj => by rcases (show j = 0 ∨ j = 1 ∨ j = 2 ∨ j = 3 ∨ j = 4 ∨ j = 5 ∨ j = 6 ∨ j = 7 ∨ j = 8 ∨ j = 9 ∨ j = 10 ∨ j = 11 ∨ j = 12 ∨ j = 13 ∨ j = 14 ∨ j = 15 ∨ j = 16 ∨ j = 17 ∨ j = 18 ∨ j = 19 ∨ j = 20 ∨ j = 21 ∨ j = 22 ∨ j = 23 by omega) with rfl | rfl | rfl | rfl | rfl | rfl | rfl | rfl | rfl | rfl | rfl | rfl | rfl | rfl | rfl | rfl | rfl | rfl | rfl | rfl | rfl | rfl | rfl | rfl <;> rfl) (Nat.le_of_ble_eq_true rfl) (Nat.le_of_ble_eq_true rfl) d_law_law_8 (fun q1 H hP hD hS => ?_)
  refine W.widen (k := 55) (n := 11093) (Nat.le_refl _) (Nat.le_refl _) ?_
  refine lv_dup hx hb d_law_law_11 rfl ?_
  refine cI (wl := wC cA h zS zS) (w0 := [(q1, .inr (5, [.int 0, .null, .null, .null, .null, .null, .null, .null, .null, .null, .null, .int 0, .int 0, .int 0, .null, .null, .int 0, .int 0, .null, .null, .null, .null, .int 0, .null]))]) (c_M_init l D cA q1) (LkI.of tw_292 tw_6 tw_291 (by decide +kernel)) tw_290 hx hb hml hown hts hKK hP hD hS hA hl.1 ⟨by decide, by decide⟩ ⟨Nat.le_of_ble_eq_true rfl, Nat.le_of_ble_eq_true rfl⟩ (Nat.le_of_ble_eq_true rfl) d_law_law_12 (fun g H locs e1 hP hD hS => ?_)
  rw [← e1]
  refine W.widen (k := 600000) (n := 7302250) (Nat.le_of_ble_eq_true rfl) (Nat.le_of_ble_eq_true rfl) ?_
  refine lv_astore_n (lv' := [(2, .ref (g 0)), (1, .ref (h 0)), (0, .ref b)]) hx hb d_law_law_15 rfl hl (by decide) rfl (fun ls hl => ?_)
  refine lv_iconst (v := 0) hx hb d_law_law_16 (by decide) ?_
  refine lv_istore_n (lv' := [(3, .int 0), (2, .ref (g 0)), (1, .ref (h 0)), (0, .ref b)]) hx hb d_law_law_17 rfl hl (by decide) rfl (fun ls hl => ?_)
  exact law_loop (h := h) (g := g) hL ⟨hx, hb, hml, hown, hts, hKK, hX, hbl⟩ hr hlocks (L + 1) 0 0 zS zS zS _ _ _ (Nat.zero_le L) (by omega) nI_0.symm Inv_0 hP hD hS (lv_sub hl [3, 2, 1, 0] rfl)
end
section
-- ===== YOUR PART ENDS =====
set_option maxHeartbeats 4000000 in
theorem lw_walk (l : Launch) (b : Addr) (xs : List Int32) : MetFree l x (headSpec (Jvm.Cond.code x code maxLocals ret :: tables_1) room_1) (lw_P b xs) (fun _ _ _ _ _ => True) lw_Q := by
  refine MetFree.of_bodyS (code := code) (maxLocals := maxLocals) (ret := ret) (by decide) ?_ ?_
  · intro args s m h hn
    obtain ⟨meth, c, h1, h2, h3, h4, h5, h6, -, -⟩ := Cond.code_spec hn (atoms_spec (ws := Jvm.Cond.code x code maxLocals ret :: tables_1) h _ List.mem_cons_self)
    exact ⟨meth, c, h1, h2, h3, h4, h5, h6⟩
  · intro p e s m args below meth c s₁ B hml0 hP _
    obtain ⟨rfl, hx, hbd, hgv⟩ := hP
    obtain ⟨scr, harrAt, hlist, hof, hsmall⟩ := hx
    obtain ⟨hcb, hkn, -, -⟩ := State.arrayAt?_spec harrAt
    have hown : s.vm.findClass R_law = some m.cls := findClass_of_methodNamed B.named
    have hts0 : ∀ c ∈ (Jvm.Cond.code x code maxLocals ret :: tables_1), c.before #[Value.ref b] s = true := atoms_spec (ws := Jvm.Cond.code x code maxLocals ret :: tables_1) B.pre
    have hts : ∀ w ∈ lw_tbl, w.before #[Value.ref b] s = true := k2_hts_sels lw_privs (fun w hw => hts0 w (List.mem_cons_of_mem _ hw)) lw_privs_ok
    have hml : c.maxLocals = 4 := B.maxLocals_eq (hts0 _ List.mem_cons_self)
    have X₀ : Stand p l e room_1 s m #[Value.ref b] below meth c s₁ [] 0 0 := Stand.of_body B
    have hh0 : s₁.heap = s.heap := by rw [B.state]; rfl
    have hsz : scr.slots.size = xs.length := by rw [← Array.length_toList, hlist, List.length_map]
    have hval : ∀ j : Nat, j < xs.length → scr.slots[j]? = some (.int (xs.getD j 0)) := fun j hj => by
      rw [← Array.getElem?_toList, hlist]
      simp [hj]
    have hbl : b < s.heap.size := (Array.getElem?_eq_some_iff.mp hcb).1
    have hX : va_X b xs.length (fun j => xs.getD j 0) s s.heap := ⟨scr, hcb, hof, hkn, hsz, hval⟩
    have K : W p l e room_1 s m #[Value.ref b] below meth c s₁.heap [] 0 0 (lw_Z below #[Value.ref b] s) (entryFrame m ([Value.ref b] : List Value).toArray 4) := by
      rw [hh0]
      exact whole_start l hbd ⟨B.exec, B.bytes, B.returns, hml, hown, hts, hX, hbl, B.notSynchronized, hgv⟩
    obtain ⟨t, a1, o, b1, b2, b3⟩ := K s₁ rfl X₀
    exact ⟨t, o, a1, b1, b2, b3⟩
theorem lw_pre_spec {args : Array Value} {s : State} (h : (Jvm.Cond.and given_1 narrow_1).before args s = true) (hr : rest_1_c.before args s = true) : ∃ (b : Addr) (xs : List Int32), lw_P b xs args s := by
  have hs := flat_of_before _ h
  have hq := flat_of_before _ hr
  have hc : (Cond.count 1).before args s = true := hs _ (by decide +kernel)
  have harr : (Cond.arrayOf (.arg 0) .int).before args s = true := hs _ (by decide +kernel)
  have hle : (Cond.le (.length (.arg 0)) (.int 4096)).before args s = true := hs _ (by decide +kernel)
  have hlen : (Cond.isInt (.length (.arg 0))).before args s = true := hq _ (by decide +kernel)
  have hall : (Cond.all (.arg 0) (.isInt (.elem (.arg 0) (.index 0)))).before args s = true := hq _ (by decide +kernel)
  obtain ⟨b, xs, hb, hx⟩ := State.ints_of_pre rfl harr hlen hall
  have hsm : xs.length < 2 ^ 31 := hx.choose_spec.2.2.2
  have hev : (Term.length (.arg 0)).eval args s none [] s = some (.int xs.length.toInt32) := hx.length_eval hb
  have hv := Cond.le_ints hev (show (Term.int 4096).eval args s none [] s = some (.int 4096) from rfl)
  have hd : xs.length.toInt32 ≤ 4096 := by
    simpa [Cond.before, Cond.holds, hv] using hle
  have hN : xs.length ≤ 4096 := (Int32.ofNat_le_ofNat hsm (by decide)).mp (show Int32.ofNat xs.length ≤ Int32.ofNat 4096 from hd)
  exact ⟨b, xs, Cond.one_arg hc (show args[0]? = some (.ref b) from hb), hx, hN, h⟩
theorem lw_comes (l : Launch) : Comes l x (Jvm.Cond.code x code maxLocals ret :: tables_1) room_1 (fun tb e args s => Calls_1 tb e args s ∧ rest_1 tb e args s ∧ Pre_1 tb e args s)
    (fun _ _ args s o t => lw_Q args s o t) := by
  intro p e ha hc hk s m args below hf hfit hheap happ hpre
  obtain ⟨b, xs, hP⟩ := lw_pre_spec hpre.2.2 hpre.2.1
  obtain ⟨k, o, h1, h2, h3, hQ⟩ := lw_walk l b xs p e ha hc hk s m args below hf ((Spec.applies_iff_loose hf).mp happ).1 hP trivial
  exact ⟨k, o, h1, h2, h3, hQ⟩
theorem lw_frame {s t : State} {o : Outcome} {args : Array Value} (h : Framed s o t [] 600000 7302250) :
    Framed s o t (fieldLocs frame_1_writes args s ++ arrayLocs frame_1_arrays args s ++ staticLocs frame_1_statics s) 600000 7302250 := h
theorem lw_limb (L : Cond) (hL : ∀ (args : Array Value) (s t : State), L.after args s (.returned (some (.int 1))) t = true) :
    ArmFor flags0 classFile x code maxLocals ret World_1 tables_1 room_1 Calls_1 rest_1 Pre_1
      (fun tb e a s o t => postC L tb e a s o t ∧ Framed s o t (fieldLocs frame_1_writes a s ++ arrayLocs frame_1_arrays a s ++ staticLocs frame_1_statics s) 600000 7302250) := by
  intro l _ _ _ p e ha hc hk s m args below hf hfit hheap happ hpre
  obtain ⟨k, o, h1, h2, h3, rfl, hF⟩ := lw_comes l p e ha hc hk s m args below hf hfit hheap happ hpre
  exact ⟨k, _, h1, h2, h3, hL args s _, lw_frame hF⟩
theorem i_vc : Claimed_1_1 ∧ Claimed_1_2 := ⟨lw_limb limb_1_1 (fun args s t => by simp [limb_1_1, Cond.after, Cond.holds, Cond.value]), lw_limb limb_1_2 (fun args s t => Cond.after_iff.mpr (by
  first | (rw [show limb_1_2 = Cond.eq .result (.int 1) from rfl, Cond.eq_ints (x := 1) (y := 1) rfl rfl]; simp; done) | (simp [limb_1_2, Cond.value, Term.eval]; done)))⟩
end
