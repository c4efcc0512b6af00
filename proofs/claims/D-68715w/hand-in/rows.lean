section
-- ===== PART A: goes FIRST, ahead of the names: the tables' words, and 'selects' of the private methods out of them =====
/-- a private method of a class that the tables say can be made, by its rows of tables_1 -/
def lw_okq (q : MethodName × Nat) : Prop := (q.1.cls ≠ "java/lang/invoke/MethodHandle" ∧ q.1.cls ≠ "java/lang/invoke/VarHandle") ∧ Cond.instantiable q.1.cls q.2 ∈ tables_1 ∧ Cond.privateMethod q.1 ∈ tables_1 ∧ Cond.instanceMethod q.1 ∈ tables_1
theorem lw_p0 : lw_okq (⟨"PacketStore$Store", "drop", "()V"⟩, 9) := ⟨⟨by decide +kernel, by decide +kernel⟩, List.mem_of_getElem? (i := 16) (by decide +kernel), List.mem_of_getElem? (i := 121) (by decide +kernel), List.mem_of_getElem? (i := 122) (by decide +kernel)⟩
theorem lw_p1 : lw_okq (⟨"PacketStore$Store", "row", "(I)I"⟩, 9) := ⟨⟨by decide +kernel, by decide +kernel⟩, List.mem_of_getElem? (i := 16) (by decide +kernel), List.mem_of_getElem? (i := 129) (by decide +kernel), List.mem_of_getElem? (i := 130) (by decide +kernel)⟩
theorem lw_p2 : lw_okq (⟨"PacketStore$Store", "place", "(I)I"⟩, 9) := ⟨⟨by decide +kernel, by decide +kernel⟩, List.mem_of_getElem? (i := 16) (by decide +kernel), List.mem_of_getElem? (i := 180) (by decide +kernel), List.mem_of_getElem? (i := 181) (by decide +kernel)⟩
theorem lw_p3 : lw_okq (⟨"PacketStoreModel", "goes", "()V"⟩, 18) := ⟨⟨by decide +kernel, by decide +kernel⟩, List.mem_of_getElem? (i := 209) (by decide +kernel), List.mem_of_getElem? (i := 278) (by decide +kernel), List.mem_of_getElem? (i := 279) (by decide +kernel)⟩
theorem lw_p4 : lw_okq (⟨"PacketStoreModel", "start", "(I)I"⟩, 18) := ⟨⟨by decide +kernel, by decide +kernel⟩, List.mem_of_getElem? (i := 209) (by decide +kernel), List.mem_of_getElem? (i := 298) (by decide +kernel), List.mem_of_getElem? (i := 299) (by decide +kernel)⟩
def lw_privs_1 : List (MethodName × Nat) := [(⟨"PacketStore$Store", "drop", "()V"⟩, 9), (⟨"PacketStore$Store", "row", "(I)I"⟩, 9), (⟨"PacketStore$Store", "place", "(I)I"⟩, 9), (⟨"PacketStoreModel", "goes", "()V"⟩, 18), (⟨"PacketStoreModel", "start", "(I)I"⟩, 18)]
theorem lw_r1 : ∀ q ∈ lw_privs_1, lw_okq q := List.forall_mem_cons.mpr ⟨lw_p0, List.forall_mem_cons.mpr ⟨lw_p1, List.forall_mem_cons.mpr ⟨lw_p2, List.forall_mem_cons.mpr ⟨lw_p3, List.forall_mem_cons.mpr ⟨lw_p4, fun _ h => absurd h List.not_mem_nil⟩⟩⟩⟩⟩
def lw_privs : List (MethodName × Nat) := lw_privs_1
def lw_tbl : List Cond := k2_sels lw_privs ++ tables_1
theorem lw_privs_ok : ∀ q ∈ lw_privs, lw_okq q := lw_r1
-- names
def R_PS : String := "PacketStore"
def R_St : String := "PacketStore$Store"
def R_Rt : String := "PacketStore$Retrieval"
def R_Md : String := "PacketStoreModel"
def R_law : String := "PacketStoreLaw"
def F_PS : u_T := fun k => match k with
  | 0 => ("PacketStore", "store", "LPacketStore$Store;", true)
  | 1 => ("PacketStore", "retrieval", "LPacketStore$Retrieval;", true)
  | 2 => ("PacketStore", "text", "[B", true)
  | 3 => ("PacketStore", "out", "[B", true)
  | 4 => ("PacketStore", "size", "I", false)
  | _ => ("PacketStore", "came", "I", false)
def t_PS : Nat → FieldType := fun k => match k with
  | 0 => .object "PacketStore$Store"
  | 1 => .object "PacketStore$Retrieval"
  | 2 => .array .byte
  | 3 => .array .byte
  | 4 => .int
  | _ => .int
abbrev w_PS : List Cond := u_ws R_PS F_PS 6
def F_St : u_T := fun k => match k with
  | 0 => ("PacketStore$Store", "bytes", "[B", true)
  | 1 => ("PacketStore$Store", "times", "[I", true)
  | 2 => ("PacketStore$Store", "sizes", "[S", true)
  | 3 => ("PacketStore$Store", "oldest", "I", false)
  | 4 => ("PacketStore$Store", "many", "I", false)
  | 5 => ("PacketStore$Store", "first", "I", false)
  | 6 => ("PacketStore$Store", "used", "I", false)
  | 7 => ("PacketStore$Store", "driven", "I", false)
  | _ => ("PacketStore$Store", "deleted", "I", false)
def t_St : Nat → FieldType := fun k => match k with
  | 0 => .array .byte
  | 1 => .array .int
  | 2 => .array .short
  | 3 => .int
  | 4 => .int
  | 5 => .int
  | 6 => .int
  | 7 => .int
  | _ => .int
abbrev w_St : List Cond := u_ws R_St F_St 9
def F_Rt : u_T := fun k => match k with
  | 0 => ("PacketStore$Retrieval", "store", "LPacketStore$Store;", true)
  | 1 => ("PacketStore$Retrieval", "goes", "Z", false)
  | 2 => ("PacketStore$Retrieval", "from", "I", false)
  | 3 => ("PacketStore$Retrieval", "to", "I", false)
  | _ => ("PacketStore$Retrieval", "next", "I", false)
def t_Rt : Nat → FieldType := fun k => match k with
  | 0 => .object "PacketStore$Store"
  | 1 => .boolean
  | 2 => .int
  | 3 => .int
  | _ => .int
abbrev w_Rt : List Cond := u_ws R_Rt F_Rt 5
def F_Md : u_T := fun k => match k with
  | 0 => ("PacketStoreModel", "thrown", "I", false)
  | 1 => ("PacketStoreModel", "room", "I", true)
  | 2 => ("PacketStoreModel", "text", "[B", true)
  | 3 => ("PacketStoreModel", "textSize", "I", false)
  | 4 => ("PacketStoreModel", "out", "[B", true)
  | 5 => ("PacketStoreModel", "outSize", "I", false)
  | 6 => ("PacketStoreModel", "many", "I", false)
  | 7 => ("PacketStoreModel", "time", "[I", true)
  | 8 => ("PacketStoreModel", "size", "[I", true)
  | 9 => ("PacketStoreModel", "bytes", "[B", true)
  | 10 => ("PacketStoreModel", "used", "I", false)
  | 11 => ("PacketStoreModel", "came", "I", false)
  | 12 => ("PacketStoreModel", "driven", "I", false)
  | 13 => ("PacketStoreModel", "deleted", "I", false)
  | 14 => ("PacketStoreModel", "retrieves", "Z", false)
  | 15 => ("PacketStoreModel", "from", "I", false)
  | 16 => ("PacketStoreModel", "to", "I", false)
  | _ => ("PacketStoreModel", "looks", "I", false)
def t_Md : Nat → FieldType := fun k => match k with
  | 0 => .int
  | 1 => .int
  | 2 => .array .byte
  | 3 => .int
  | 4 => .array .byte
  | 5 => .int
  | 6 => .int
  | 7 => .array .int
  | 8 => .array .int
  | 9 => .array .byte
  | 10 => .int
  | 11 => .int
  | 12 => .int
  | 13 => .int
  | 14 => .boolean
  | 15 => .int
  | 16 => .int
  | _ => .int
abbrev w_Md : List Cond := u_ws R_Md F_Md 18
abbrev classes : List vw_C := [(R_PS, F_PS, 6), (R_St, F_St, 9), (R_Rt, F_Rt, 5), (R_Md, F_Md, 18)]
-- methods
abbrev b_PS_init : ByteArray := prog_1_method_1_code
def y_PS_init : MethodName := ⟨R_PS, "<init>", "(I)V"⟩
abbrev b_St_init : ByteArray := prog_3_method_1_code
def y_St_init : MethodName := ⟨R_St, "<init>", "(I)V"⟩
abbrev b_Rt_init : ByteArray := prog_2_method_1_code
def y_Rt_init : MethodName := ⟨R_Rt, "<init>", "(LPacketStore$Store;)V"⟩
abbrev b_PS_put : ByteArray := prog_1_method_2_code
def y_PS_put : MethodName := ⟨R_PS, "put", "(I)I"⟩
abbrev b_PS_keep : ByteArray := prog_1_method_3_code
def y_PS_keep : MethodName := ⟨R_PS, "keep", "(I)I"⟩
abbrev b_St_keep : ByteArray := prog_3_method_7_code
def y_St_keep : MethodName := ⟨R_St, "keep", "([BII)I"⟩
abbrev b_St_drop : ByteArray := prog_3_method_6_code
def y_St_drop : MethodName := ⟨R_St, "drop", "()V"⟩
abbrev b_St_size : ByteArray := prog_3_method_3_code
def y_St_size : MethodName := ⟨R_St, "size", "(I)I"⟩
abbrev b_St_row : ByteArray := prog_3_method_2_code
def y_St_row : MethodName := ⟨R_St, "row", "(I)I"⟩
abbrev b_St_behind : ByteArray := prog_3_method_5_code
def y_St_behind : MethodName := ⟨R_St, "behind", "()I"⟩
abbrev b_PS_delete : ByteArray := prog_1_method_4_code
def y_PS_delete : MethodName := ⟨R_PS, "delete", "(I)I"⟩
abbrev b_St_delete : ByteArray := prog_3_method_8_code
def y_St_delete : MethodName := ⟨R_St, "delete", "(I)I"⟩
abbrev b_St_time : ByteArray := prog_3_method_4_code
def y_St_time : MethodName := ⟨R_St, "time", "(I)I"⟩
abbrev b_PS_begin : ByteArray := prog_1_method_5_code
def y_PS_begin : MethodName := ⟨R_PS, "begin", "(II)Z"⟩
abbrev b_Rt_begin : ByteArray := prog_2_method_2_code
def y_Rt_begin : MethodName := ⟨R_Rt, "begin", "(II)V"⟩
abbrev b_PS_stop : ByteArray := prog_1_method_6_code
def y_PS_stop : MethodName := ⟨R_PS, "stop", "()Z"⟩
abbrev b_PS_next : ByteArray := prog_1_method_7_code
def y_PS_next : MethodName := ⟨R_PS, "next", "(I)I"⟩
abbrev b_Rt_find : ByteArray := prog_2_method_3_code
def y_Rt_find : MethodName := ⟨R_Rt, "find", "()I"⟩
abbrev b_St_copy : ByteArray := prog_3_method_11_code
def y_St_copy : MethodName := ⟨R_St, "copy", "(I[B)V"⟩
abbrev b_St_place : ByteArray := prog_3_method_9_code
def y_St_place : MethodName := ⟨R_St, "place", "(I)I"⟩
abbrev b_PS_out : ByteArray := prog_1_method_8_code
def y_PS_out : MethodName := ⟨R_PS, "out", "(I)I"⟩
abbrev b_PS_count : ByteArray := prog_1_method_9_code
def y_PS_count : MethodName := ⟨R_PS, "count", "(I)I"⟩
abbrev b_PS_about : ByteArray := prog_1_method_10_code
def y_PS_about : MethodName := ⟨R_PS, "about", "(II)I"⟩
abbrev b_PS_byteAt : ByteArray := prog_1_method_11_code
def y_PS_byteAt : MethodName := ⟨R_PS, "byteAt", "(II)I"⟩
abbrev b_St_byteAt : ByteArray := prog_3_method_10_code
def y_St_byteAt : MethodName := ⟨R_St, "byteAt", "(II)I"⟩
abbrev b_law_cell : ByteArray := method_2_code
def y_law_cell : MethodName := ⟨R_law, "cell", "([II)I"⟩
abbrev b_Md_init : ByteArray := prog_5_method_1_code
def y_Md_init : MethodName := ⟨R_Md, "<init>", "(I)V"⟩
abbrev b_Md_put : ByteArray := prog_5_method_5_code
def y_Md_put : MethodName := ⟨R_Md, "put", "(I)I"⟩
abbrev b_Md_keep : ByteArray := prog_5_method_6_code
def y_Md_keep : MethodName := ⟨R_Md, "keep", "(I)I"⟩
abbrev b_Md_goes : ByteArray := prog_5_method_4_code
def y_Md_goes : MethodName := ⟨R_Md, "goes", "()V"⟩
abbrev b_Md_delete : ByteArray := prog_5_method_7_code
def y_Md_delete : MethodName := ⟨R_Md, "delete", "(I)I"⟩
abbrev b_Md_begin : ByteArray := prog_5_method_8_code
def y_Md_begin : MethodName := ⟨R_Md, "begin", "(II)Z"⟩
abbrev b_Md_stop : ByteArray := prog_5_method_9_code
def y_Md_stop : MethodName := ⟨R_Md, "stop", "()Z"⟩
abbrev b_Md_next : ByteArray := prog_5_method_10_code
def y_Md_next : MethodName := ⟨R_Md, "next", "(I)I"⟩
abbrev b_Md_start : ByteArray := prog_5_method_3_code
def y_Md_start : MethodName := ⟨R_Md, "start", "(I)I"⟩
abbrev b_Md_out : ByteArray := prog_5_method_11_code
def y_Md_out : MethodName := ⟨R_Md, "out", "(I)I"⟩
abbrev b_Md_count : ByteArray := prog_5_method_12_code
def y_Md_count : MethodName := ⟨R_Md, "count", "(I)I"⟩
abbrev b_Md_about : ByteArray := prog_5_method_13_code
def y_Md_about : MethodName := ⟨R_Md, "about", "(II)I"⟩
abbrev b_Md_byteAt : ByteArray := prog_5_method_14_code
def y_Md_byteAt : MethodName := ⟨R_Md, "byteAt", "(II)I"⟩
-- rows that a program decides
theorem n_PS : ∀ a, a < 6 → ∀ b, b < 6 → a ≠ b → (F_PS a).2.1 ≠ (F_PS b).2.1 := by decide +kernel
theorem t_PS_ok : ∀ k, k < 6 → parseFieldDescriptor (F_PS k).2.2.1 = some (t_PS k) := by decide +kernel
theorem n_St : ∀ a, a < 9 → ∀ b, b < 9 → a ≠ b → (F_St a).2.1 ≠ (F_St b).2.1 := by decide +kernel
theorem t_St_ok : ∀ k, k < 9 → parseFieldDescriptor (F_St k).2.2.1 = some (t_St k) := by decide +kernel
theorem n_Rt : ∀ a, a < 5 → ∀ b, b < 5 → a ≠ b → (F_Rt a).2.1 ≠ (F_Rt b).2.1 := by decide +kernel
theorem t_Rt_ok : ∀ k, k < 5 → parseFieldDescriptor (F_Rt k).2.2.1 = some (t_Rt k) := by decide +kernel
theorem n_Md : ∀ a, a < 18 → ∀ b, b < 18 → a ≠ b → (F_Md a).2.1 ≠ (F_Md b).2.1 := by decide +kernel
theorem t_Md_ok : ∀ k, k < 18 → parseFieldDescriptor (F_Md k).2.2.1 = some (t_Md k) := by decide +kernel
def lw_nest : Cond → Bool
  | .fieldLinkNest .. => true
  | _ => false
/-- the words that a contract may carry: all of the tables but privateMethod -/
def lw_g : List Cond := lw_tbl.filter (fun w => goodWord w || lw_nest w)
theorem lw_g_of {args : Array Value} {s : State} (h : ∀ w ∈ lw_tbl, w.before args s = true) : ∀ w ∈ lw_g, w.before args s = true := fun w hw => h w (List.mem_filter.mp hw).1
/-- every word of the tables holds at every warmer state -/
theorem lw_pay {args : Array Value} {s : State} (hT : ∀ w ∈ lw_g, w.before args s = true) : ∀ w ∈ lw_g, ∀ (a' : Array Value) (U : State), s.WarmedH U.vm → w.before a' U = true := by
  intro w hw a' U hW
  have h1 := (List.mem_filter.mp hw).2
  rcases (Bool.or_eq_true _ _).mp h1 with h | h
  · exact word_at hW (good_of_word h) (hT w hw)
  · cases w <;> first | exact absurd h Bool.false_ne_true | exact va_Nw.use rfl (va_Nw.warmF hW (va_Nw.of rfl (hT _ hw)))
theorem i_PS : ∀ w ∈ w_PS, w ∈ lw_g := by decide +kernel
theorem i_St : ∀ w ∈ w_St, w ∈ lw_g := by decide +kernel
theorem i_Rt : ∀ w ∈ w_Rt, w ∈ lw_g := by decide +kernel
theorem i_Md : ∀ w ∈ w_Md, w ∈ lw_g := by decide +kernel
-- the words of the tables, by their places
theorem tb_1_0 : (Cond.initialized R_law) ∈ lw_g := List.mem_filter.mpr ⟨List.mem_append_right _ (List.mem_append_left _ (List.mem_of_getElem? (i := 0) rfl)), rfl⟩
theorem tb_1_1 : (Cond.initialized R_PS) ∈ lw_g := List.mem_filter.mpr ⟨List.mem_append_right _ (List.mem_append_left _ (List.mem_of_getElem? (i := 1) rfl)), rfl⟩
theorem tb_1_2 : (Cond.initialized R_St) ∈ lw_g := List.mem_filter.mpr ⟨List.mem_append_right _ (List.mem_append_left _ (List.mem_of_getElem? (i := 2) rfl)), rfl⟩
theorem tb_1_3 : (Cond.initialized "java/lang/Math") ∈ lw_g := List.mem_filter.mpr ⟨List.mem_append_right _ (List.mem_append_left _ (List.mem_of_getElem? (i := 3) rfl)), rfl⟩
theorem tb_1_4 : (Cond.initialized R_Rt) ∈ lw_g := List.mem_filter.mpr ⟨List.mem_append_right _ (List.mem_append_left _ (List.mem_of_getElem? (i := 4) rfl)), rfl⟩
theorem tb_1_5 : (Cond.initialized R_Md) ∈ lw_g := List.mem_filter.mpr ⟨List.mem_append_right _ (List.mem_append_left _ (List.mem_of_getElem? (i := 5) rfl)), rfl⟩
theorem tb_1_6 : (Cond.initialized "java/lang/System") ∈ lw_g := List.mem_filter.mpr ⟨List.mem_append_right _ (List.mem_append_left _ (List.mem_of_getElem? (i := 6) rfl)), rfl⟩
theorem tb_1_7 : (Cond.classLink R_law 7 R_PS) ∈ lw_g := List.mem_filter.mpr ⟨List.mem_append_right _ (List.mem_append_left _ (List.mem_of_getElem? (i := 7) rfl)), rfl⟩
theorem tb_1_8 : (Cond.instantiable R_PS 6) ∈ lw_g := List.mem_filter.mpr ⟨List.mem_append_right _ (List.mem_append_left _ (List.mem_of_getElem? (i := 8) rfl)), rfl⟩
theorem tb_1_9 : (Cond.methodLink R_law 15 y_PS_init) ∈ lw_g := List.mem_filter.mpr ⟨List.mem_append_right _ (List.mem_append_left _ (List.mem_of_getElem? (i := 9) rfl)), rfl⟩
theorem tb_1_10 : (Cond.instanceMethod y_PS_init) ∈ lw_g := List.mem_filter.mpr ⟨List.mem_append_right _ (List.mem_append_left _ (List.mem_of_getElem? (i := 10) rfl)), rfl⟩
theorem tb_1_11 : (Cond.code y_PS_init b_PS_init 2 none) ∈ lw_g := List.mem_filter.mpr ⟨List.mem_append_right _ (List.mem_append_left _ (List.mem_of_getElem? (i := 11) rfl)), rfl⟩
theorem tb_1_12 : (Cond.methodLink R_PS 1 objectInit) ∈ lw_g := List.mem_filter.mpr ⟨List.mem_append_right _ (List.mem_append_left _ (List.mem_of_getElem? (i := 12) rfl)), rfl⟩
theorem tb_1_13 : (Cond.instanceMethod objectInit) ∈ lw_g := List.mem_filter.mpr ⟨List.mem_append_right _ (List.mem_append_left _ (List.mem_of_getElem? (i := 13) rfl)), rfl⟩
theorem tb_1_14 : (Cond.code objectInit ⟨#[0xb1]⟩ 1 none) ∈ lw_g := List.mem_filter.mpr ⟨List.mem_append_right _ (List.mem_append_left _ (List.mem_of_getElem? (i := 14) rfl)), rfl⟩
theorem tb_1_15 : (Cond.classLink R_PS 16 R_St) ∈ lw_g := List.mem_filter.mpr ⟨List.mem_append_right _ (List.mem_append_left _ (List.mem_of_getElem? (i := 15) rfl)), rfl⟩
theorem tb_1_16 : (Cond.instantiable R_St 9) ∈ lw_g := List.mem_filter.mpr ⟨List.mem_append_right _ (List.mem_append_left _ (List.mem_of_getElem? (i := 16) rfl)), rfl⟩
theorem tb_1_17 : (Cond.methodLink R_PS 18 Lib.Math.max.name) ∈ lw_g := List.mem_filter.mpr ⟨List.mem_append_right _ (List.mem_append_left _ (List.mem_of_getElem? (i := 17) rfl)), rfl⟩
theorem tb_1_18 : (Cond.static Lib.Math.max.name) ∈ lw_g := List.mem_filter.mpr ⟨List.mem_append_right _ (List.mem_append_left _ (List.mem_of_getElem? (i := 18) rfl)), rfl⟩
theorem tb_1_19 : (Cond.code Lib.Math.max.name Lib.Math.max.code 2 (some .int)) ∈ lw_g := List.mem_filter.mpr ⟨List.mem_append_right _ (List.mem_append_left _ (List.mem_of_getElem? (i := 19) rfl)), rfl⟩
theorem tb_1_20 : (Cond.methodLink R_PS 24 Lib.Math.min.name) ∈ lw_g := List.mem_filter.mpr ⟨List.mem_append_right _ (List.mem_append_left _ (List.mem_of_getElem? (i := 20) rfl)), rfl⟩
theorem tb_1_21 : (Cond.static Lib.Math.min.name) ∈ lw_g := List.mem_filter.mpr ⟨List.mem_append_right _ (List.mem_append_left _ (List.mem_of_getElem? (i := 21) rfl)), rfl⟩
theorem tb_1_22 : (Cond.code Lib.Math.min.name Lib.Math.min.code 2 (some .int)) ∈ lw_g := List.mem_filter.mpr ⟨List.mem_append_right _ (List.mem_append_left _ (List.mem_of_getElem? (i := 22) rfl)), rfl⟩
theorem tb_1_23 : (Cond.methodLink R_PS 27 y_St_init) ∈ lw_g := List.mem_filter.mpr ⟨List.mem_append_right _ (List.mem_append_left _ (List.mem_of_getElem? (i := 23) rfl)), rfl⟩
theorem tb_1_24 : (Cond.instanceMethod y_St_init) ∈ lw_g := List.mem_filter.mpr ⟨List.mem_append_right _ (List.mem_append_left _ (List.mem_of_getElem? (i := 24) rfl)), rfl⟩
theorem tb_1_25 : (Cond.code y_St_init b_St_init 2 none) ∈ lw_g := List.mem_filter.mpr ⟨List.mem_append_right _ (List.mem_append_left _ (List.mem_of_getElem? (i := 25) rfl)), rfl⟩
theorem tb_1_26 : (Cond.methodLink R_St 1 objectInit) ∈ lw_g := List.mem_filter.mpr ⟨List.mem_append_right _ (List.mem_append_left _ (List.mem_of_getElem? (i := 26) rfl)), rfl⟩
theorem tb_1_27 : (Cond.fieldLink R_St 7 "PacketStore$Store" "bytes" "[B") ∈ lw_g := List.mem_filter.mpr ⟨List.mem_append_right _ (List.mem_append_left _ (List.mem_of_getElem? (i := 27) rfl)), rfl⟩
theorem tb_1_28 : (Cond.fieldLinkNest R_PS 47 "PacketStore$Store" "bytes" "[B" "PacketStore") ∈ lw_g := List.mem_filter.mpr ⟨List.mem_append_right _ (List.mem_append_left _ (List.mem_of_getElem? (i := 28) rfl)), rfl⟩
theorem tb_1_29 : (Cond.fieldLink R_St 13 "PacketStore$Store" "times" "[I") ∈ lw_g := List.mem_filter.mpr ⟨List.mem_append_right _ (List.mem_append_left _ (List.mem_of_getElem? (i := 29) rfl)), rfl⟩
theorem tb_1_30 : (Cond.fieldLink R_St 17 "PacketStore$Store" "sizes" "[S") ∈ lw_g := List.mem_filter.mpr ⟨List.mem_append_right _ (List.mem_append_left _ (List.mem_of_getElem? (i := 30) rfl)), rfl⟩
theorem tb_1_31 : (Cond.fieldLinkNest R_Rt 26 "PacketStore$Store" "oldest" "I" "PacketStore") ∈ lw_g := List.mem_filter.mpr ⟨List.mem_append_right _ (List.mem_append_left _ (List.mem_of_getElem? (i := 31) rfl)), rfl⟩
theorem tb_1_32 : (Cond.fieldLink R_St 25 "PacketStore$Store" "oldest" "I") ∈ lw_g := List.mem_filter.mpr ⟨List.mem_append_right _ (List.mem_append_left _ (List.mem_of_getElem? (i := 32) rfl)), rfl⟩
theorem tb_1_33 : (Cond.fieldLinkNest R_PS 97 "PacketStore$Store" "oldest" "I" "PacketStore") ∈ lw_g := List.mem_filter.mpr ⟨List.mem_append_right _ (List.mem_append_left _ (List.mem_of_getElem? (i := 33) rfl)), rfl⟩
theorem tb_1_34 : (Cond.fieldLink R_St 29 "PacketStore$Store" "many" "I") ∈ lw_g := List.mem_filter.mpr ⟨List.mem_append_right _ (List.mem_append_left _ (List.mem_of_getElem? (i := 34) rfl)), rfl⟩
theorem tb_1_35 : (Cond.fieldLinkNest R_PS 82 "PacketStore$Store" "many" "I" "PacketStore") ∈ lw_g := List.mem_filter.mpr ⟨List.mem_append_right _ (List.mem_append_left _ (List.mem_of_getElem? (i := 35) rfl)), rfl⟩
theorem tb_1_36 : (Cond.fieldLink R_St 35 "PacketStore$Store" "first" "I") ∈ lw_g := List.mem_filter.mpr ⟨List.mem_append_right _ (List.mem_append_left _ (List.mem_of_getElem? (i := 36) rfl)), rfl⟩
theorem tb_1_37 : (Cond.fieldLink R_St 38 "PacketStore$Store" "used" "I") ∈ lw_g := List.mem_filter.mpr ⟨List.mem_append_right _ (List.mem_append_left _ (List.mem_of_getElem? (i := 37) rfl)), rfl⟩
theorem tb_1_38 : (Cond.fieldLinkNest R_PS 85 "PacketStore$Store" "used" "I" "PacketStore") ∈ lw_g := List.mem_filter.mpr ⟨List.mem_append_right _ (List.mem_append_left _ (List.mem_of_getElem? (i := 38) rfl)), rfl⟩
theorem tb_1_39 : (Cond.fieldLink R_St 44 "PacketStore$Store" "driven" "I") ∈ lw_g := List.mem_filter.mpr ⟨List.mem_append_right _ (List.mem_append_left _ (List.mem_of_getElem? (i := 39) rfl)), rfl⟩
theorem tb_1_40 : (Cond.fieldLinkNest R_PS 91 "PacketStore$Store" "driven" "I" "PacketStore") ∈ lw_g := List.mem_filter.mpr ⟨List.mem_append_right _ (List.mem_append_left _ (List.mem_of_getElem? (i := 40) rfl)), rfl⟩
theorem tb_1_41 : (Cond.fieldLink R_St 66 "PacketStore$Store" "deleted" "I") ∈ lw_g := List.mem_filter.mpr ⟨List.mem_append_right _ (List.mem_append_left _ (List.mem_of_getElem? (i := 41) rfl)), rfl⟩
theorem tb_1_42 : (Cond.fieldLinkNest R_PS 94 "PacketStore$Store" "deleted" "I" "PacketStore") ∈ lw_g := List.mem_filter.mpr ⟨List.mem_append_right _ (List.mem_append_left _ (List.mem_of_getElem? (i := 42) rfl)), rfl⟩
theorem tb_1_62 : (Cond.arrayClass .byte) ∈ lw_g := List.mem_filter.mpr ⟨List.mem_append_right _ (List.mem_append_left _ (List.mem_of_getElem? (i := 62) rfl)), rfl⟩
theorem tb_1_63 : (Cond.arrayClass .int) ∈ lw_g := List.mem_filter.mpr ⟨List.mem_append_right _ (List.mem_append_left _ (List.mem_of_getElem? (i := 63) rfl)), rfl⟩
theorem tb_1_64 : (Cond.arrayClass .short) ∈ lw_g := List.mem_filter.mpr ⟨List.mem_append_right _ (List.mem_append_left _ (List.mem_of_getElem? (i := 64) rfl)), rfl⟩
theorem tb_1_65 : (Cond.classLink R_PS 34 R_Rt) ∈ lw_g := List.mem_filter.mpr ⟨List.mem_append_right _ (List.mem_append_left _ (List.mem_of_getElem? (i := 65) rfl)), rfl⟩
theorem tb_1_66 : (Cond.instantiable R_Rt 5) ∈ lw_g := List.mem_filter.mpr ⟨List.mem_append_right _ (List.mem_append_left _ (List.mem_of_getElem? (i := 66) rfl)), rfl⟩
theorem tb_1_67 : (Cond.methodLink R_PS 36 y_Rt_init) ∈ lw_g := List.mem_filter.mpr ⟨List.mem_append_right _ (List.mem_append_left _ (List.mem_of_getElem? (i := 67) rfl)), rfl⟩
theorem tb_1_68 : (Cond.instanceMethod y_Rt_init) ∈ lw_g := List.mem_filter.mpr ⟨List.mem_append_right _ (List.mem_append_left _ (List.mem_of_getElem? (i := 68) rfl)), rfl⟩
theorem tb_1_69 : (Cond.code y_Rt_init b_Rt_init 2 none) ∈ lw_g := List.mem_filter.mpr ⟨List.mem_append_right _ (List.mem_append_left _ (List.mem_of_getElem? (i := 69) rfl)), rfl⟩
theorem tb_1_70 : (Cond.methodLink R_Rt 3 objectInit) ∈ lw_g := List.mem_filter.mpr ⟨List.mem_append_right _ (List.mem_append_left _ (List.mem_of_getElem? (i := 70) rfl)), rfl⟩
theorem tb_1_71 : (Cond.fieldLink R_Rt 9 "PacketStore$Retrieval" "store" "LPacketStore$Store;") ∈ lw_g := List.mem_filter.mpr ⟨List.mem_append_right _ (List.mem_append_left _ (List.mem_of_getElem? (i := 71) rfl)), rfl⟩
theorem tb_1_72 : (Cond.fieldLink R_Rt 15 "PacketStore$Retrieval" "goes" "Z") ∈ lw_g := List.mem_filter.mpr ⟨List.mem_append_right _ (List.mem_append_left _ (List.mem_of_getElem? (i := 72) rfl)), rfl⟩
theorem tb_1_73 : (Cond.fieldLinkNest R_PS 58 "PacketStore$Retrieval" "goes" "Z" "PacketStore") ∈ lw_g := List.mem_filter.mpr ⟨List.mem_append_right _ (List.mem_append_left _ (List.mem_of_getElem? (i := 73) rfl)), rfl⟩
theorem tb_1_74 : (Cond.fieldLink R_Rt 19 "PacketStore$Retrieval" "from" "I") ∈ lw_g := List.mem_filter.mpr ⟨List.mem_append_right _ (List.mem_append_left _ (List.mem_of_getElem? (i := 74) rfl)), rfl⟩
theorem tb_1_75 : (Cond.fieldLink R_Rt 23 "PacketStore$Retrieval" "to" "I") ∈ lw_g := List.mem_filter.mpr ⟨List.mem_append_right _ (List.mem_append_left _ (List.mem_of_getElem? (i := 75) rfl)), rfl⟩
theorem tb_1_76 : (Cond.fieldLink R_Rt 31 "PacketStore$Retrieval" "next" "I") ∈ lw_g := List.mem_filter.mpr ⟨List.mem_append_right _ (List.mem_append_left _ (List.mem_of_getElem? (i := 76) rfl)), rfl⟩
theorem tb_1_77 : (Cond.fieldLinkNest R_PS 79 "PacketStore$Retrieval" "next" "I" "PacketStore") ∈ lw_g := List.mem_filter.mpr ⟨List.mem_append_right _ (List.mem_append_left _ (List.mem_of_getElem? (i := 77) rfl)), rfl⟩
theorem tb_1_89 : (Cond.fieldLink R_PS 30 "PacketStore" "store" "LPacketStore$Store;") ∈ lw_g := List.mem_filter.mpr ⟨List.mem_append_right _ (List.mem_append_left _ (List.mem_of_getElem? (i := 89) rfl)), rfl⟩
theorem tb_1_90 : (Cond.fieldLink R_PS 39 "PacketStore" "retrieval" "LPacketStore$Retrieval;") ∈ lw_g := List.mem_filter.mpr ⟨List.mem_append_right _ (List.mem_append_left _ (List.mem_of_getElem? (i := 90) rfl)), rfl⟩
theorem tb_1_91 : (Cond.fieldLink R_PS 9 "PacketStore" "text" "[B") ∈ lw_g := List.mem_filter.mpr ⟨List.mem_append_right _ (List.mem_append_left _ (List.mem_of_getElem? (i := 91) rfl)), rfl⟩
theorem tb_1_92 : (Cond.fieldLink R_PS 13 "PacketStore" "out" "[B") ∈ lw_g := List.mem_filter.mpr ⟨List.mem_append_right _ (List.mem_append_left _ (List.mem_of_getElem? (i := 92) rfl)), rfl⟩
theorem tb_1_93 : (Cond.fieldLink R_PS 43 "PacketStore" "size" "I") ∈ lw_g := List.mem_filter.mpr ⟨List.mem_append_right _ (List.mem_append_left _ (List.mem_of_getElem? (i := 93) rfl)), rfl⟩
theorem tb_1_94 : (Cond.fieldLink R_PS 76 "PacketStore" "came" "I") ∈ lw_g := List.mem_filter.mpr ⟨List.mem_append_right _ (List.mem_append_left _ (List.mem_of_getElem? (i := 94) rfl)), rfl⟩
theorem tb_1_108 : (Cond.methodLink R_law 21 y_PS_put) ∈ lw_g := List.mem_filter.mpr ⟨List.mem_append_right _ (List.mem_append_left _ (List.mem_of_getElem? (i := 108) rfl)), rfl⟩
theorem tb_1_109 : (Cond.instanceMethod y_PS_put) ∈ lw_g := List.mem_filter.mpr ⟨List.mem_append_right _ (List.mem_append_left _ (List.mem_of_getElem? (i := 109) rfl)), rfl⟩
theorem tb_1_110 : (Cond.selects R_PS y_PS_put y_PS_put) ∈ lw_g := List.mem_filter.mpr ⟨List.mem_append_right _ (List.mem_append_left _ (List.mem_of_getElem? (i := 110) rfl)), rfl⟩
theorem tb_1_111 : (Cond.code y_PS_put b_PS_put 2 (some .int)) ∈ lw_g := List.mem_filter.mpr ⟨List.mem_append_right _ (List.mem_append_left _ (List.mem_of_getElem? (i := 111) rfl)), rfl⟩
theorem tb_1_112 : (Cond.methodLink R_law 26 y_PS_keep) ∈ lw_g := List.mem_filter.mpr ⟨List.mem_append_right _ (List.mem_append_left _ (List.mem_of_getElem? (i := 112) rfl)), rfl⟩
theorem tb_1_113 : (Cond.instanceMethod y_PS_keep) ∈ lw_g := List.mem_filter.mpr ⟨List.mem_append_right _ (List.mem_append_left _ (List.mem_of_getElem? (i := 113) rfl)), rfl⟩
theorem tb_1_114 : (Cond.selects R_PS y_PS_keep y_PS_keep) ∈ lw_g := List.mem_filter.mpr ⟨List.mem_append_right _ (List.mem_append_left _ (List.mem_of_getElem? (i := 114) rfl)), rfl⟩
theorem tb_1_115 : (Cond.code y_PS_keep b_PS_keep 3 (some .int)) ∈ lw_g := List.mem_filter.mpr ⟨List.mem_append_right _ (List.mem_append_left _ (List.mem_of_getElem? (i := 115) rfl)), rfl⟩
theorem tb_1_116 : (Cond.methodLink R_PS 50 y_St_keep) ∈ lw_g := List.mem_filter.mpr ⟨List.mem_append_right _ (List.mem_append_left _ (List.mem_of_getElem? (i := 116) rfl)), rfl⟩
theorem tb_1_117 : (Cond.instanceMethod y_St_keep) ∈ lw_g := List.mem_filter.mpr ⟨List.mem_append_right _ (List.mem_append_left _ (List.mem_of_getElem? (i := 117) rfl)), rfl⟩
theorem tb_1_118 : (Cond.selects R_St y_St_keep y_St_keep) ∈ lw_g := List.mem_filter.mpr ⟨List.mem_append_right _ (List.mem_append_left _ (List.mem_of_getElem? (i := 118) rfl)), rfl⟩
theorem tb_1_119 : (Cond.code y_St_keep b_St_keep 8 (some .int)) ∈ lw_g := List.mem_filter.mpr ⟨List.mem_append_right _ (List.mem_append_left _ (List.mem_of_getElem? (i := 119) rfl)), rfl⟩
theorem tb_1_120 : (Cond.methodLink R_St 41 y_St_drop) ∈ lw_g := List.mem_filter.mpr ⟨List.mem_append_right _ (List.mem_append_left _ (List.mem_of_getElem? (i := 120) rfl)), rfl⟩
theorem tb_1_122 : (Cond.instanceMethod y_St_drop) ∈ lw_g := List.mem_filter.mpr ⟨List.mem_append_right _ (List.mem_append_left _ (List.mem_of_getElem? (i := 122) rfl)), rfl⟩
theorem tb_1_123 : (Cond.code y_St_drop b_St_drop 2 none) ∈ lw_g := List.mem_filter.mpr ⟨List.mem_append_right _ (List.mem_append_left _ (List.mem_of_getElem? (i := 123) rfl)), rfl⟩
theorem tb_1_124 : (Cond.methodLink R_St 32 y_St_size) ∈ lw_g := List.mem_filter.mpr ⟨List.mem_append_right _ (List.mem_append_left _ (List.mem_of_getElem? (i := 124) rfl)), rfl⟩
theorem tb_1_125 : (Cond.instanceMethod y_St_size) ∈ lw_g := List.mem_filter.mpr ⟨List.mem_append_right _ (List.mem_append_left _ (List.mem_of_getElem? (i := 125) rfl)), rfl⟩
theorem tb_1_126 : (Cond.selects R_St y_St_size y_St_size) ∈ lw_g := List.mem_filter.mpr ⟨List.mem_append_right _ (List.mem_append_left _ (List.mem_of_getElem? (i := 126) rfl)), rfl⟩
theorem tb_1_127 : (Cond.code y_St_size b_St_size 2 (some .int)) ∈ lw_g := List.mem_filter.mpr ⟨List.mem_append_right _ (List.mem_append_left _ (List.mem_of_getElem? (i := 127) rfl)), rfl⟩
theorem tb_1_128 : (Cond.methodLink R_St 21 y_St_row) ∈ lw_g := List.mem_filter.mpr ⟨List.mem_append_right _ (List.mem_append_left _ (List.mem_of_getElem? (i := 128) rfl)), rfl⟩
theorem tb_1_130 : (Cond.instanceMethod y_St_row) ∈ lw_g := List.mem_filter.mpr ⟨List.mem_append_right _ (List.mem_append_left _ (List.mem_of_getElem? (i := 130) rfl)), rfl⟩
theorem tb_1_131 : (Cond.code y_St_row b_St_row 2 (some .int)) ∈ lw_g := List.mem_filter.mpr ⟨List.mem_append_right _ (List.mem_append_left _ (List.mem_of_getElem? (i := 131) rfl)), rfl⟩
theorem tb_1_132 : (Cond.methodLink R_St 47 Lib.Math.min.name) ∈ lw_g := List.mem_filter.mpr ⟨List.mem_append_right _ (List.mem_append_left _ (List.mem_of_getElem? (i := 132) rfl)), rfl⟩
theorem tb_1_133 : (Cond.methodLink R_St 53 arraycopyName) ∈ lw_g := List.mem_filter.mpr ⟨List.mem_append_right _ (List.mem_append_left _ (List.mem_of_getElem? (i := 133) rfl)), rfl⟩
theorem tb_1_134 : (Cond.static arraycopyName) ∈ lw_g := List.mem_filter.mpr ⟨List.mem_append_right _ (List.mem_append_left _ (List.mem_of_getElem? (i := 134) rfl)), rfl⟩
theorem tb_1_135 : (Cond.native arraycopyName) ∈ lw_g := List.mem_filter.mpr ⟨List.mem_append_right _ (List.mem_append_left _ (List.mem_of_getElem? (i := 135) rfl)), rfl⟩
theorem tb_1_136 : (Cond.methodLink R_St 59 y_St_behind) ∈ lw_g := List.mem_filter.mpr ⟨List.mem_append_right _ (List.mem_append_left _ (List.mem_of_getElem? (i := 136) rfl)), rfl⟩
theorem tb_1_137 : (Cond.instanceMethod y_St_behind) ∈ lw_g := List.mem_filter.mpr ⟨List.mem_append_right _ (List.mem_append_left _ (List.mem_of_getElem? (i := 137) rfl)), rfl⟩
theorem tb_1_138 : (Cond.selects R_St y_St_behind y_St_behind) ∈ lw_g := List.mem_filter.mpr ⟨List.mem_append_right _ (List.mem_append_left _ (List.mem_of_getElem? (i := 138) rfl)), rfl⟩
theorem tb_1_139 : (Cond.code y_St_behind b_St_behind 1 (some .int)) ∈ lw_g := List.mem_filter.mpr ⟨List.mem_append_right _ (List.mem_append_left _ (List.mem_of_getElem? (i := 139) rfl)), rfl⟩
theorem tb_1_140 : (Cond.methodLink R_law 30 y_PS_delete) ∈ lw_g := List.mem_filter.mpr ⟨List.mem_append_right _ (List.mem_append_left _ (List.mem_of_getElem? (i := 140) rfl)), rfl⟩
theorem tb_1_141 : (Cond.instanceMethod y_PS_delete) ∈ lw_g := List.mem_filter.mpr ⟨List.mem_append_right _ (List.mem_append_left _ (List.mem_of_getElem? (i := 141) rfl)), rfl⟩
theorem tb_1_142 : (Cond.selects R_PS y_PS_delete y_PS_delete) ∈ lw_g := List.mem_filter.mpr ⟨List.mem_append_right _ (List.mem_append_left _ (List.mem_of_getElem? (i := 142) rfl)), rfl⟩
theorem tb_1_143 : (Cond.code y_PS_delete b_PS_delete 2 (some .int)) ∈ lw_g := List.mem_filter.mpr ⟨List.mem_append_right _ (List.mem_append_left _ (List.mem_of_getElem? (i := 143) rfl)), rfl⟩
theorem tb_1_144 : (Cond.methodLink R_PS 54 y_St_delete) ∈ lw_g := List.mem_filter.mpr ⟨List.mem_append_right _ (List.mem_append_left _ (List.mem_of_getElem? (i := 144) rfl)), rfl⟩
theorem tb_1_145 : (Cond.instanceMethod y_St_delete) ∈ lw_g := List.mem_filter.mpr ⟨List.mem_append_right _ (List.mem_append_left _ (List.mem_of_getElem? (i := 145) rfl)), rfl⟩
theorem tb_1_146 : (Cond.selects R_St y_St_delete y_St_delete) ∈ lw_g := List.mem_filter.mpr ⟨List.mem_append_right _ (List.mem_append_left _ (List.mem_of_getElem? (i := 146) rfl)), rfl⟩
theorem tb_1_147 : (Cond.code y_St_delete b_St_delete 3 (some .int)) ∈ lw_g := List.mem_filter.mpr ⟨List.mem_append_right _ (List.mem_append_left _ (List.mem_of_getElem? (i := 147) rfl)), rfl⟩
theorem tb_1_148 : (Cond.methodLink R_St 63 y_St_time) ∈ lw_g := List.mem_filter.mpr ⟨List.mem_append_right _ (List.mem_append_left _ (List.mem_of_getElem? (i := 148) rfl)), rfl⟩
theorem tb_1_149 : (Cond.instanceMethod y_St_time) ∈ lw_g := List.mem_filter.mpr ⟨List.mem_append_right _ (List.mem_append_left _ (List.mem_of_getElem? (i := 149) rfl)), rfl⟩
theorem tb_1_150 : (Cond.selects R_St y_St_time y_St_time) ∈ lw_g := List.mem_filter.mpr ⟨List.mem_append_right _ (List.mem_append_left _ (List.mem_of_getElem? (i := 150) rfl)), rfl⟩
theorem tb_1_151 : (Cond.code y_St_time b_St_time 2 (some .int)) ∈ lw_g := List.mem_filter.mpr ⟨List.mem_append_right _ (List.mem_append_left _ (List.mem_of_getElem? (i := 151) rfl)), rfl⟩
theorem tb_1_152 : (Cond.methodLink R_law 34 y_PS_begin) ∈ lw_g := List.mem_filter.mpr ⟨List.mem_append_right _ (List.mem_append_left _ (List.mem_of_getElem? (i := 152) rfl)), rfl⟩
theorem tb_1_153 : (Cond.instanceMethod y_PS_begin) ∈ lw_g := List.mem_filter.mpr ⟨List.mem_append_right _ (List.mem_append_left _ (List.mem_of_getElem? (i := 153) rfl)), rfl⟩
theorem tb_1_154 : (Cond.selects R_PS y_PS_begin y_PS_begin) ∈ lw_g := List.mem_filter.mpr ⟨List.mem_append_right _ (List.mem_append_left _ (List.mem_of_getElem? (i := 154) rfl)), rfl⟩
theorem tb_1_155 : (Cond.code y_PS_begin b_PS_begin 3 (some .boolean)) ∈ lw_g := List.mem_filter.mpr ⟨List.mem_append_right _ (List.mem_append_left _ (List.mem_of_getElem? (i := 155) rfl)), rfl⟩
theorem tb_1_156 : (Cond.methodLink R_PS 62 y_Rt_begin) ∈ lw_g := List.mem_filter.mpr ⟨List.mem_append_right _ (List.mem_append_left _ (List.mem_of_getElem? (i := 156) rfl)), rfl⟩
theorem tb_1_157 : (Cond.instanceMethod y_Rt_begin) ∈ lw_g := List.mem_filter.mpr ⟨List.mem_append_right _ (List.mem_append_left _ (List.mem_of_getElem? (i := 157) rfl)), rfl⟩
theorem tb_1_158 : (Cond.selects R_Rt y_Rt_begin y_Rt_begin) ∈ lw_g := List.mem_filter.mpr ⟨List.mem_append_right _ (List.mem_append_left _ (List.mem_of_getElem? (i := 158) rfl)), rfl⟩
theorem tb_1_159 : (Cond.code y_Rt_begin b_Rt_begin 3 none) ∈ lw_g := List.mem_filter.mpr ⟨List.mem_append_right _ (List.mem_append_left _ (List.mem_of_getElem? (i := 159) rfl)), rfl⟩
theorem tb_1_160 : (Cond.methodLink R_law 39 y_PS_stop) ∈ lw_g := List.mem_filter.mpr ⟨List.mem_append_right _ (List.mem_append_left _ (List.mem_of_getElem? (i := 160) rfl)), rfl⟩
theorem tb_1_161 : (Cond.instanceMethod y_PS_stop) ∈ lw_g := List.mem_filter.mpr ⟨List.mem_append_right _ (List.mem_append_left _ (List.mem_of_getElem? (i := 161) rfl)), rfl⟩
theorem tb_1_162 : (Cond.selects R_PS y_PS_stop y_PS_stop) ∈ lw_g := List.mem_filter.mpr ⟨List.mem_append_right _ (List.mem_append_left _ (List.mem_of_getElem? (i := 162) rfl)), rfl⟩
theorem tb_1_163 : (Cond.code y_PS_stop b_PS_stop 2 (some .boolean)) ∈ lw_g := List.mem_filter.mpr ⟨List.mem_append_right _ (List.mem_append_left _ (List.mem_of_getElem? (i := 163) rfl)), rfl⟩
theorem tb_1_164 : (Cond.methodLink R_law 44 y_PS_next) ∈ lw_g := List.mem_filter.mpr ⟨List.mem_append_right _ (List.mem_append_left _ (List.mem_of_getElem? (i := 164) rfl)), rfl⟩
theorem tb_1_165 : (Cond.instanceMethod y_PS_next) ∈ lw_g := List.mem_filter.mpr ⟨List.mem_append_right _ (List.mem_append_left _ (List.mem_of_getElem? (i := 165) rfl)), rfl⟩
theorem tb_1_166 : (Cond.selects R_PS y_PS_next y_PS_next) ∈ lw_g := List.mem_filter.mpr ⟨List.mem_append_right _ (List.mem_append_left _ (List.mem_of_getElem? (i := 166) rfl)), rfl⟩
theorem tb_1_167 : (Cond.code y_PS_next b_PS_next 3 (some .int)) ∈ lw_g := List.mem_filter.mpr ⟨List.mem_append_right _ (List.mem_append_left _ (List.mem_of_getElem? (i := 167) rfl)), rfl⟩
theorem tb_1_168 : (Cond.methodLink R_PS 66 y_Rt_find) ∈ lw_g := List.mem_filter.mpr ⟨List.mem_append_right _ (List.mem_append_left _ (List.mem_of_getElem? (i := 168) rfl)), rfl⟩
theorem tb_1_169 : (Cond.instanceMethod y_Rt_find) ∈ lw_g := List.mem_filter.mpr ⟨List.mem_append_right _ (List.mem_append_left _ (List.mem_of_getElem? (i := 169) rfl)), rfl⟩
theorem tb_1_170 : (Cond.selects R_Rt y_Rt_find y_Rt_find) ∈ lw_g := List.mem_filter.mpr ⟨List.mem_append_right _ (List.mem_append_left _ (List.mem_of_getElem? (i := 170) rfl)), rfl⟩
theorem tb_1_171 : (Cond.code y_Rt_find b_Rt_find 1 (some .int)) ∈ lw_g := List.mem_filter.mpr ⟨List.mem_append_right _ (List.mem_append_left _ (List.mem_of_getElem? (i := 171) rfl)), rfl⟩
theorem tb_1_172 : (Cond.methodLink R_Rt 34 y_St_behind) ∈ lw_g := List.mem_filter.mpr ⟨List.mem_append_right _ (List.mem_append_left _ (List.mem_of_getElem? (i := 172) rfl)), rfl⟩
theorem tb_1_173 : (Cond.methodLink R_Rt 38 y_St_time) ∈ lw_g := List.mem_filter.mpr ⟨List.mem_append_right _ (List.mem_append_left _ (List.mem_of_getElem? (i := 173) rfl)), rfl⟩
theorem tb_1_174 : (Cond.methodLink R_PS 70 y_St_size) ∈ lw_g := List.mem_filter.mpr ⟨List.mem_append_right _ (List.mem_append_left _ (List.mem_of_getElem? (i := 174) rfl)), rfl⟩
theorem tb_1_175 : (Cond.methodLink R_PS 72 y_St_copy) ∈ lw_g := List.mem_filter.mpr ⟨List.mem_append_right _ (List.mem_append_left _ (List.mem_of_getElem? (i := 175) rfl)), rfl⟩
theorem tb_1_176 : (Cond.instanceMethod y_St_copy) ∈ lw_g := List.mem_filter.mpr ⟨List.mem_append_right _ (List.mem_append_left _ (List.mem_of_getElem? (i := 176) rfl)), rfl⟩
theorem tb_1_177 : (Cond.selects R_St y_St_copy y_St_copy) ∈ lw_g := List.mem_filter.mpr ⟨List.mem_append_right _ (List.mem_append_left _ (List.mem_of_getElem? (i := 177) rfl)), rfl⟩
theorem tb_1_178 : (Cond.code y_St_copy b_St_copy 6 none) ∈ lw_g := List.mem_filter.mpr ⟨List.mem_append_right _ (List.mem_append_left _ (List.mem_of_getElem? (i := 178) rfl)), rfl⟩
theorem tb_1_179 : (Cond.methodLink R_St 69 y_St_place) ∈ lw_g := List.mem_filter.mpr ⟨List.mem_append_right _ (List.mem_append_left _ (List.mem_of_getElem? (i := 179) rfl)), rfl⟩
theorem tb_1_181 : (Cond.instanceMethod y_St_place) ∈ lw_g := List.mem_filter.mpr ⟨List.mem_append_right _ (List.mem_append_left _ (List.mem_of_getElem? (i := 181) rfl)), rfl⟩
theorem tb_1_182 : (Cond.code y_St_place b_St_place 4 (some .int)) ∈ lw_g := List.mem_filter.mpr ⟨List.mem_append_right _ (List.mem_append_left _ (List.mem_of_getElem? (i := 182) rfl)), rfl⟩
theorem tb_1_183 : (Cond.methodLink R_law 48 y_PS_out) ∈ lw_g := List.mem_filter.mpr ⟨List.mem_append_right _ (List.mem_append_left _ (List.mem_of_getElem? (i := 183) rfl)), rfl⟩
theorem tb_1_184 : (Cond.instanceMethod y_PS_out) ∈ lw_g := List.mem_filter.mpr ⟨List.mem_append_right _ (List.mem_append_left _ (List.mem_of_getElem? (i := 184) rfl)), rfl⟩
theorem tb_1_185 : (Cond.selects R_PS y_PS_out y_PS_out) ∈ lw_g := List.mem_filter.mpr ⟨List.mem_append_right _ (List.mem_append_left _ (List.mem_of_getElem? (i := 185) rfl)), rfl⟩
theorem tb_1_186 : (Cond.code y_PS_out b_PS_out 2 (some .int)) ∈ lw_g := List.mem_filter.mpr ⟨List.mem_append_right _ (List.mem_append_left _ (List.mem_of_getElem? (i := 186) rfl)), rfl⟩
theorem tb_1_187 : (Cond.methodLink R_law 52 y_PS_count) ∈ lw_g := List.mem_filter.mpr ⟨List.mem_append_right _ (List.mem_append_left _ (List.mem_of_getElem? (i := 187) rfl)), rfl⟩
theorem tb_1_188 : (Cond.instanceMethod y_PS_count) ∈ lw_g := List.mem_filter.mpr ⟨List.mem_append_right _ (List.mem_append_left _ (List.mem_of_getElem? (i := 188) rfl)), rfl⟩
theorem tb_1_189 : (Cond.selects R_PS y_PS_count y_PS_count) ∈ lw_g := List.mem_filter.mpr ⟨List.mem_append_right _ (List.mem_append_left _ (List.mem_of_getElem? (i := 189) rfl)), rfl⟩
theorem tb_1_190 : (Cond.code y_PS_count b_PS_count 2 (some .int)) ∈ lw_g := List.mem_filter.mpr ⟨List.mem_append_right _ (List.mem_append_left _ (List.mem_of_getElem? (i := 190) rfl)), rfl⟩
theorem tb_1_191 : (Cond.methodLink R_PS 88 y_St_behind) ∈ lw_g := List.mem_filter.mpr ⟨List.mem_append_right _ (List.mem_append_left _ (List.mem_of_getElem? (i := 191) rfl)), rfl⟩
theorem tb_1_192 : (Cond.methodLink R_law 56 y_PS_about) ∈ lw_g := List.mem_filter.mpr ⟨List.mem_append_right _ (List.mem_append_left _ (List.mem_of_getElem? (i := 192) rfl)), rfl⟩
theorem tb_1_193 : (Cond.instanceMethod y_PS_about) ∈ lw_g := List.mem_filter.mpr ⟨List.mem_append_right _ (List.mem_append_left _ (List.mem_of_getElem? (i := 193) rfl)), rfl⟩
theorem tb_1_194 : (Cond.selects R_PS y_PS_about y_PS_about) ∈ lw_g := List.mem_filter.mpr ⟨List.mem_append_right _ (List.mem_append_left _ (List.mem_of_getElem? (i := 194) rfl)), rfl⟩
theorem tb_1_195 : (Cond.code y_PS_about b_PS_about 3 (some .int)) ∈ lw_g := List.mem_filter.mpr ⟨List.mem_append_right _ (List.mem_append_left _ (List.mem_of_getElem? (i := 195) rfl)), rfl⟩
theorem tb_1_196 : (Cond.methodLink R_PS 100 y_St_time) ∈ lw_g := List.mem_filter.mpr ⟨List.mem_append_right _ (List.mem_append_left _ (List.mem_of_getElem? (i := 196) rfl)), rfl⟩
theorem tb_1_197 : (Cond.methodLink R_law 61 y_PS_byteAt) ∈ lw_g := List.mem_filter.mpr ⟨List.mem_append_right _ (List.mem_append_left _ (List.mem_of_getElem? (i := 197) rfl)), rfl⟩
theorem tb_1_198 : (Cond.instanceMethod y_PS_byteAt) ∈ lw_g := List.mem_filter.mpr ⟨List.mem_append_right _ (List.mem_append_left _ (List.mem_of_getElem? (i := 198) rfl)), rfl⟩
theorem tb_1_199 : (Cond.selects R_PS y_PS_byteAt y_PS_byteAt) ∈ lw_g := List.mem_filter.mpr ⟨List.mem_append_right _ (List.mem_append_left _ (List.mem_of_getElem? (i := 199) rfl)), rfl⟩
theorem tb_1_200 : (Cond.code y_PS_byteAt b_PS_byteAt 3 (some .int)) ∈ lw_g := List.mem_filter.mpr ⟨List.mem_append_right _ (List.mem_append_left _ (List.mem_of_getElem? (i := 200) rfl)), rfl⟩
theorem tb_1_201 : (Cond.methodLink R_PS 103 y_St_byteAt) ∈ lw_g := List.mem_filter.mpr ⟨List.mem_append_right _ (List.mem_append_left _ (List.mem_of_getElem? (i := 201) rfl)), rfl⟩
theorem tb_1_202 : (Cond.instanceMethod y_St_byteAt) ∈ lw_g := List.mem_filter.mpr ⟨List.mem_append_right _ (List.mem_append_left _ (List.mem_of_getElem? (i := 202) rfl)), rfl⟩
theorem tb_1_203 : (Cond.selects R_St y_St_byteAt y_St_byteAt) ∈ lw_g := List.mem_filter.mpr ⟨List.mem_append_right _ (List.mem_append_left _ (List.mem_of_getElem? (i := 203) rfl)), rfl⟩
theorem tb_1_204 : (Cond.code y_St_byteAt b_St_byteAt 3 (some .int)) ∈ lw_g := List.mem_filter.mpr ⟨List.mem_append_right _ (List.mem_append_left _ (List.mem_of_getElem? (i := 204) rfl)), rfl⟩
theorem tb_1_205 : (Cond.methodLink R_law 9 y_law_cell) ∈ lw_g := List.mem_filter.mpr ⟨List.mem_append_right _ (List.mem_append_left _ (List.mem_of_getElem? (i := 205) rfl)), rfl⟩
theorem tb_1_206 : (Cond.static y_law_cell) ∈ lw_g := List.mem_filter.mpr ⟨List.mem_append_right _ (List.mem_append_left _ (List.mem_of_getElem? (i := 206) rfl)), rfl⟩
theorem tb_1_207 : (Cond.code y_law_cell b_law_cell 2 (some .int)) ∈ lw_g := List.mem_filter.mpr ⟨List.mem_append_right _ (List.mem_append_left _ (List.mem_of_getElem? (i := 207) rfl)), rfl⟩
theorem tb_1_208 : (Cond.classLink R_law 18 R_Md) ∈ lw_g := List.mem_filter.mpr ⟨List.mem_append_right _ (List.mem_append_left _ (List.mem_of_getElem? (i := 208) rfl)), rfl⟩
theorem tb_1_209 : (Cond.instantiable R_Md 18) ∈ lw_g := List.mem_filter.mpr ⟨List.mem_append_right _ (List.mem_append_left _ (List.mem_of_getElem? (i := 209) rfl)), rfl⟩
theorem tb_1_210 : (Cond.methodLink R_law 20 y_Md_init) ∈ lw_g := List.mem_filter.mpr ⟨List.mem_append_right _ (List.mem_append_left _ (List.mem_of_getElem? (i := 210) rfl)), rfl⟩
theorem tb_1_211 : (Cond.instanceMethod y_Md_init) ∈ lw_g := List.mem_filter.mpr ⟨List.mem_append_right _ (List.mem_append_left _ (List.mem_of_getElem? (i := 211) rfl)), rfl⟩
theorem tb_1_212 : (Cond.code y_Md_init b_Md_init 2 none) ∈ lw_g := List.mem_filter.mpr ⟨List.mem_append_right _ (List.mem_append_left _ (List.mem_of_getElem? (i := 212) rfl)), rfl⟩
theorem tb_1_213 : (Cond.methodLink R_Md 1 objectInit) ∈ lw_g := List.mem_filter.mpr ⟨List.mem_append_right _ (List.mem_append_left _ (List.mem_of_getElem? (i := 213) rfl)), rfl⟩
theorem tb_1_214 : (Cond.fieldLink R_Md 30 "PacketStoreModel" "thrown" "I") ∈ lw_g := List.mem_filter.mpr ⟨List.mem_append_right _ (List.mem_append_left _ (List.mem_of_getElem? (i := 214) rfl)), rfl⟩
theorem tb_1_215 : (Cond.fieldLink R_Md 26 "PacketStoreModel" "room" "I") ∈ lw_g := List.mem_filter.mpr ⟨List.mem_append_right _ (List.mem_append_left _ (List.mem_of_getElem? (i := 215) rfl)), rfl⟩
theorem tb_1_216 : (Cond.fieldLink R_Md 7 "PacketStoreModel" "text" "[B") ∈ lw_g := List.mem_filter.mpr ⟨List.mem_append_right _ (List.mem_append_left _ (List.mem_of_getElem? (i := 216) rfl)), rfl⟩
theorem tb_1_217 : (Cond.fieldLink R_Md 39 "PacketStoreModel" "textSize" "I") ∈ lw_g := List.mem_filter.mpr ⟨List.mem_append_right _ (List.mem_append_left _ (List.mem_of_getElem? (i := 217) rfl)), rfl⟩
theorem tb_1_218 : (Cond.fieldLink R_Md 13 "PacketStoreModel" "out" "[B") ∈ lw_g := List.mem_filter.mpr ⟨List.mem_append_right _ (List.mem_append_left _ (List.mem_of_getElem? (i := 218) rfl)), rfl⟩
theorem tb_1_219 : (Cond.fieldLink R_Md 71 "PacketStoreModel" "outSize" "I") ∈ lw_g := List.mem_filter.mpr ⟨List.mem_append_right _ (List.mem_append_left _ (List.mem_of_getElem? (i := 219) rfl)), rfl⟩
theorem tb_1_220 : (Cond.fieldLink R_Md 36 "PacketStoreModel" "many" "I") ∈ lw_g := List.mem_filter.mpr ⟨List.mem_append_right _ (List.mem_append_left _ (List.mem_of_getElem? (i := 220) rfl)), rfl⟩
theorem tb_1_221 : (Cond.fieldLink R_Md 16 "PacketStoreModel" "time" "[I") ∈ lw_g := List.mem_filter.mpr ⟨List.mem_append_right _ (List.mem_append_left _ (List.mem_of_getElem? (i := 221) rfl)), rfl⟩
theorem tb_1_222 : (Cond.fieldLink R_Md 20 "PacketStoreModel" "size" "[I") ∈ lw_g := List.mem_filter.mpr ⟨List.mem_append_right _ (List.mem_append_left _ (List.mem_of_getElem? (i := 222) rfl)), rfl⟩
theorem tb_1_223 : (Cond.fieldLink R_Md 23 "PacketStoreModel" "bytes" "[B") ∈ lw_g := List.mem_filter.mpr ⟨List.mem_append_right _ (List.mem_append_left _ (List.mem_of_getElem? (i := 223) rfl)), rfl⟩
theorem tb_1_224 : (Cond.fieldLink R_Md 33 "PacketStoreModel" "used" "I") ∈ lw_g := List.mem_filter.mpr ⟨List.mem_append_right _ (List.mem_append_left _ (List.mem_of_getElem? (i := 224) rfl)), rfl⟩
theorem tb_1_225 : (Cond.fieldLink R_Md 48 "PacketStoreModel" "came" "I") ∈ lw_g := List.mem_filter.mpr ⟨List.mem_append_right _ (List.mem_append_left _ (List.mem_of_getElem? (i := 225) rfl)), rfl⟩
theorem tb_1_226 : (Cond.fieldLink R_Md 45 "PacketStoreModel" "driven" "I") ∈ lw_g := List.mem_filter.mpr ⟨List.mem_append_right _ (List.mem_append_left _ (List.mem_of_getElem? (i := 226) rfl)), rfl⟩
theorem tb_1_227 : (Cond.fieldLink R_Md 51 "PacketStoreModel" "deleted" "I") ∈ lw_g := List.mem_filter.mpr ⟨List.mem_append_right _ (List.mem_append_left _ (List.mem_of_getElem? (i := 227) rfl)), rfl⟩
theorem tb_1_228 : (Cond.fieldLink R_Md 54 "PacketStoreModel" "retrieves" "Z") ∈ lw_g := List.mem_filter.mpr ⟨List.mem_append_right _ (List.mem_append_left _ (List.mem_of_getElem? (i := 228) rfl)), rfl⟩
theorem tb_1_229 : (Cond.fieldLink R_Md 58 "PacketStoreModel" "from" "I") ∈ lw_g := List.mem_filter.mpr ⟨List.mem_append_right _ (List.mem_append_left _ (List.mem_of_getElem? (i := 229) rfl)), rfl⟩
theorem tb_1_230 : (Cond.fieldLink R_Md 61 "PacketStoreModel" "to" "I") ∈ lw_g := List.mem_filter.mpr ⟨List.mem_append_right _ (List.mem_append_left _ (List.mem_of_getElem? (i := 230) rfl)), rfl⟩
theorem tb_1_231 : (Cond.fieldLink R_Md 64 "PacketStoreModel" "looks" "I") ∈ lw_g := List.mem_filter.mpr ⟨List.mem_append_right _ (List.mem_append_left _ (List.mem_of_getElem? (i := 231) rfl)), rfl⟩
theorem tb_2_29 : (Cond.methodLink R_law 25 y_Md_put) ∈ lw_g := List.mem_filter.mpr ⟨List.mem_append_right _ (List.mem_append_right _ (List.mem_of_getElem? (i := 29) rfl)), rfl⟩
theorem tb_2_30 : (Cond.instanceMethod y_Md_put) ∈ lw_g := List.mem_filter.mpr ⟨List.mem_append_right _ (List.mem_append_right _ (List.mem_of_getElem? (i := 30) rfl)), rfl⟩
theorem tb_2_31 : (Cond.selects R_Md y_Md_put y_Md_put) ∈ lw_g := List.mem_filter.mpr ⟨List.mem_append_right _ (List.mem_append_right _ (List.mem_of_getElem? (i := 31) rfl)), rfl⟩
theorem tb_2_32 : (Cond.code y_Md_put b_Md_put 2 (some .int)) ∈ lw_g := List.mem_filter.mpr ⟨List.mem_append_right _ (List.mem_append_right _ (List.mem_of_getElem? (i := 32) rfl)), rfl⟩
theorem tb_2_33 : (Cond.methodLink R_law 29 y_Md_keep) ∈ lw_g := List.mem_filter.mpr ⟨List.mem_append_right _ (List.mem_append_right _ (List.mem_of_getElem? (i := 33) rfl)), rfl⟩
theorem tb_2_34 : (Cond.instanceMethod y_Md_keep) ∈ lw_g := List.mem_filter.mpr ⟨List.mem_append_right _ (List.mem_append_right _ (List.mem_of_getElem? (i := 34) rfl)), rfl⟩
theorem tb_2_35 : (Cond.selects R_Md y_Md_keep y_Md_keep) ∈ lw_g := List.mem_filter.mpr ⟨List.mem_append_right _ (List.mem_append_right _ (List.mem_of_getElem? (i := 35) rfl)), rfl⟩
theorem tb_2_36 : (Cond.code y_Md_keep b_Md_keep 5 (some .int)) ∈ lw_g := List.mem_filter.mpr ⟨List.mem_append_right _ (List.mem_append_right _ (List.mem_of_getElem? (i := 36) rfl)), rfl⟩
theorem tb_2_37 : (Cond.methodLink R_Md 42 y_Md_goes) ∈ lw_g := List.mem_filter.mpr ⟨List.mem_append_right _ (List.mem_append_right _ (List.mem_of_getElem? (i := 37) rfl)), rfl⟩
theorem tb_2_39 : (Cond.instanceMethod y_Md_goes) ∈ lw_g := List.mem_filter.mpr ⟨List.mem_append_right _ (List.mem_append_right _ (List.mem_of_getElem? (i := 39) rfl)), rfl⟩
theorem tb_2_40 : (Cond.code y_Md_goes b_Md_goes 3 none) ∈ lw_g := List.mem_filter.mpr ⟨List.mem_append_right _ (List.mem_append_right _ (List.mem_of_getElem? (i := 40) rfl)), rfl⟩
theorem tb_2_41 : (Cond.methodLink R_law 33 y_Md_delete) ∈ lw_g := List.mem_filter.mpr ⟨List.mem_append_right _ (List.mem_append_right _ (List.mem_of_getElem? (i := 41) rfl)), rfl⟩
theorem tb_2_42 : (Cond.instanceMethod y_Md_delete) ∈ lw_g := List.mem_filter.mpr ⟨List.mem_append_right _ (List.mem_append_right _ (List.mem_of_getElem? (i := 42) rfl)), rfl⟩
theorem tb_2_43 : (Cond.selects R_Md y_Md_delete y_Md_delete) ∈ lw_g := List.mem_filter.mpr ⟨List.mem_append_right _ (List.mem_append_right _ (List.mem_of_getElem? (i := 43) rfl)), rfl⟩
theorem tb_2_44 : (Cond.code y_Md_delete b_Md_delete 3 (some .int)) ∈ lw_g := List.mem_filter.mpr ⟨List.mem_append_right _ (List.mem_append_right _ (List.mem_of_getElem? (i := 44) rfl)), rfl⟩
theorem tb_2_45 : (Cond.methodLink R_law 38 y_Md_begin) ∈ lw_g := List.mem_filter.mpr ⟨List.mem_append_right _ (List.mem_append_right _ (List.mem_of_getElem? (i := 45) rfl)), rfl⟩
theorem tb_2_46 : (Cond.instanceMethod y_Md_begin) ∈ lw_g := List.mem_filter.mpr ⟨List.mem_append_right _ (List.mem_append_right _ (List.mem_of_getElem? (i := 46) rfl)), rfl⟩
theorem tb_2_47 : (Cond.selects R_Md y_Md_begin y_Md_begin) ∈ lw_g := List.mem_filter.mpr ⟨List.mem_append_right _ (List.mem_append_right _ (List.mem_of_getElem? (i := 47) rfl)), rfl⟩
theorem tb_2_48 : (Cond.code y_Md_begin b_Md_begin 3 (some .boolean)) ∈ lw_g := List.mem_filter.mpr ⟨List.mem_append_right _ (List.mem_append_right _ (List.mem_of_getElem? (i := 48) rfl)), rfl⟩
theorem tb_2_49 : (Cond.methodLink R_law 43 y_Md_stop) ∈ lw_g := List.mem_filter.mpr ⟨List.mem_append_right _ (List.mem_append_right _ (List.mem_of_getElem? (i := 49) rfl)), rfl⟩
theorem tb_2_50 : (Cond.instanceMethod y_Md_stop) ∈ lw_g := List.mem_filter.mpr ⟨List.mem_append_right _ (List.mem_append_right _ (List.mem_of_getElem? (i := 50) rfl)), rfl⟩
theorem tb_2_51 : (Cond.selects R_Md y_Md_stop y_Md_stop) ∈ lw_g := List.mem_filter.mpr ⟨List.mem_append_right _ (List.mem_append_right _ (List.mem_of_getElem? (i := 51) rfl)), rfl⟩
theorem tb_2_52 : (Cond.code y_Md_stop b_Md_stop 2 (some .boolean)) ∈ lw_g := List.mem_filter.mpr ⟨List.mem_append_right _ (List.mem_append_right _ (List.mem_of_getElem? (i := 52) rfl)), rfl⟩
theorem tb_2_53 : (Cond.methodLink R_law 47 y_Md_next) ∈ lw_g := List.mem_filter.mpr ⟨List.mem_append_right _ (List.mem_append_right _ (List.mem_of_getElem? (i := 53) rfl)), rfl⟩
theorem tb_2_54 : (Cond.instanceMethod y_Md_next) ∈ lw_g := List.mem_filter.mpr ⟨List.mem_append_right _ (List.mem_append_right _ (List.mem_of_getElem? (i := 54) rfl)), rfl⟩
theorem tb_2_55 : (Cond.selects R_Md y_Md_next y_Md_next) ∈ lw_g := List.mem_filter.mpr ⟨List.mem_append_right _ (List.mem_append_right _ (List.mem_of_getElem? (i := 55) rfl)), rfl⟩
theorem tb_2_56 : (Cond.code y_Md_next b_Md_next 5 (some .int)) ∈ lw_g := List.mem_filter.mpr ⟨List.mem_append_right _ (List.mem_append_right _ (List.mem_of_getElem? (i := 56) rfl)), rfl⟩
theorem tb_2_57 : (Cond.methodLink R_Md 67 y_Md_start) ∈ lw_g := List.mem_filter.mpr ⟨List.mem_append_right _ (List.mem_append_right _ (List.mem_of_getElem? (i := 57) rfl)), rfl⟩
theorem tb_2_59 : (Cond.instanceMethod y_Md_start) ∈ lw_g := List.mem_filter.mpr ⟨List.mem_append_right _ (List.mem_append_right _ (List.mem_of_getElem? (i := 59) rfl)), rfl⟩
theorem tb_2_60 : (Cond.code y_Md_start b_Md_start 4 (some .int)) ∈ lw_g := List.mem_filter.mpr ⟨List.mem_append_right _ (List.mem_append_right _ (List.mem_of_getElem? (i := 60) rfl)), rfl⟩
theorem tb_2_61 : (Cond.methodLink R_law 51 y_Md_out) ∈ lw_g := List.mem_filter.mpr ⟨List.mem_append_right _ (List.mem_append_right _ (List.mem_of_getElem? (i := 61) rfl)), rfl⟩
theorem tb_2_62 : (Cond.instanceMethod y_Md_out) ∈ lw_g := List.mem_filter.mpr ⟨List.mem_append_right _ (List.mem_append_right _ (List.mem_of_getElem? (i := 62) rfl)), rfl⟩
theorem tb_2_63 : (Cond.selects R_Md y_Md_out y_Md_out) ∈ lw_g := List.mem_filter.mpr ⟨List.mem_append_right _ (List.mem_append_right _ (List.mem_of_getElem? (i := 63) rfl)), rfl⟩
theorem tb_2_64 : (Cond.code y_Md_out b_Md_out 2 (some .int)) ∈ lw_g := List.mem_filter.mpr ⟨List.mem_append_right _ (List.mem_append_right _ (List.mem_of_getElem? (i := 64) rfl)), rfl⟩
theorem tb_2_65 : (Cond.methodLink R_law 55 y_Md_count) ∈ lw_g := List.mem_filter.mpr ⟨List.mem_append_right _ (List.mem_append_right _ (List.mem_of_getElem? (i := 65) rfl)), rfl⟩
theorem tb_2_66 : (Cond.instanceMethod y_Md_count) ∈ lw_g := List.mem_filter.mpr ⟨List.mem_append_right _ (List.mem_append_right _ (List.mem_of_getElem? (i := 66) rfl)), rfl⟩
theorem tb_2_67 : (Cond.selects R_Md y_Md_count y_Md_count) ∈ lw_g := List.mem_filter.mpr ⟨List.mem_append_right _ (List.mem_append_right _ (List.mem_of_getElem? (i := 67) rfl)), rfl⟩
theorem tb_2_68 : (Cond.code y_Md_count b_Md_count 2 (some .int)) ∈ lw_g := List.mem_filter.mpr ⟨List.mem_append_right _ (List.mem_append_right _ (List.mem_of_getElem? (i := 68) rfl)), rfl⟩
theorem tb_2_69 : (Cond.methodLink R_law 60 y_Md_about) ∈ lw_g := List.mem_filter.mpr ⟨List.mem_append_right _ (List.mem_append_right _ (List.mem_of_getElem? (i := 69) rfl)), rfl⟩
theorem tb_2_70 : (Cond.instanceMethod y_Md_about) ∈ lw_g := List.mem_filter.mpr ⟨List.mem_append_right _ (List.mem_append_right _ (List.mem_of_getElem? (i := 70) rfl)), rfl⟩
theorem tb_2_71 : (Cond.selects R_Md y_Md_about y_Md_about) ∈ lw_g := List.mem_filter.mpr ⟨List.mem_append_right _ (List.mem_append_right _ (List.mem_of_getElem? (i := 71) rfl)), rfl⟩
theorem tb_2_72 : (Cond.code y_Md_about b_Md_about 3 (some .int)) ∈ lw_g := List.mem_filter.mpr ⟨List.mem_append_right _ (List.mem_append_right _ (List.mem_of_getElem? (i := 72) rfl)), rfl⟩
theorem tb_2_73 : (Cond.methodLink R_law 64 y_Md_byteAt) ∈ lw_g := List.mem_filter.mpr ⟨List.mem_append_right _ (List.mem_append_right _ (List.mem_of_getElem? (i := 73) rfl)), rfl⟩
theorem tb_2_74 : (Cond.instanceMethod y_Md_byteAt) ∈ lw_g := List.mem_filter.mpr ⟨List.mem_append_right _ (List.mem_append_right _ (List.mem_of_getElem? (i := 74) rfl)), rfl⟩
theorem tb_2_75 : (Cond.selects R_Md y_Md_byteAt y_Md_byteAt) ∈ lw_g := List.mem_filter.mpr ⟨List.mem_append_right _ (List.mem_append_right _ (List.mem_of_getElem? (i := 75) rfl)), rfl⟩
theorem tb_2_76 : (Cond.code y_Md_byteAt b_Md_byteAt 3 (some .int)) ∈ lw_g := List.mem_filter.mpr ⟨List.mem_append_right _ (List.mem_append_right _ (List.mem_of_getElem? (i := 76) rfl)), rfl⟩
theorem ts_drop : (Cond.selects R_St y_St_drop y_St_drop) ∈ lw_g := List.mem_filter.mpr ⟨List.mem_append_left _ (List.mem_of_getElem? (i := 0) rfl), rfl⟩
theorem ts_row : (Cond.selects R_St y_St_row y_St_row) ∈ lw_g := List.mem_filter.mpr ⟨List.mem_append_left _ (List.mem_of_getElem? (i := 1) rfl), rfl⟩
theorem ts_place : (Cond.selects R_St y_St_place y_St_place) ∈ lw_g := List.mem_filter.mpr ⟨List.mem_append_left _ (List.mem_of_getElem? (i := 2) rfl), rfl⟩
theorem ts_goes : (Cond.selects R_Md y_Md_goes y_Md_goes) ∈ lw_g := List.mem_filter.mpr ⟨List.mem_append_left _ (List.mem_of_getElem? (i := 3) rfl), rfl⟩
theorem ts_start : (Cond.selects R_Md y_Md_start y_Md_start) ∈ lw_g := List.mem_filter.mpr ⟨List.mem_append_left _ (List.mem_of_getElem? (i := 4) rfl), rfl⟩
end
section
/-- one word list for every contract: the method's own code, then all that the tables say -/
def wc (y : MethodName) (b : ByteArray) (n : Nat) (r : Option FieldType) : List Cond := .code y b n r :: lw_g
theorem wc_pay {args : Array Value} {s : State} {y : MethodName} {b : ByteArray} {n : Nat} {r : Option FieldType} (hT : ∀ w ∈ lw_g, w.before args s = true) (h : (Cond.code y b n r) ∈ lw_g) : ∀ w ∈ wc y b n r, ∀ (a' : Array Value) (U : State), s.WarmedH U.vm → w.before a' U = true := by
  intro w hw
  rcases List.mem_cons.mp hw with q | q
  · rw [q]; exact lw_pay hT _ h
  · exact lw_pay hT w q
theorem my_callB {R : Room} {s : State} {args : Array Value} {own : String} {idx : Nat} {y : MethodName} {b : ByteArray} {maxL : Nat} {ret : Option FieldType} {rm : Room} (n : Nat) (hT : ∀ w ∈ lw_g, w.before args s = true) (h1 : (Cond.methodLink own idx y) ∈ lw_g) (h4 : (Cond.initialized y.cls) ∈ lw_g) (h5 : (Cond.code y b maxL ret) ∈ lw_g) (hd : y.cls ≠ "java/lang/invoke/MethodHandle" ∧ y.cls ≠ "java/lang/invoke/VarHandle" ∧ (parseMethodDescriptor y.desc).map (fun d => d.parameters.length) = some n) (hR : rm.frames + 1 ≤ R.frames ∧ 8 + (maxL + 11) + rm.locals ≤ R.locals) : CallB R s args own idx y b maxL ret (wc y b maxL ret) rm rm.cells rm.slots n := by
  refine ⟨rfl, rfl, hR.1, hR.2, wc_pay hT h5, List.mem_cons_self, hT _ h5, hT _ h4, ⟨hd.1, hd.2.1⟩, fun sig h => ?_, hT _ h1⟩
  have h2 := hd.2.2
  rw [h] at h2
  exact (Option.some.inj h2).symm
theorem fm_of {α β : Type} {f : α → Option β} : ∀ (k : List α) (w : List β), k.map f = w.map some → k.filterMap f = w
  | [], [], _ => rfl
  | [], _ :: _, h => by simp at h
  | _ :: _, [], h => by simp at h
  | x :: k, y :: w, h => by
    simp only [List.map_cons, List.cons.injEq] at h
    rw [List.filterMap_cons, h.1]
    exact congrArg (y :: ·) (fm_of k w h.2)
/-- a method's start -/
theorem met_start {l : Launch} {y : MethodName} {cc : ByteArray} {maxL : Nat} {ret : Option FieldType} {rm : Room} {vs : List Value} {B : State → Prop} {Qc : Array Value → State → Outcome → State → Prop} {mc ms : Nat} {free : Addr → Prop} (hy : plainName y.cls = true) (hs : (lg_sl vs).length ≤ maxL)
    (body : ∀ (p : Program) (e : Env) (s : State) (m : MethodId) (below : List Frame) (meth : Method) (c : Code), p.tables.exec = Jvm.exec → c.code = cc → meth.sig.returnType = ret → (∀ w ∈ lw_g, w.before vs.toArray s = true) → s.vm.findClass y.cls = some m.cls → meth.locks = false → c.maxLocals = maxL → meth.name = y.name → B s → ∀ ls : Array Slot, lv_has ls maxL (lv_args 0 vs) →
      W p l e rm s m vs.toArray below meth c s.heap [] 0 0 (MQ below Qc vs.toArray s mc ms free) (F0 m 0 ls [])) : Met l y (wc y cc maxL ret) rm (va_Pc vs B) Qc mc ms free := by
  refine Met.ofW (cc := cc) (maxL := maxL) (ret := ret) (ws' := lw_g) hy rfl ?_
  intro p e s m args below meth c s₁ Bd hml hv
  obtain ⟨rfl, hB⟩ := hv
  have hts := atoms_spec (ws := wc y cc maxL ret) Bd.pre
  have hl := lv_entry vs (n := maxL) hs
  rw [lg_entry_eq]
  exact body p e s m below meth c Bd.exec Bd.bytes Bd.returns (fun w h => hts w (List.mem_cons_of_mem _ h)) (findClass_of_methodNamed Bd.named) Bd.notSynchronized hml (name_of_methodNamed Bd.named Bd.method).1 hB _ hl
/-- what a reading method asks: the cells -/
def roB (D : va_G) (ws : va_W) (tys : List (ClassId × FieldType)) : State → Prop := fun U => va_P D classes ws U.heap ∧ va_K D classes tys U
/-- what a writing method asks: the cells, apart -/
def rwB (D : va_G) (ws : va_W) (tys : List (ClassId × FieldType)) (sz : Nat) : State → Prop := fun U => U.heap.size = sz ∧ va_P D classes ws U.heap ∧ va_K D classes tys U ∧ va_D (fun _ => True) ws
def atW (D : va_G) (tys : List (ClassId × FieldType)) (A : Nat → Prop) (ws : va_W) (t : State) : Prop := va_P D classes ws t.heap ∧ va_K D classes tys t ∧ va_D A ws
def QI {S : Type} (post : Int32 → S → Prop) (D : va_G) (tf : S → List (ClassId × FieldType)) (wf : S → va_W) (A : Nat → Prop) : Array Value → State → Outcome → State → Prop := va_Qi post (fun u t => atW D (tf u) A (wf u) t) A
def QV {S : Type} (post : S → Prop) (D : va_G) (tf : S → List (ClassId × FieldType)) (wf : S → va_W) (A : Nat → Prop) : Array Value → State → Outcome → State → Prop := va_Qv post (fun u t => atW D (tf u) A (wf u) t) A
theorem ro_blind {D : va_G} {ws : va_W} {tys : List (ClassId × FieldType)} {vs : List Value} : FrameBlind (va_Pc vs (roB D ws tys)) := fun a U g mk q => by
  obtain ⟨q0, qP, qK⟩ := q
  exact ⟨q0, qP, va_K.moved (u := U) (U := U.calling g mk a) (Vm.Alike.refl U.vm) qK⟩
theorem rw_blind {D : va_G} {ws : va_W} {tys : List (ClassId × FieldType)} {sz : Nat} {vs : List Value} : FrameBlind (va_Pc vs (rwB D ws tys sz)) := fun a U g mk q => by
  obtain ⟨q0, q1, qP, qK, qD⟩ := q
  exact ⟨q0, q1, qP, va_K.moved (u := U) (U := U.calling g mk a) (Vm.Alike.refl U.vm) qK, qD⟩
theorem rw_startI {l : Launch} {y : MethodName} {cc : ByteArray} {maxL : Nat} {ret : Option FieldType} {rm : Room} {vs : List Value} {D : va_G} {ws : va_W} {tys : List (ClassId × FieldType)} {sz mc ms : Nat} {S : Type} {post : Int32 → S → Prop} {tf : S → List (ClassId × FieldType)} {wf : S → va_W} (hy : plainName y.cls = true) (hs : (lg_sl vs).length ≤ maxL)
    (body : ∀ (p : Program) (e : Env) (s : State) (m : MethodId) (below : List Frame) (meth : Method) (c : Code) (A : Nat → Prop), p.tables.exec = Jvm.exec → c.code = cc → meth.sig.returnType = ret → (∀ w ∈ lw_g, w.before vs.toArray s = true) → s.vm.findClass y.cls = some m.cls → meth.locks = false → c.maxLocals = maxL → meth.name = y.name → (∀ q : Nat, s.heap.size ≤ q → A q) → va_P D classes ws s.heap → va_K D classes tys s → va_D A ws → va_S A s.heap s.heap [] → ∀ ls : Array Slot, lv_has ls maxL (lv_args 0 vs) →
      W p l e rm s m vs.toArray below meth c s.heap [] 0 0 (MQ below (QI post D tf wf A) vs.toArray s mc ms A) (F0 m 0 ls [])) : Met l y (wc y cc maxL ret) rm (va_Pc vs (rwB D ws tys sz)) (QI post D tf wf (va_A ws sz)) mc ms (va_A ws sz) := by
  refine met_start hy hs ?_
  intro p e s m below meth c h1 h2 h3 h4 h5 h6 h7 h8 hB ls hl
  obtain ⟨hsz, hP, hK, hD⟩ := hB
  subst hsz
  exact body p e s m below meth c (va_A ws s.heap.size) h1 h2 h3 h4 h5 h6 h7 h8 (fun q h => Or.inr h) hP hK hD.self va_S.rf ls hl
theorem rw_startV {l : Launch} {y : MethodName} {cc : ByteArray} {maxL : Nat} {ret : Option FieldType} {rm : Room} {vs : List Value} {D : va_G} {ws : va_W} {tys : List (ClassId × FieldType)} {sz mc ms : Nat} {S : Type} {post : S → Prop} {tf : S → List (ClassId × FieldType)} {wf : S → va_W} (hy : plainName y.cls = true) (hs : (lg_sl vs).length ≤ maxL)
    (body : ∀ (p : Program) (e : Env) (s : State) (m : MethodId) (below : List Frame) (meth : Method) (c : Code) (A : Nat → Prop), p.tables.exec = Jvm.exec → c.code = cc → meth.sig.returnType = ret → (∀ w ∈ lw_g, w.before vs.toArray s = true) → s.vm.findClass y.cls = some m.cls → meth.locks = false → c.maxLocals = maxL → meth.name = y.name → (∀ q : Nat, s.heap.size ≤ q → A q) → va_P D classes ws s.heap → va_K D classes tys s → va_D A ws → va_S A s.heap s.heap [] → ∀ ls : Array Slot, lv_has ls maxL (lv_args 0 vs) →
      W p l e rm s m vs.toArray below meth c s.heap [] 0 0 (MQ below (QV post D tf wf A) vs.toArray s mc ms A) (F0 m 0 ls [])) : Met l y (wc y cc maxL ret) rm (va_Pc vs (rwB D ws tys sz)) (QV post D tf wf (va_A ws sz)) mc ms (va_A ws sz) := by
  refine met_start hy hs ?_
  intro p e s m below meth c h1 h2 h3 h4 h5 h6 h7 h8 hB ls hl
  obtain ⟨hsz, hP, hK, hD⟩ := hB
  subst hsz
  exact body p e s m below meth c (va_A ws s.heap.size) h1 h2 h3 h4 h5 h6 h7 h8 (fun q h => Or.inr h) hP hK hD.self va_S.rf ls hl
section LY1
variable {p : Program} {l : Launch} {e : Env} {R : Room} {s : State} {m : MethodId} {args : Array Value} {below : List Frame} {meth : Method} {c : Code} {H : Heap} {locs : List Loc} {cells slots : Nat} {Q : State → Prop}
variable {cc : ByteArray} {pc : Nat} {ls : Array Slot} {rest st0 : List Value} {D : va_G} {A : Nat → Prop} {a : Nat} {tys : List (ClassId × FieldType)} {ws : va_W} {H0 : Heap}
theorem ro_iret {post : Int32 → Prop} {v : Int32} (hx : p.tables.exec = Jvm.exec) (hb : c.code = cc) (hr : meth.sig.returnType = some .int) (hlk : meth.locks = false) (hd : decode cc pc = .ok (.ireturn, 1)) (hpost : post v) : W p l e R s m args below meth c s.heap [] cells slots (MQ below (vp_Si post) args s cells slots (fun _ => False)) (F0 m pc ls [.int v]) :=
  W.iret hx hb hr (fun t ht hW => ⟨v, rfl, hpost, ht⟩) (fun q h => by cases h) hd hlk
theorem rw_iret {S : Type} {post : Int32 → S → Prop} {tf : S → List (ClassId × FieldType)} {wf : S → va_W} {v : Int32} (u : S) (hx : p.tables.exec = Jvm.exec) (hb : c.code = cc) (hr : meth.sig.returnType = some .int) (hlk : meth.locks = false) (hK : va_K D classes (tf u) s) (hP : va_P D classes (wf u) H) (hD : va_D A (wf u)) (hS : va_S A s.heap H locs) (hd : decode cc pc = .ok (.ireturn, 1)) (hpost : post v u) : W p l e R s m args below meth c H locs cells slots (MQ below (QI post D tf wf A) args s cells slots A) (F0 m pc ls [.int v]) :=
  W.iret hx hb hr (fun t ht hW => ⟨⟨v, u, rfl, hpost, by rw [ht]; exact hP, va_K.moved hW.alike hK, hD⟩, hS.F ht⟩) hS.2.2 hd hlk
theorem rw_zret {S : Type} {post : Int32 → S → Prop} {tf : S → List (ClassId × FieldType)} {wf : S → va_W} {v : Int32} (u : S) (hx : p.tables.exec = Jvm.exec) (hb : c.code = cc) (hr : meth.sig.returnType = some .boolean) (hlk : meth.locks = false) (hn : narrow .boolean (.int v) = .int v) (hK : va_K D classes (tf u) s) (hP : va_P D classes (wf u) H) (hD : va_D A (wf u)) (hS : va_S A s.heap H locs) (hd : decode cc pc = .ok (.ireturn, 1)) (hpost : post v u) : W p l e R s m args below meth c H locs cells slots (MQ below (QI post D tf wf A) args s cells slots A) (F0 m pc ls [.int v]) :=
  W.zret hx hb hr hn (fun t ht hW => ⟨⟨v, u, rfl, hpost, by rw [ht]; exact hP, va_K.moved hW.alike hK, hD⟩, hS.F ht⟩) hS.2.2 hd hlk
theorem rw_vret {S : Type} {post : S → Prop} {tf : S → List (ClassId × FieldType)} {wf : S → va_W} (u : S) (hx : p.tables.exec = Jvm.exec) (hb : c.code = cc) (hr : meth.sig.returnType = none) (hlk : meth.locks = false) (hK : va_K D classes (tf u) s) (hP : va_P D classes (wf u) H) (hD : va_D A (wf u)) (hS : va_S A s.heap H locs) (hd : decode cc pc = .ok (.return_, 1)) (hpost : post u) : W p l e R s m args below meth c H locs cells slots (MQ below (QV post D tf wf A) args s cells slots A) (F0 m pc ls []) :=
  W.vret hx hb hr (fun t ht hW => ⟨⟨u, rfl, hpost, by rw [ht]; exact hP, va_K.moved hW.alike hK, hD⟩, hS.F ht⟩) hS.2.2 hd hlk
theorem ro_calli {own : String} {idx maxL n nL ci : Nat} {y : MethodName} {bytes : ByteArray} {ret : Option FieldType} {rm : Room} {wsC : va_W} {tysC : List (ClassId × FieldType)} {b : Addr} {As : List Value} {q : vw_C} {fs : List Value} {post : Int32 → Prop} (hx : p.tables.exec = Jvm.exec) (hb : c.code = cc) (hml : c.maxLocals = nL) (hT : ∀ w ∈ lw_g, w.before args s = true) (hown : s.vm.findClass own = some m.cls)
    (hM : Met l y (wc y bytes maxL ret) rm (va_Pc (.ref b :: As) (roB D wsC tysC)) (vp_Si post) 0 0 (fun _ => False)) (cw : CallW R s args own q.1 idx y bytes maxL ret (wc y bytes maxL ret) rm 0 0 n)
    (hK : va_K D classes tysC s) (hP : va_P D classes wsC H) (q0 : Nat) (hq : classes[ci]? = some q) (he : wsC[q0]? = some (b, .inr (ci, fs))) (hn : As.length = n) (hsz : ls.size = nL) (hst : st0 = As.reverse ++ .ref b :: rest) (hW : (rest.map fun v => v.category).sum ≤ 8) (hd : decode cc pc = .ok (.invokevirtual idx, 3)) (hf : cells ≤ R.cells ∧ slots ≤ R.slots)
    (kk : ∀ r : Int32, post r → W p l e R s m args below meth c H locs cells slots Q (F0 m (pc + 3) ls (.int r :: rest))) : W p l e R s m args below meth c H locs cells slots Q (F0 m pc ls st0) :=
  vp_callSi (W.runV (As := As) (rest := rest) ⟨hx, hb, hml, hown, hT⟩ hM cw ⟨ro_blind, va_recv hK hP hq he, fun U hU hW => ⟨rfl, by rw [hU]; exact hP, va_K.moved hW.alike hK⟩⟩ rfl hn hsz hst (lv_room hW) hd hf) kk
theorem rw_calli {own : String} {idx maxL n nL ci : Nat} {y : MethodName} {bytes : ByteArray} {ret : Option FieldType} {rm : Room} {wsC wr : va_W} {tysC : List (ClassId × FieldType)} {b : Addr} {As : List Value} {q : vw_C} {fs : List Value} {S : Type} {post : Int32 → S → Prop} {tf : S → List (ClassId × FieldType)} {wf : S → va_W} {mc ms : Nat} (hx : p.tables.exec = Jvm.exec) (hb : c.code = cc) (hml : c.maxLocals = nL) (hT : ∀ w ∈ lw_g, w.before args s = true) (hown : s.vm.findClass own = some m.cls)
    (hM : Met l y (wc y bytes maxL ret) rm (va_Pc (.ref b :: As) (rwB D wsC tysC H.size)) (QI post D tf wf (va_A wsC H.size)) mc ms (va_A wsC H.size)) (cw : CallW R s args own q.1 idx y bytes maxL ret (wc y bytes maxL ret) rm mc ms n)
    (hKc : va_K D classes tysC s) (hP : va_P D classes ws H) (hD : va_D A ws) (hS : va_S A H0 H locs) (hA : ∀ q, H0.size ≤ q → A q) (isC isR : List Nat) (hC : isC.map (fun i => ws[i]?) = wsC.map some) (hR : isR.map (fun i => ws[i]?) = wr.map some) (hnC : va_nd isC = true) (hnR : va_nd isR = true) (hdis : ∀ i ∈ isR, i ∉ isC) (q0 : Nat) (hq : classes[ci]? = some q) (he : wsC[q0]? = some (b, .inr (ci, fs))) (hn : As.length = n) (hsz : ls.size = nL) (hst : st0 = As.reverse ++ .ref b :: rest) (hW : (rest.map fun v => v.category).sum ≤ 8) (hd : decode cc pc = .ok (.invokevirtual idx, 3)) (hf : cells + mc ≤ R.cells ∧ slots + ms ≤ R.slots)
    (kk : ∀ (r : Int32) (u : S) (H1 : Heap) (locs1 : List Loc), post r u → va_K D classes (tf u) s → va_P D classes (wr ++ wf u) H1 → va_D A (wr ++ wf u) → va_S A H0 H1 locs1 → W p l e R s m args below meth c H1 locs1 (cells + mc) (slots + ms) Q (F0 m (pc + 3) ls (.int r :: rest))) : W p l e R s m args below meth c H locs cells slots Q (F0 m pc ls st0) := by
  have hPc : va_P D classes wsC H := hP.sub isC (fm_of _ _ hC)
  have hDc := hD.sub isC hnC hC
  have hFc := va_free hD hS hA isC hC
  refine va_calli (va_runV (As := As) (rest := rest) ⟨hx, hb, hml, hown, hT⟩ hM cw ⟨rw_blind, va_recv hKc hPc hq he, fun U hU hW => ⟨rfl, by rw [hU], by rw [hU]; exact hPc, va_K.moved hW.alike hKc, hDc.weaken (fun _ _ _ _ => trivial)⟩⟩ rfl hn hsz hst (lv_room hW) hd hf) hS (fun q _ h => hFc q h) hFc (fun r u t H1 locs1 ht hvm hw hB hz1 hk1 hS1 => ?_)
  obtain ⟨hP1, hK1, hD1⟩ := hB
  rw [ht] at hP1
  obtain ⟨hP2, hD2⟩ := va_join hP hD isC isR hC hR hnR hdis hk1 hFc hP1 hD1
  exact kk r u H1 locs1 hw (va_K.moved hvm.symm hK1) hP2 hD2 hS1
theorem rw_callv {own : String} {idx maxL n nL ci : Nat} {y : MethodName} {bytes : ByteArray} {ret : Option FieldType} {rm : Room} {wsC wr : va_W} {tysC : List (ClassId × FieldType)} {b : Addr} {As : List Value} {q : vw_C} {fs : List Value} {S : Type} {post : S → Prop} {tf : S → List (ClassId × FieldType)} {wf : S → va_W} {mc ms : Nat} (hx : p.tables.exec = Jvm.exec) (hb : c.code = cc) (hml : c.maxLocals = nL) (hT : ∀ w ∈ lw_g, w.before args s = true) (hown : s.vm.findClass own = some m.cls)
    (hM : Met l y (wc y bytes maxL ret) rm (va_Pc (.ref b :: As) (rwB D wsC tysC H.size)) (QV post D tf wf (va_A wsC H.size)) mc ms (va_A wsC H.size)) (cw : CallW R s args own q.1 idx y bytes maxL ret (wc y bytes maxL ret) rm mc ms n)
    (hKc : va_K D classes tysC s) (hP : va_P D classes ws H) (hD : va_D A ws) (hS : va_S A H0 H locs) (hA : ∀ q, H0.size ≤ q → A q) (isC isR : List Nat) (hC : isC.map (fun i => ws[i]?) = wsC.map some) (hR : isR.map (fun i => ws[i]?) = wr.map some) (hnC : va_nd isC = true) (hnR : va_nd isR = true) (hdis : ∀ i ∈ isR, i ∉ isC) (q0 : Nat) (hq : classes[ci]? = some q) (he : wsC[q0]? = some (b, .inr (ci, fs))) (hn : As.length = n) (hsz : ls.size = nL) (hst : st0 = As.reverse ++ .ref b :: rest) (hW : (rest.map fun v => v.category).sum ≤ 8) (hd : decode cc pc = .ok (.invokevirtual idx, 3)) (hf : cells + mc ≤ R.cells ∧ slots + ms ≤ R.slots)
    (kk : ∀ (u : S) (H1 : Heap) (locs1 : List Loc), post u → va_K D classes (tf u) s → va_P D classes (wr ++ wf u) H1 → va_D A (wr ++ wf u) → va_S A H0 H1 locs1 → W p l e R s m args below meth c H1 locs1 (cells + mc) (slots + ms) Q (F0 m (pc + 3) ls rest)) : W p l e R s m args below meth c H locs cells slots Q (F0 m pc ls st0) := by
  have hPc : va_P D classes wsC H := hP.sub isC (fm_of _ _ hC)
  have hDc := hD.sub isC hnC hC
  have hFc := va_free hD hS hA isC hC
  refine va_callv (va_runV (As := As) (rest := rest) ⟨hx, hb, hml, hown, hT⟩ hM cw ⟨rw_blind, va_recv hKc hPc hq he, fun U hU hW => ⟨rfl, by rw [hU], by rw [hU]; exact hPc, va_K.moved hW.alike hKc, hDc.weaken (fun _ _ _ _ => trivial)⟩⟩ rfl hn hsz hst (lv_room hW) hd hf) hS (fun q _ h => hFc q h) hFc (fun u t H1 locs1 ht hvm hw hB hz1 hk1 hS1 => ?_)
  obtain ⟨hP1, hK1, hD1⟩ := hB
  rw [ht] at hP1
  obtain ⟨hP2, hD2⟩ := va_join hP hD isC isR hC hR hnR hdis hk1 hFc hP1 hD1
  exact kk u H1 locs1 hw (va_K.moved hvm.symm hK1) hP2 hD2 hS1
theorem rw_callvI {own : String} {idx maxL n nL : Nat} {y : MethodName} {bytes : ByteArray} {rm : Room} {wsC wr : va_W} {tysC : List (ClassId × FieldType)} {b : Addr} {As : List Value} {S : Type} {post : S → Prop} {tf : S → List (ClassId × FieldType)} {wf : S → va_W} {mc ms : Nat} (hx : p.tables.exec = Jvm.exec) (hb : c.code = cc) (hml : c.maxLocals = nL) (hT : ∀ w ∈ lw_g, w.before args s = true) (hown : s.vm.findClass own = some m.cls)
    (hM : Met l y (wc y bytes maxL none) rm (va_Pc (.ref b :: As) (rwB D wsC tysC H.size)) (QV post D tf wf (va_A wsC H.size)) mc ms (va_A wsC H.size)) (cw : CallB R s args own idx y bytes maxL none (wc y bytes maxL none) rm mc ms n ∧ y.name = "<init>" ∧ (Cond.instanceMethod y).before args s = true)
    (hKc : va_K D classes tysC s) (hP : va_P D classes ws H) (hD : va_D A ws) (hS : va_S A H0 H locs) (hA : ∀ q, H0.size ≤ q → A q) (isC isR : List Nat) (hC : isC.map (fun i => ws[i]?) = wsC.map some) (hR : isR.map (fun i => ws[i]?) = wr.map some) (hnC : va_nd isC = true) (hnR : va_nd isR = true) (hdis : ∀ i ∈ isR, i ∉ isC)  (hn : As.length = n) (hsz : ls.size = nL) (hst : st0 = As.reverse ++ .ref b :: rest) (hW : (rest.map fun v => v.category).sum ≤ 8) (hd : decode cc pc = .ok (.invokespecial idx, 3)) (hf : cells + mc ≤ R.cells ∧ slots + ms ≤ R.slots)
    (kk : ∀ (u : S) (H1 : Heap) (locs1 : List Loc), post u → va_K D classes (tf u) s → va_P D classes (wr ++ wf u) H1 → va_D A (wr ++ wf u) → va_S A H0 H1 locs1 → W p l e R s m args below meth c H1 locs1 (cells + mc) (slots + ms) Q (F0 m (pc + 3) ls rest)) : W p l e R s m args below meth c H locs cells slots Q (F0 m pc ls st0) := by
  have hPc : va_P D classes wsC H := hP.sub isC (fm_of _ _ hC)
  have hDc := hD.sub isC hnC hC
  have hFc := va_free hD hS hA isC hC
  refine va_callv (va_runI (As := As) (rest := rest) ⟨hx, hb, hml, hown, hT⟩ hM cw ⟨rw_blind, fun U hU hW => ⟨rfl, by rw [hU], by rw [hU]; exact hPc, va_K.moved hW.alike hKc, hDc.weaken (fun _ _ _ _ => trivial)⟩⟩ rfl hn hsz hst (lv_room hW) hd hf) hS (fun q _ h => hFc q h) hFc (fun u t H1 locs1 ht hvm hw hB hz1 hk1 hS1 => ?_)
  obtain ⟨hP1, hK1, hD1⟩ := hB
  rw [ht] at hP1
  obtain ⟨hP2, hD2⟩ := va_join hP hD isC isR hC hR hnR hdis hk1 hFc hP1 hD1
  exact kk u H1 locs1 hw (va_K.moved hvm.symm hK1) hP2 hD2 hS1
theorem nv_iadd (hx : p.tables.exec = Jvm.exec) (hb : c.code = cc) {x y : Nat} (hd : decode cc pc = .ok (.iadd, 1)) (k : W p l e R s m args below meth c H locs cells slots Q (F0 m (pc + 1) ls (.int (nI (x + y)) :: rest))) : W p l e R s m args below meth c H locs cells slots Q (F0 m pc ls (.int (nI y) :: .int (nI x) :: rest)) :=
  lv_iadd hx hb hd (by rw [nI_add]; exact k)
theorem nv_isub (hx : p.tables.exec = Jvm.exec) (hb : c.code = cc) {x y : Nat} (h : y ≤ x) (hd : decode cc pc = .ok (.isub, 1)) (k : W p l e R s m args below meth c H locs cells slots Q (F0 m (pc + 1) ls (.int (nI (x - y)) :: rest))) : W p l e R s m args below meth c H locs cells slots Q (F0 m pc ls (.int (nI y) :: .int (nI x) :: rest)) :=
  lv_isub hx hb hd (by rw [pk_sub h]; exact k)
theorem nv_irem (hx : p.tables.exec = Jvm.exec) (hb : c.code = cc) {x y : Nat} (h1 : x < 2 ^ 31) (h0 : 0 < y) (h2 : y < 2 ^ 31) (hd : decode cc pc = .ok (.irem, 1)) (k : W p l e R s m args below meth c H locs cells slots Q (F0 m (pc + 1) ls (.int (nI (x % y)) :: rest))) : W p l e R s m args below meth c H locs cells slots Q (F0 m pc ls (.int (nI y) :: .int (nI x) :: rest)) :=
  lv_irem hx hb hd (nI_ne0 h0 h2) (by rw [pk_rem h1 h0 h2]; exact k)
theorem nv_icmp_eq (hx : p.tables.exec = Jvm.exec) (hb : c.code = cc) {x y : Nat} {off : Int} {tgt : Nat} (h1 : x < 2 ^ 31) (h2 : y < 2 ^ 31) (hd : decode cc pc = .ok (.if_icmp .eq off, 3)) (ht : (pc : Int) + off = (tgt : Int)) (kt : x = y → W p l e R s m args below meth c H locs cells slots Q (F0 m tgt ls rest)) (kf : x ≠ y → W p l e R s m args below meth c H locs cells slots Q (F0 m (pc + 3) ls rest)) : W p l e R s m args below meth c H locs cells slots Q (F0 m pc ls (.int (nI y) :: .int (nI x) :: rest)) :=
  lv_icmp_eq hx hb hd ht (fun h => kt ((nI_eq h1 h2).mp h)) (fun h => kf (fun q => h ((nI_eq h1 h2).mpr q)))
theorem nv_icmp_ne (hx : p.tables.exec = Jvm.exec) (hb : c.code = cc) {x y : Nat} {off : Int} {tgt : Nat} (h1 : x < 2 ^ 31) (h2 : y < 2 ^ 31) (hd : decode cc pc = .ok (.if_icmp .ne off, 3)) (ht : (pc : Int) + off = (tgt : Int)) (kt : x ≠ y → W p l e R s m args below meth c H locs cells slots Q (F0 m tgt ls rest)) (kf : x = y → W p l e R s m args below meth c H locs cells slots Q (F0 m (pc + 3) ls rest)) : W p l e R s m args below meth c H locs cells slots Q (F0 m pc ls (.int (nI y) :: .int (nI x) :: rest)) :=
  lv_icmp_ne hx hb hd ht (fun h => kt (fun q => h ((nI_eq h1 h2).mpr q))) (fun h => kf ((nI_eq h1 h2).mp h))
theorem nv_icmp_lt (hx : p.tables.exec = Jvm.exec) (hb : c.code = cc) {x y : Nat} {off : Int} {tgt : Nat} (h1 : x < 2 ^ 31) (h2 : y < 2 ^ 31) (hd : decode cc pc = .ok (.if_icmp .lt off, 3)) (ht : (pc : Int) + off = (tgt : Int)) (kt : x < y → W p l e R s m args below meth c H locs cells slots Q (F0 m tgt ls rest)) (kf : y ≤ x → W p l e R s m args below meth c H locs cells slots Q (F0 m (pc + 3) ls rest)) : W p l e R s m args below meth c H locs cells slots Q (F0 m pc ls (.int (nI y) :: .int (nI x) :: rest)) :=
  lv_icmp_lt hx hb hd ht (fun h => kt ((nI_ltI h1 h2).mp h)) (fun h => kf (Nat.not_lt.mp fun q => h ((nI_ltI h1 h2).mpr q)))
theorem nv_icmp_ge (hx : p.tables.exec = Jvm.exec) (hb : c.code = cc) {x y : Nat} {off : Int} {tgt : Nat} (h1 : x < 2 ^ 31) (h2 : y < 2 ^ 31) (hd : decode cc pc = .ok (.if_icmp .ge off, 3)) (ht : (pc : Int) + off = (tgt : Int)) (kt : y ≤ x → W p l e R s m args below meth c H locs cells slots Q (F0 m tgt ls rest)) (kf : x < y → W p l e R s m args below meth c H locs cells slots Q (F0 m (pc + 3) ls rest)) : W p l e R s m args below meth c H locs cells slots Q (F0 m pc ls (.int (nI y) :: .int (nI x) :: rest)) :=
  lv_icmp_ge hx hb hd ht (fun h => kt ((nI_leI h2 h1).mp h)) (fun h => kf (Nat.not_le.mp fun q => h ((nI_leI h2 h1).mpr q)))
theorem nv_icmp_gt (hx : p.tables.exec = Jvm.exec) (hb : c.code = cc) {x y : Nat} {off : Int} {tgt : Nat} (h1 : x < 2 ^ 31) (h2 : y < 2 ^ 31) (hd : decode cc pc = .ok (.if_icmp .gt off, 3)) (ht : (pc : Int) + off = (tgt : Int)) (kt : y < x → W p l e R s m args below meth c H locs cells slots Q (F0 m tgt ls rest)) (kf : x ≤ y → W p l e R s m args below meth c H locs cells slots Q (F0 m (pc + 3) ls rest)) : W p l e R s m args below meth c H locs cells slots Q (F0 m pc ls (.int (nI y) :: .int (nI x) :: rest)) :=
  lv_icmp_gt hx hb hd ht (fun h => kt ((nI_ltI h2 h1).mp h)) (fun h => kf (Nat.not_lt.mp fun q => h ((nI_ltI h2 h1).mpr q)))
theorem nv_icmp_le (hx : p.tables.exec = Jvm.exec) (hb : c.code = cc) {x y : Nat} {off : Int} {tgt : Nat} (h1 : x < 2 ^ 31) (h2 : y < 2 ^ 31) (hd : decode cc pc = .ok (.if_icmp .le off, 3)) (ht : (pc : Int) + off = (tgt : Int)) (kt : x ≤ y → W p l e R s m args below meth c H locs cells slots Q (F0 m tgt ls rest)) (kf : y < x → W p l e R s m args below meth c H locs cells slots Q (F0 m (pc + 3) ls rest)) : W p l e R s m args below meth c H locs cells slots Q (F0 m pc ls (.int (nI y) :: .int (nI x) :: rest)) :=
  lv_icmp_le hx hb hd ht (fun h => kt ((nI_leI h1 h2).mp h)) (fun h => kf (Nat.not_le.mp fun q => h ((nI_leI h1 h2).mpr q)))
theorem nv_if_eq (hx : p.tables.exec = Jvm.exec) (hb : c.code = cc) {x : Nat} {off : Int} {tgt : Nat} (h1 : x < 2 ^ 31) (hd : decode cc pc = .ok (.ifCond .eq off, 3)) (ht : (pc : Int) + off = (tgt : Int)) (kt : x = 0 → W p l e R s m args below meth c H locs cells slots Q (F0 m tgt ls rest)) (kf : x ≠ 0 → W p l e R s m args below meth c H locs cells slots Q (F0 m (pc + 3) ls rest)) : W p l e R s m args below meth c H locs cells slots Q (F0 m pc ls (.int (nI x) :: rest)) :=
  have h0 : (0 : Nat) < 2 ^ 31 := by decide
  lv_if_eq hx hb hd ht (fun h => kt ((nI_eq h1 h0).mp h)) (fun h => kf (fun q => h ((nI_eq h1 h0).mpr q)))
theorem nv_if_ne (hx : p.tables.exec = Jvm.exec) (hb : c.code = cc) {x : Nat} {off : Int} {tgt : Nat} (h1 : x < 2 ^ 31) (hd : decode cc pc = .ok (.ifCond .ne off, 3)) (ht : (pc : Int) + off = (tgt : Int)) (kt : x ≠ 0 → W p l e R s m args below meth c H locs cells slots Q (F0 m tgt ls rest)) (kf : x = 0 → W p l e R s m args below meth c H locs cells slots Q (F0 m (pc + 3) ls rest)) : W p l e R s m args below meth c H locs cells slots Q (F0 m pc ls (.int (nI x) :: rest)) :=
  have h0 : (0 : Nat) < 2 ^ 31 := by decide
  lv_if_ne hx hb hd ht (fun h => kt (fun q => h ((nI_eq h1 h0).mpr q))) (fun h => kf ((nI_eq h1 h0).mp h))
theorem nv_if_lt (hx : p.tables.exec = Jvm.exec) (hb : c.code = cc) {x : Nat} {off : Int} {tgt : Nat} (h1 : x < 2 ^ 31) (hd : decode cc pc = .ok (.ifCond .lt off, 3)) (ht : (pc : Int) + off = (tgt : Int)) (kt : x < 0 → W p l e R s m args below meth c H locs cells slots Q (F0 m tgt ls rest)) (kf : 0 ≤ x → W p l e R s m args below meth c H locs cells slots Q (F0 m (pc + 3) ls rest)) : W p l e R s m args below meth c H locs cells slots Q (F0 m pc ls (.int (nI x) :: rest)) :=
  have h0 : (0 : Nat) < 2 ^ 31 := by decide
  lv_if_lt hx hb hd ht (fun h => kt ((nI_ltI h1 h0).mp h)) (fun h => kf (Nat.not_lt.mp fun q => h ((nI_ltI h1 h0).mpr q)))
theorem nv_if_ge (hx : p.tables.exec = Jvm.exec) (hb : c.code = cc) {x : Nat} {off : Int} {tgt : Nat} (h1 : x < 2 ^ 31) (hd : decode cc pc = .ok (.ifCond .ge off, 3)) (ht : (pc : Int) + off = (tgt : Int)) (kt : 0 ≤ x → W p l e R s m args below meth c H locs cells slots Q (F0 m tgt ls rest)) (kf : x < 0 → W p l e R s m args below meth c H locs cells slots Q (F0 m (pc + 3) ls rest)) : W p l e R s m args below meth c H locs cells slots Q (F0 m pc ls (.int (nI x) :: rest)) :=
  have h0 : (0 : Nat) < 2 ^ 31 := by decide
  lv_if_ge hx hb hd ht (fun h => kt ((nI_leI h0 h1).mp h)) (fun h => kf (Nat.not_le.mp fun q => h ((nI_leI h0 h1).mpr q)))
theorem nv_if_gt (hx : p.tables.exec = Jvm.exec) (hb : c.code = cc) {x : Nat} {off : Int} {tgt : Nat} (h1 : x < 2 ^ 31) (hd : decode cc pc = .ok (.ifCond .gt off, 3)) (ht : (pc : Int) + off = (tgt : Int)) (kt : 0 < x → W p l e R s m args below meth c H locs cells slots Q (F0 m tgt ls rest)) (kf : x ≤ 0 → W p l e R s m args below meth c H locs cells slots Q (F0 m (pc + 3) ls rest)) : W p l e R s m args below meth c H locs cells slots Q (F0 m pc ls (.int (nI x) :: rest)) :=
  have h0 : (0 : Nat) < 2 ^ 31 := by decide
  lv_if_gt hx hb hd ht (fun h => kt ((nI_ltI h0 h1).mp h)) (fun h => kf (Nat.not_lt.mp fun q => h ((nI_ltI h0 h1).mpr q)))
theorem nv_if_le (hx : p.tables.exec = Jvm.exec) (hb : c.code = cc) {x : Nat} {off : Int} {tgt : Nat} (h1 : x < 2 ^ 31) (hd : decode cc pc = .ok (.ifCond .le off, 3)) (ht : (pc : Int) + off = (tgt : Int)) (kt : x ≤ 0 → W p l e R s m args below meth c H locs cells slots Q (F0 m tgt ls rest)) (kf : 0 < x → W p l e R s m args below meth c H locs cells slots Q (F0 m (pc + 3) ls rest)) : W p l e R s m args below meth c H locs cells slots Q (F0 m pc ls (.int (nI x) :: rest)) :=
  have h0 : (0 : Nat) < 2 ^ 31 := by decide
  lv_if_le hx hb hd ht (fun h => kt ((nI_leI h1 h0).mp h)) (fun h => kf (Nat.not_le.mp fun q => h ((nI_leI h1 h0).mpr q)))
theorem nv_iinc (hx : p.tables.exec = Jvm.exec) (hb : c.code = cc) {i nL k x : Nat} {lv lv' : List (Nat × Value)} (hd : decode cc pc = .ok (.iinc i 1, 3)) (h : lv_has ls nL lv) (hk : lv[k]? = some (i, .int (nI x))) (hn : i < nL) (hl : (i, Value.int (nI (x + 1))) :: lv.filter (fun q => !(q.1 == i) && !(q.1 + 1 == i && q.2.category == 2)) = lv') (kk : ∀ ls' : Array Slot, lv_has ls' nL lv' → W p l e R s m args below meth c H locs cells slots Q (F0 m (pc + 3) ls' rest)) : W p l e R s m args below meth c H locs cells slots Q (F0 m pc ls rest) :=
  lv_iinc (v := nI (x + 1)) hx hb hd h hk (nI_add x 1) hn hl kk
theorem nv_iinc3 (hx : p.tables.exec = Jvm.exec) (hb : c.code = cc) {i nL k x : Nat} {lv lv' : List (Nat × Value)} (hd : decode cc pc = .ok (.iinc i 3, 3)) (h : lv_has ls nL lv) (hk : lv[k]? = some (i, .int (nI x))) (hn : i < nL) (hl : (i, Value.int (nI (x + 3))) :: lv.filter (fun q => !(q.1 == i) && !(q.1 + 1 == i && q.2.category == 2)) = lv') (kk : ∀ ls' : Array Slot, lv_has ls' nL lv' → W p l e R s m args below meth c H locs cells slots Q (F0 m (pc + 3) ls' rest)) : W p l e R s m args below meth c H locs cells slots Q (F0 m pc ls rest) :=
  lv_iinc (v := nI (x + 3)) hx hb hd h hk (nI_add x 3) hn hl kk
theorem nv_as {x y : Nat} (h : x = y) (k : W p l e R s m args below meth c H locs cells slots Q (F0 m pc ls (.int (nI y) :: rest))) : W p l e R s m args below meth c H locs cells slots Q (F0 m pc ls (.int (nI x) :: rest)) := by rw [h]; exact k
theorem nv_asI {x : Int32} {y : Nat} (h : x = nI y) (k : W p l e R s m args below meth c H locs cells slots Q (F0 m pc ls (.int (nI y) :: rest))) : W p l e R s m args below meth c H locs cells slots Q (F0 m pc ls (.int x :: rest)) := by rw [h]; exact k
theorem nv_asX {x y : Int32} (h : x = y) (k : W p l e R s m args below meth c H locs cells slots Q (F0 m pc ls (.int y :: rest))) : W p l e R s m args below meth c H locs cells slots Q (F0 m pc ls (.int x :: rest)) := by rw [h]; exact k
theorem nv_iald (hx : p.tables.exec = Jvm.exec) (hb : c.code = cc) (hK : va_K D classes tys s) (hP : va_P D classes ws H) (q0 t0 : Nat) {cA : ClassId} {n k : Nat} {f : Nat → Int32} (ha : ws[q0]? = some (a, .inl (cA, n, .inl f))) (ht : tys[t0]? = some (cA, .int)) (hk : k < n) (hn : n < 2 ^ 31) (hd : decode cc pc = .ok (.iaload, 1)) (kk : W p l e R s m args below meth c H locs cells slots Q (F0 m (pc + 1) ls (.int (f k) :: rest))) : W p l e R s m args below meth c H locs cells slots Q (F0 m pc ls (.int (nI k) :: .ref a :: rest)) :=
  va_iald hx hb hK hP q0 t0 ha ht (vp_in_nI hk hn) hd (by rw [nI_clamp (Nat.lt_trans hk hn)]; exact kk)
theorem nv_iast (hx : p.tables.exec = Jvm.exec) (hb : c.code = cc) (hK : va_K D classes tys s) (hP : va_P D classes ws H) (hD : va_D A ws) (hS : va_S A H0 H locs) (q0 t0 : Nat) {cA : ClassId} {n k : Nat} {f : Nat → Int32} {v : Int32} (ha : ws[q0]? = some (a, .inl (cA, n, .inl f))) (ht : tys[t0]? = some (cA, .int)) (hk : k < n) (hn : n < 2 ^ 31) (hd : decode cc pc = .ok (.iastore, 1)) (kk : ∀ (H1 : Heap) (locs1 : List Loc), va_P D classes (ws.set q0 (a, .inl (cA, n, .inl (upd f k v)))) H1 → va_D A (ws.set q0 (a, .inl (cA, n, .inl (upd f k v)))) → va_S A H0 H1 locs1 → W p l e R s m args below meth c H1 locs1 cells slots Q (F0 m (pc + 1) ls rest)) : W p l e R s m args below meth c H locs cells slots Q (F0 m pc ls (.int v :: .int (nI k) :: .ref a :: rest)) := by
  refine va_iast hx hb hK hP hD hS q0 t0 ha ht (vp_in_nI hk hn) hd ?_
  rw [nI_clamp (Nat.lt_trans hk hn)]
  exact kk
theorem nv_bald (hx : p.tables.exec = Jvm.exec) (hb : c.code = cc) (hK : va_K D classes tys s) (hP : va_P D classes ws H) (q0 t0 : Nat) {cA : ClassId} {n k : Nat} {f : Nat → Int32} (ha : ws[q0]? = some (a, .inl (cA, n, .inl f))) (ht : tys[t0]? = some (cA, .byte)) (hk : k < n) (hn : n < 2 ^ 31) (hd : decode cc pc = .ok (.baload, 1)) (kk : W p l e R s m args below meth c H locs cells slots Q (F0 m (pc + 1) ls (.int (f k) :: rest))) : W p l e R s m args below meth c H locs cells slots Q (F0 m pc ls (.int (nI k) :: .ref a :: rest)) :=
  va_bald hx hb hK hP q0 t0 ha ht (vp_in_nI hk hn) hd (by rw [nI_clamp (Nat.lt_trans hk hn)]; exact kk)
theorem nv_bast (hx : p.tables.exec = Jvm.exec) (hb : c.code = cc) (hK : va_K D classes tys s) (hP : va_P D classes ws H) (hD : va_D A ws) (hS : va_S A H0 H locs) (q0 t0 : Nat) {cA : ClassId} {n k : Nat} {f : Nat → Int32} {v : Int32} (ha : ws[q0]? = some (a, .inl (cA, n, .inl f))) (ht : tys[t0]? = some (cA, .byte)) (hk : k < n) (hn : n < 2 ^ 31) (hv : vp_nar .byte v = v) (hd : decode cc pc = .ok (.bastore, 1)) (kk : ∀ (H1 : Heap) (locs1 : List Loc), va_P D classes (ws.set q0 (a, .inl (cA, n, .inl (upd f k v)))) H1 → va_D A (ws.set q0 (a, .inl (cA, n, .inl (upd f k v)))) → va_S A H0 H1 locs1 → W p l e R s m args below meth c H1 locs1 cells slots Q (F0 m (pc + 1) ls rest)) : W p l e R s m args below meth c H locs cells slots Q (F0 m pc ls (.int v :: .int (nI k) :: .ref a :: rest)) := by
  refine va_bast hx hb hK hP hD hS q0 t0 ha ht (vp_in_nI hk hn) hd ?_
  rw [nI_clamp (Nat.lt_trans hk hn), hv]
  exact kk
theorem nv_sald (hx : p.tables.exec = Jvm.exec) (hb : c.code = cc) (hK : va_K D classes tys s) (hP : va_P D classes ws H) (q0 t0 : Nat) {cA : ClassId} {n k : Nat} {f : Nat → Int32} (ha : ws[q0]? = some (a, .inl (cA, n, .inl f))) (ht : tys[t0]? = some (cA, .short)) (hk : k < n) (hn : n < 2 ^ 31) (hd : decode cc pc = .ok (.saload, 1)) (kk : W p l e R s m args below meth c H locs cells slots Q (F0 m (pc + 1) ls (.int (f k) :: rest))) : W p l e R s m args below meth c H locs cells slots Q (F0 m pc ls (.int (nI k) :: .ref a :: rest)) :=
  va_sald hx hb hK hP q0 t0 ha ht (vp_in_nI hk hn) hd (by rw [nI_clamp (Nat.lt_trans hk hn)]; exact kk)
theorem nv_sast (hx : p.tables.exec = Jvm.exec) (hb : c.code = cc) (hK : va_K D classes tys s) (hP : va_P D classes ws H) (hD : va_D A ws) (hS : va_S A H0 H locs) (q0 t0 : Nat) {cA : ClassId} {n k : Nat} {f : Nat → Int32} {v : Int32} (ha : ws[q0]? = some (a, .inl (cA, n, .inl f))) (ht : tys[t0]? = some (cA, .short)) (hk : k < n) (hn : n < 2 ^ 31) (hv : vp_nar .short v = v) (hd : decode cc pc = .ok (.sastore, 1)) (kk : ∀ (H1 : Heap) (locs1 : List Loc), va_P D classes (ws.set q0 (a, .inl (cA, n, .inl (upd f k v)))) H1 → va_D A (ws.set q0 (a, .inl (cA, n, .inl (upd f k v)))) → va_S A H0 H1 locs1 → W p l e R s m args below meth c H1 locs1 cells slots Q (F0 m (pc + 1) ls rest)) : W p l e R s m args below meth c H locs cells slots Q (F0 m pc ls (.int v :: .int (nI k) :: .ref a :: rest)) := by
  refine va_sast hx hb hK hP hD hS q0 t0 ha ht (vp_in_nI hk hn) hd ?_
  rw [nI_clamp (Nat.lt_trans hk hn), hv]
  exact kk
theorem nv_alen (hx : p.tables.exec = Jvm.exec) (hb : c.code = cc) (hK : va_K D classes tys s) (hP : va_P D classes ws H) (q0 t0 : Nat) {cA : ClassId} {n : Nat} {f : Nat → Int32} {ty : FieldType} (ha : ws[q0]? = some (a, .inl (cA, n, .inl f))) (ht : tys[t0]? = some (cA, ty)) (hd : decode cc pc = .ok (.arraylength, 1)) (kk : W p l e R s m args below meth c H locs cells slots Q (F0 m (pc + 1) ls (.int (nI n) :: rest))) : W p l e R s m args below meth c H locs cells slots Q (F0 m pc ls (.ref a :: rest)) :=
  va_alen (x := (n, .inl f)) (v := nI n) hx hb hK hP q0 t0 ha ht rfl hd kk
theorem nv_min {x y : Nat} (h1 : x < 2 ^ 31) (h2 : y < 2 ^ 31) : (if nI y < nI x then nI y else nI x) = nI (min x y) := by
  by_cases h : y < x
  · rw [if_pos ((nI_ltI h2 h1).mpr h), Nat.min_eq_right (Nat.le_of_lt h)]
  · rw [if_neg (fun q => h ((nI_ltI h2 h1).mp q)), Nat.min_eq_left (Nat.not_lt.mp h)]
theorem nv_mmin (hx : p.tables.exec = Jvm.exec) (hb : c.code = cc) (hml : c.maxLocals = ls.size) (hT : ∀ w ∈ lw_g, w.before args s = true) {own : String} {idx : Nat} (hown : s.vm.findClass own = some m.cls) (hlink : (Cond.methodLink own idx Lib.Math.min.name) ∈ lw_g) {x y : Nat} (h1 : x < 2 ^ 31) (h2 : y < 2 ^ 31) (hfr : 1 ≤ R.frames) (hlo : (rest.map fun v => v.category).sum + 13 ≤ R.locals) (hc : cells ≤ R.cells) (hs : slots ≤ R.slots) (hd : decode cc pc = .ok (.invokestatic idx, 3)) (kk : W p l e R s m args below meth c H locs cells slots Q (F0 m (pc + 3) ls (.int (nI (min x y)) :: rest))) : W p l e R s m args below meth c H locs cells slots Q (F0 m pc ls (.int (nI y) :: .int (nI x) :: rest)) :=
  va_mmin hx hb hml hown (hT _ hlink) (hT _ tb_1_21) (hT _ tb_1_3) (hT _ tb_1_22) hfr hlo hc hs hd (by rw [nv_min h1 h2]; exact kk)
/-- the bytes: every place of the array is a byte -/
def by8 (f : Nat → Int32) : Prop := ∀ j, (f j).toInt8.toInt32 = f j
theorem by8_fit {f : Nat → Int32} (h : by8 f) (j : Nat) : fits .byte (.int (f j)) = true := by rw [← h j]; exact pk_fb _
theorem by8_nar {f : Nat → Int32} (h : by8 f) (j : Nat) : vp_nar .byte (f j) = f j := by rw [vp_nar_byte]; exact h j
theorem by8_0 : by8 (fun _ => 0) := fun _ => show (0 : Int32).toInt8.toInt32 = 0 by decide
theorem by8_upd {f : Nat → Int32} (h : by8 f) {k : Nat} {x : Int32} (hx : x.toInt8.toInt32 = x) : by8 (upd f k x) := fun j => by
  unfold upd
  split
  · exact hx
  · exact h j
theorem by8_i2b (x : Int32) : (x.toInt8.toInt32).toInt8.toInt32 = x.toInt8.toInt32 := by
  have := pk_vb x
  rw [vp_nar_byte] at this
  exact this
theorem by8_cpy {f g : Nat → Int32} {sp dp n : Nat} (hf : by8 f) (hg : by8 g) : by8 (va_cpy f g sp dp n) := fun j => by
  unfold va_cpy
  split
  · exact hf _
  · exact hg j
theorem nv_copy (hx : p.tables.exec = Jvm.exec) (hb : c.code = cc) (hml : c.maxLocals = ls.size) (hT : ∀ w ∈ lw_g, w.before args s = true) (hown : s.vm.findClass R_St = some m.cls) (hK : va_K D classes tys s) (hP : va_P D classes ws H) (hD : va_D A ws) (hS : va_S A H0 H locs) (q0 q1 t0 t1 : Nat) {a0 : Nat} {c0 c1 : ClassId} {n0 n1 : Nat} {f g : Nat → Int32} (ha0 : ws[q0]? = some (a0, .inl (c0, n0, .inl f))) (ha1 : ws[q1]? = some (a, .inl (c1, n1, .inl g))) (ht0 : tys[t0]? = some (c0, .byte)) (ht1 : tys[t1]? = some (c1, .byte)) {sp dp n : Nat} (h1 : sp + n ≤ n0) (h2 : dp + n ≤ n1) (h3 : n0 < 2 ^ 31) (h4 : n1 < 2 ^ 31) (hf : by8 f) (hfr : 1 ≤ R.frames) (hlo : (rest.map fun v => v.category).sum + 18 ≤ R.locals) (hd : decode cc pc = .ok (.invokestatic 53, 3)) (kk : ∀ (H1 : Heap) (locs1 : List Loc), va_P D classes (ws.set q1 (a, .inl (c1, n1, .inl (va_cpy f g sp dp n)))) H1 → va_D A (ws.set q1 (a, .inl (c1, n1, .inl (va_cpy f g sp dp n)))) → va_S A H0 H1 locs1 → W p l e R s m args below meth c H1 locs1 cells slots Q (F0 m (pc + 3) ls rest)) : W p l e R s m args below meth c H locs cells slots Q (F0 m pc ls (.int (nI n) :: .int (nI dp) :: .ref a :: .int (nI sp) :: .ref a0 :: rest)) := by
  have e1 : (nI sp).toNatClampNeg = sp := nI_clamp (by omega)
  have e2 : (nI dp).toNatClampNeg = dp := nI_clamp (by omega)
  have e3 : (nI n).toNatClampNeg = n := nI_clamp (by omega)
  refine va_copyi hx hb hml hown (hT _ tb_1_133) (hT _ tb_1_135) (hT _ tb_1_134) (hT _ tb_1_6) hK hP hD hS q0 q1 t0 t1 ha0 ha1 ht0 ht1 rfl (nI_pos (by omega)) (nI_pos (by omega)) (nI_pos (by omega)) (by rw [e1, e3]; exact h1) (by rw [e2, e3]; exact h2) (fun i _ => by8_fit hf _) hfr (by rw [show nativeFrameWords "java/lang/System" "arraycopy" 5 = 7 by decide +kernel]; exact hlo) hd ?_
  rw [e1, e2, e3]
  exact kk
/-- a loop: its head at pc, an empty stack; n falls -/
theorem lp_ind {α : Type} (I : Nat → α → Heap → List Loc → Array Slot → Prop) (step : ∀ n : Nat, (∀ (x : α) (H : Heap) (locs : List Loc) (ls : Array Slot), I n x H locs ls → W p l e R s m args below meth c H locs cells slots Q (F0 m pc ls [])) → ∀ (x : α) (H : Heap) (locs : List Loc) (ls : Array Slot), I (n + 1) x H locs ls → W p l e R s m args below meth c H locs cells slots Q (F0 m pc ls [])) (base : ∀ (x : α) (H : Heap) (locs : List Loc) (ls : Array Slot), ¬ I 0 x H locs ls) :
    ∀ (n : Nat) (x : α) (H : Heap) (locs : List Loc) (ls : Array Slot), I n x H locs ls → W p l e R s m args below meth c H locs cells slots Q (F0 m pc ls []) := by
  intro n
  induction n with
  | zero => exact fun x H locs ls h => absurd h (base x H locs ls)
  | succ n ih => exact step n ih
end LY1
end
section
theorem d_Rt_init_0 : decode b_Rt_init 0 = .ok (.aload_n 0, 1) := by decide +kernel
theorem d_Rt_init_1 : decode b_Rt_init 1 = .ok (.invokespecial 3, 3) := by decide +kernel
theorem d_Rt_init_4 : decode b_Rt_init 4 = .ok (.aload_n 0, 1) := by decide +kernel
theorem d_Rt_init_5 : decode b_Rt_init 5 = .ok (.aload_n 1, 1) := by decide +kernel
theorem d_Rt_init_6 : decode b_Rt_init 6 = .ok (.putfield 9, 3) := by decide +kernel
theorem d_Rt_init_9 : decode b_Rt_init 9 = .ok (.return_, 1) := by decide +kernel
theorem d_Rt_begin_0 : decode b_Rt_begin 0 = .ok (.aload_n 0, 1) := by decide +kernel
theorem d_Rt_begin_1 : decode b_Rt_begin 1 = .ok (.iconst 1, 1) := by decide +kernel
theorem d_Rt_begin_2 : decode b_Rt_begin 2 = .ok (.putfield 15, 3) := by decide +kernel
theorem d_Rt_begin_5 : decode b_Rt_begin 5 = .ok (.aload_n 0, 1) := by decide +kernel
theorem d_Rt_begin_6 : decode b_Rt_begin 6 = .ok (.iload_n 1, 1) := by decide +kernel
theorem d_Rt_begin_7 : decode b_Rt_begin 7 = .ok (.putfield 19, 3) := by decide +kernel
theorem d_Rt_begin_10 : decode b_Rt_begin 10 = .ok (.aload_n 0, 1) := by decide +kernel
theorem d_Rt_begin_11 : decode b_Rt_begin 11 = .ok (.iload_n 2, 1) := by decide +kernel
theorem d_Rt_begin_12 : decode b_Rt_begin 12 = .ok (.putfield 23, 3) := by decide +kernel
theorem d_Rt_begin_15 : decode b_Rt_begin 15 = .ok (.aload_n 0, 1) := by decide +kernel
theorem d_Rt_begin_16 : decode b_Rt_begin 16 = .ok (.aload_n 0, 1) := by decide +kernel
theorem d_Rt_begin_17 : decode b_Rt_begin 17 = .ok (.getfield 9, 3) := by decide +kernel
theorem d_Rt_begin_20 : decode b_Rt_begin 20 = .ok (.getfield 26, 3) := by decide +kernel
theorem d_Rt_begin_23 : decode b_Rt_begin 23 = .ok (.putfield 31, 3) := by decide +kernel
theorem d_Rt_begin_26 : decode b_Rt_begin 26 = .ok (.return_, 1) := by decide +kernel
theorem d_Rt_find_0 : decode b_Rt_find 0 = .ok (.aload_n 0, 1) := by decide +kernel
theorem d_Rt_find_1 : decode b_Rt_find 1 = .ok (.getfield 31, 3) := by decide +kernel
theorem d_Rt_find_4 : decode b_Rt_find 4 = .ok (.aload_n 0, 1) := by decide +kernel
theorem d_Rt_find_5 : decode b_Rt_find 5 = .ok (.getfield 9, 3) := by decide +kernel
theorem d_Rt_find_8 : decode b_Rt_find 8 = .ok (.getfield 26, 3) := by decide +kernel
theorem d_Rt_find_11 : decode b_Rt_find 11 = .ok (.if_icmp .ge 14, 3) := by decide +kernel
theorem d_Rt_find_14 : decode b_Rt_find 14 = .ok (.aload_n 0, 1) := by decide +kernel
theorem d_Rt_find_15 : decode b_Rt_find 15 = .ok (.aload_n 0, 1) := by decide +kernel
theorem d_Rt_find_16 : decode b_Rt_find 16 = .ok (.getfield 9, 3) := by decide +kernel
theorem d_Rt_find_19 : decode b_Rt_find 19 = .ok (.getfield 26, 3) := by decide +kernel
theorem d_Rt_find_22 : decode b_Rt_find 22 = .ok (.putfield 31, 3) := by decide +kernel
theorem d_Rt_find_25 : decode b_Rt_find 25 = .ok (.aload_n 0, 1) := by decide +kernel
theorem d_Rt_find_26 : decode b_Rt_find 26 = .ok (.getfield 31, 3) := by decide +kernel
theorem d_Rt_find_29 : decode b_Rt_find 29 = .ok (.aload_n 0, 1) := by decide +kernel
theorem d_Rt_find_30 : decode b_Rt_find 30 = .ok (.getfield 9, 3) := by decide +kernel
theorem d_Rt_find_33 : decode b_Rt_find 33 = .ok (.invokevirtual 34, 3) := by decide +kernel
theorem d_Rt_find_36 : decode b_Rt_find 36 = .ok (.if_icmp .ge 52, 3) := by decide +kernel
theorem d_Rt_find_39 : decode b_Rt_find 39 = .ok (.aload_n 0, 1) := by decide +kernel
theorem d_Rt_find_40 : decode b_Rt_find 40 = .ok (.getfield 9, 3) := by decide +kernel
theorem d_Rt_find_43 : decode b_Rt_find 43 = .ok (.aload_n 0, 1) := by decide +kernel
theorem d_Rt_find_44 : decode b_Rt_find 44 = .ok (.getfield 31, 3) := by decide +kernel
theorem d_Rt_find_47 : decode b_Rt_find 47 = .ok (.invokevirtual 38, 3) := by decide +kernel
theorem d_Rt_find_50 : decode b_Rt_find 50 = .ok (.aload_n 0, 1) := by decide +kernel
theorem d_Rt_find_51 : decode b_Rt_find 51 = .ok (.getfield 19, 3) := by decide +kernel
theorem d_Rt_find_54 : decode b_Rt_find 54 = .ok (.if_icmp .lt 21, 3) := by decide +kernel
theorem d_Rt_find_57 : decode b_Rt_find 57 = .ok (.aload_n 0, 1) := by decide +kernel
theorem d_Rt_find_58 : decode b_Rt_find 58 = .ok (.getfield 9, 3) := by decide +kernel
theorem d_Rt_find_61 : decode b_Rt_find 61 = .ok (.aload_n 0, 1) := by decide +kernel
theorem d_Rt_find_62 : decode b_Rt_find 62 = .ok (.getfield 31, 3) := by decide +kernel
theorem d_Rt_find_65 : decode b_Rt_find 65 = .ok (.invokevirtual 38, 3) := by decide +kernel
theorem d_Rt_find_68 : decode b_Rt_find 68 = .ok (.aload_n 0, 1) := by decide +kernel
theorem d_Rt_find_69 : decode b_Rt_find 69 = .ok (.getfield 23, 3) := by decide +kernel
theorem d_Rt_find_72 : decode b_Rt_find 72 = .ok (.if_icmp .le 16, 3) := by decide +kernel
theorem d_Rt_find_75 : decode b_Rt_find 75 = .ok (.aload_n 0, 1) := by decide +kernel
theorem d_Rt_find_76 : decode b_Rt_find 76 = .ok (.dup, 1) := by decide +kernel
theorem d_Rt_find_77 : decode b_Rt_find 77 = .ok (.getfield 31, 3) := by decide +kernel
theorem d_Rt_find_80 : decode b_Rt_find 80 = .ok (.iconst 1, 1) := by decide +kernel
theorem d_Rt_find_81 : decode b_Rt_find 81 = .ok (.iadd, 1) := by decide +kernel
theorem d_Rt_find_82 : decode b_Rt_find 82 = .ok (.putfield 31, 3) := by decide +kernel
theorem d_Rt_find_85 : decode b_Rt_find 85 = .ok (.goto (-60), 3) := by decide +kernel
theorem d_Rt_find_88 : decode b_Rt_find 88 = .ok (.aload_n 0, 1) := by decide +kernel
theorem d_Rt_find_89 : decode b_Rt_find 89 = .ok (.getfield 31, 3) := by decide +kernel
theorem d_Rt_find_92 : decode b_Rt_find 92 = .ok (.aload_n 0, 1) := by decide +kernel
theorem d_Rt_find_93 : decode b_Rt_find 93 = .ok (.getfield 9, 3) := by decide +kernel
theorem d_Rt_find_96 : decode b_Rt_find 96 = .ok (.invokevirtual 34, 3) := by decide +kernel
theorem d_Rt_find_99 : decode b_Rt_find 99 = .ok (.if_icmp .ge 8, 3) := by decide +kernel
theorem d_Rt_find_102 : decode b_Rt_find 102 = .ok (.aload_n 0, 1) := by decide +kernel
theorem d_Rt_find_103 : decode b_Rt_find 103 = .ok (.getfield 31, 3) := by decide +kernel
theorem d_Rt_find_106 : decode b_Rt_find 106 = .ok (.ireturn, 1) := by decide +kernel
theorem d_Rt_find_107 : decode b_Rt_find 107 = .ok (.aload_n 0, 1) := by decide +kernel
theorem d_Rt_find_108 : decode b_Rt_find 108 = .ok (.iconst 0, 1) := by decide +kernel
theorem d_Rt_find_109 : decode b_Rt_find 109 = .ok (.putfield 15, 3) := by decide +kernel
theorem d_Rt_find_112 : decode b_Rt_find 112 = .ok (.iconst (-1), 1) := by decide +kernel
theorem d_Rt_find_113 : decode b_Rt_find 113 = .ok (.ireturn, 1) := by decide +kernel
theorem d_St_init_0 : decode b_St_init 0 = .ok (.aload_n 0, 1) := by decide +kernel
theorem d_St_init_1 : decode b_St_init 1 = .ok (.invokespecial 1, 3) := by decide +kernel
theorem d_St_init_4 : decode b_St_init 4 = .ok (.aload_n 0, 1) := by decide +kernel
theorem d_St_init_5 : decode b_St_init 5 = .ok (.iload_n 1, 1) := by decide +kernel
theorem d_St_init_6 : decode b_St_init 6 = .ok (.newarray .byte, 2) := by decide +kernel
theorem d_St_init_8 : decode b_St_init 8 = .ok (.putfield 7, 3) := by decide +kernel
theorem d_St_init_11 : decode b_St_init 11 = .ok (.aload_n 0, 1) := by decide +kernel
theorem d_St_init_12 : decode b_St_init 12 = .ok (.iload_n 1, 1) := by decide +kernel
theorem d_St_init_13 : decode b_St_init 13 = .ok (.newarray .int, 2) := by decide +kernel
theorem d_St_init_15 : decode b_St_init 15 = .ok (.putfield 13, 3) := by decide +kernel
theorem d_St_init_18 : decode b_St_init 18 = .ok (.aload_n 0, 1) := by decide +kernel
theorem d_St_init_19 : decode b_St_init 19 = .ok (.iload_n 1, 1) := by decide +kernel
theorem d_St_init_20 : decode b_St_init 20 = .ok (.newarray .short, 2) := by decide +kernel
theorem d_St_init_22 : decode b_St_init 22 = .ok (.putfield 17, 3) := by decide +kernel
theorem d_St_init_25 : decode b_St_init 25 = .ok (.return_, 1) := by decide +kernel
theorem d_St_row_0 : decode b_St_row 0 = .ok (.iload_n 1, 1) := by decide +kernel
theorem d_St_row_1 : decode b_St_row 1 = .ok (.aload_n 0, 1) := by decide +kernel
theorem d_St_row_2 : decode b_St_row 2 = .ok (.getfield 13, 3) := by decide +kernel
theorem d_St_row_5 : decode b_St_row 5 = .ok (.arraylength, 1) := by decide +kernel
theorem d_St_row_6 : decode b_St_row 6 = .ok (.irem, 1) := by decide +kernel
theorem d_St_row_7 : decode b_St_row 7 = .ok (.ireturn, 1) := by decide +kernel
theorem d_St_size_0 : decode b_St_size 0 = .ok (.aload_n 0, 1) := by decide +kernel
theorem d_St_size_1 : decode b_St_size 1 = .ok (.getfield 17, 3) := by decide +kernel
theorem d_St_size_4 : decode b_St_size 4 = .ok (.aload_n 0, 1) := by decide +kernel
theorem d_St_size_5 : decode b_St_size 5 = .ok (.iload_n 1, 1) := by decide +kernel
theorem d_St_size_6 : decode b_St_size 6 = .ok (.invokevirtual 21, 3) := by decide +kernel
theorem d_St_size_9 : decode b_St_size 9 = .ok (.saload, 1) := by decide +kernel
theorem d_St_size_10 : decode b_St_size 10 = .ok (.ireturn, 1) := by decide +kernel
theorem d_St_time_0 : decode b_St_time 0 = .ok (.aload_n 0, 1) := by decide +kernel
theorem d_St_time_1 : decode b_St_time 1 = .ok (.getfield 13, 3) := by decide +kernel
theorem d_St_time_4 : decode b_St_time 4 = .ok (.aload_n 0, 1) := by decide +kernel
theorem d_St_time_5 : decode b_St_time 5 = .ok (.iload_n 1, 1) := by decide +kernel
theorem d_St_time_6 : decode b_St_time 6 = .ok (.invokevirtual 21, 3) := by decide +kernel
theorem d_St_time_9 : decode b_St_time 9 = .ok (.iaload, 1) := by decide +kernel
theorem d_St_time_10 : decode b_St_time 10 = .ok (.ireturn, 1) := by decide +kernel
theorem d_St_behind_0 : decode b_St_behind 0 = .ok (.aload_n 0, 1) := by decide +kernel
theorem d_St_behind_1 : decode b_St_behind 1 = .ok (.getfield 25, 3) := by decide +kernel
theorem d_St_behind_4 : decode b_St_behind 4 = .ok (.aload_n 0, 1) := by decide +kernel
theorem d_St_behind_5 : decode b_St_behind 5 = .ok (.getfield 29, 3) := by decide +kernel
theorem d_St_behind_8 : decode b_St_behind 8 = .ok (.iadd, 1) := by decide +kernel
theorem d_St_behind_9 : decode b_St_behind 9 = .ok (.ireturn, 1) := by decide +kernel
theorem d_St_drop_0 : decode b_St_drop 0 = .ok (.aload_n 0, 1) := by decide +kernel
theorem d_St_drop_1 : decode b_St_drop 1 = .ok (.aload_n 0, 1) := by decide +kernel
theorem d_St_drop_2 : decode b_St_drop 2 = .ok (.getfield 25, 3) := by decide +kernel
theorem d_St_drop_5 : decode b_St_drop 5 = .ok (.invokevirtual 32, 3) := by decide +kernel
theorem d_St_drop_8 : decode b_St_drop 8 = .ok (.istore_n 1, 1) := by decide +kernel
theorem d_St_drop_9 : decode b_St_drop 9 = .ok (.aload_n 0, 1) := by decide +kernel
theorem d_St_drop_10 : decode b_St_drop 10 = .ok (.aload_n 0, 1) := by decide +kernel
theorem d_St_drop_11 : decode b_St_drop 11 = .ok (.getfield 35, 3) := by decide +kernel
theorem d_St_drop_14 : decode b_St_drop 14 = .ok (.iload_n 1, 1) := by decide +kernel
theorem d_St_drop_15 : decode b_St_drop 15 = .ok (.iadd, 1) := by decide +kernel
theorem d_St_drop_16 : decode b_St_drop 16 = .ok (.aload_n 0, 1) := by decide +kernel
theorem d_St_drop_17 : decode b_St_drop 17 = .ok (.getfield 7, 3) := by decide +kernel
theorem d_St_drop_20 : decode b_St_drop 20 = .ok (.arraylength, 1) := by decide +kernel
theorem d_St_drop_21 : decode b_St_drop 21 = .ok (.irem, 1) := by decide +kernel
theorem d_St_drop_22 : decode b_St_drop 22 = .ok (.putfield 35, 3) := by decide +kernel
theorem d_St_drop_25 : decode b_St_drop 25 = .ok (.aload_n 0, 1) := by decide +kernel
theorem d_St_drop_26 : decode b_St_drop 26 = .ok (.dup, 1) := by decide +kernel
theorem d_St_drop_27 : decode b_St_drop 27 = .ok (.getfield 38, 3) := by decide +kernel
theorem d_St_drop_30 : decode b_St_drop 30 = .ok (.iload_n 1, 1) := by decide +kernel
theorem d_St_drop_31 : decode b_St_drop 31 = .ok (.isub, 1) := by decide +kernel
theorem d_St_drop_32 : decode b_St_drop 32 = .ok (.putfield 38, 3) := by decide +kernel
theorem d_St_drop_35 : decode b_St_drop 35 = .ok (.aload_n 0, 1) := by decide +kernel
theorem d_St_drop_36 : decode b_St_drop 36 = .ok (.dup, 1) := by decide +kernel
theorem d_St_drop_37 : decode b_St_drop 37 = .ok (.getfield 25, 3) := by decide +kernel
theorem d_St_drop_40 : decode b_St_drop 40 = .ok (.iconst 1, 1) := by decide +kernel
theorem d_St_drop_41 : decode b_St_drop 41 = .ok (.iadd, 1) := by decide +kernel
theorem d_St_drop_42 : decode b_St_drop 42 = .ok (.putfield 25, 3) := by decide +kernel
theorem d_St_drop_45 : decode b_St_drop 45 = .ok (.aload_n 0, 1) := by decide +kernel
theorem d_St_drop_46 : decode b_St_drop 46 = .ok (.dup, 1) := by decide +kernel
theorem d_St_drop_47 : decode b_St_drop 47 = .ok (.getfield 29, 3) := by decide +kernel
theorem d_St_drop_50 : decode b_St_drop 50 = .ok (.iconst 1, 1) := by decide +kernel
theorem d_St_drop_51 : decode b_St_drop 51 = .ok (.isub, 1) := by decide +kernel
theorem d_St_drop_52 : decode b_St_drop 52 = .ok (.putfield 29, 3) := by decide +kernel
theorem d_St_drop_55 : decode b_St_drop 55 = .ok (.return_, 1) := by decide +kernel
theorem d_St_keep_0 : decode b_St_keep 0 = .ok (.aload_n 0, 1) := by decide +kernel
theorem d_St_keep_1 : decode b_St_keep 1 = .ok (.getfield 29, 3) := by decide +kernel
theorem d_St_keep_4 : decode b_St_keep 4 = .ok (.istore 4, 2) := by decide +kernel
theorem d_St_keep_6 : decode b_St_keep 6 = .ok (.aload_n 0, 1) := by decide +kernel
theorem d_St_keep_7 : decode b_St_keep 7 = .ok (.getfield 38, 3) := by decide +kernel
theorem d_St_keep_10 : decode b_St_keep 10 = .ok (.iload_n 2, 1) := by decide +kernel
theorem d_St_keep_11 : decode b_St_keep 11 = .ok (.iadd, 1) := by decide +kernel
theorem d_St_keep_12 : decode b_St_keep 12 = .ok (.aload_n 0, 1) := by decide +kernel
theorem d_St_keep_13 : decode b_St_keep 13 = .ok (.getfield 7, 3) := by decide +kernel
theorem d_St_keep_16 : decode b_St_keep 16 = .ok (.arraylength, 1) := by decide +kernel
theorem d_St_keep_17 : decode b_St_keep 17 = .ok (.if_icmp .le 10, 3) := by decide +kernel
theorem d_St_keep_20 : decode b_St_keep 20 = .ok (.aload_n 0, 1) := by decide +kernel
theorem d_St_keep_21 : decode b_St_keep 21 = .ok (.invokevirtual 41, 3) := by decide +kernel
theorem d_St_keep_24 : decode b_St_keep 24 = .ok (.goto (-18), 3) := by decide +kernel
theorem d_St_keep_27 : decode b_St_keep 27 = .ok (.iload 4, 2) := by decide +kernel
theorem d_St_keep_29 : decode b_St_keep 29 = .ok (.aload_n 0, 1) := by decide +kernel
theorem d_St_keep_30 : decode b_St_keep 30 = .ok (.getfield 29, 3) := by decide +kernel
theorem d_St_keep_33 : decode b_St_keep 33 = .ok (.isub, 1) := by decide +kernel
theorem d_St_keep_34 : decode b_St_keep 34 = .ok (.istore 5, 2) := by decide +kernel
theorem d_St_keep_36 : decode b_St_keep 36 = .ok (.aload_n 0, 1) := by decide +kernel
theorem d_St_keep_37 : decode b_St_keep 37 = .ok (.dup, 1) := by decide +kernel
theorem d_St_keep_38 : decode b_St_keep 38 = .ok (.getfield 44, 3) := by decide +kernel
theorem d_St_keep_41 : decode b_St_keep 41 = .ok (.iload 5, 2) := by decide +kernel
theorem d_St_keep_43 : decode b_St_keep 43 = .ok (.iadd, 1) := by decide +kernel
theorem d_St_keep_44 : decode b_St_keep 44 = .ok (.putfield 44, 3) := by decide +kernel
theorem d_St_keep_47 : decode b_St_keep 47 = .ok (.aload_n 0, 1) := by decide +kernel
theorem d_St_keep_48 : decode b_St_keep 48 = .ok (.getfield 35, 3) := by decide +kernel
theorem d_St_keep_51 : decode b_St_keep 51 = .ok (.aload_n 0, 1) := by decide +kernel
theorem d_St_keep_52 : decode b_St_keep 52 = .ok (.getfield 38, 3) := by decide +kernel
theorem d_St_keep_55 : decode b_St_keep 55 = .ok (.iadd, 1) := by decide +kernel
theorem d_St_keep_56 : decode b_St_keep 56 = .ok (.aload_n 0, 1) := by decide +kernel
theorem d_St_keep_57 : decode b_St_keep 57 = .ok (.getfield 7, 3) := by decide +kernel
theorem d_St_keep_60 : decode b_St_keep 60 = .ok (.arraylength, 1) := by decide +kernel
theorem d_St_keep_61 : decode b_St_keep 61 = .ok (.irem, 1) := by decide +kernel
theorem d_St_keep_62 : decode b_St_keep 62 = .ok (.istore 6, 2) := by decide +kernel
theorem d_St_keep_64 : decode b_St_keep 64 = .ok (.iload_n 2, 1) := by decide +kernel
theorem d_St_keep_65 : decode b_St_keep 65 = .ok (.aload_n 0, 1) := by decide +kernel
theorem d_St_keep_66 : decode b_St_keep 66 = .ok (.getfield 7, 3) := by decide +kernel
theorem d_St_keep_69 : decode b_St_keep 69 = .ok (.arraylength, 1) := by decide +kernel
theorem d_St_keep_70 : decode b_St_keep 70 = .ok (.iload 6, 2) := by decide +kernel
theorem d_St_keep_72 : decode b_St_keep 72 = .ok (.isub, 1) := by decide +kernel
theorem d_St_keep_73 : decode b_St_keep 73 = .ok (.invokestatic 47, 3) := by decide +kernel
theorem d_St_keep_76 : decode b_St_keep 76 = .ok (.istore 7, 2) := by decide +kernel
theorem d_St_keep_78 : decode b_St_keep 78 = .ok (.aload_n 1, 1) := by decide +kernel
theorem d_St_keep_79 : decode b_St_keep 79 = .ok (.iconst 0, 1) := by decide +kernel
theorem d_St_keep_80 : decode b_St_keep 80 = .ok (.aload_n 0, 1) := by decide +kernel
theorem d_St_keep_81 : decode b_St_keep 81 = .ok (.getfield 7, 3) := by decide +kernel
theorem d_St_keep_84 : decode b_St_keep 84 = .ok (.iload 6, 2) := by decide +kernel
theorem d_St_keep_86 : decode b_St_keep 86 = .ok (.iload 7, 2) := by decide +kernel
theorem d_St_keep_88 : decode b_St_keep 88 = .ok (.invokestatic 53, 3) := by decide +kernel
theorem d_St_keep_91 : decode b_St_keep 91 = .ok (.aload_n 1, 1) := by decide +kernel
theorem d_St_keep_92 : decode b_St_keep 92 = .ok (.iload 7, 2) := by decide +kernel
theorem d_St_keep_94 : decode b_St_keep 94 = .ok (.aload_n 0, 1) := by decide +kernel
theorem d_St_keep_95 : decode b_St_keep 95 = .ok (.getfield 7, 3) := by decide +kernel
theorem d_St_keep_98 : decode b_St_keep 98 = .ok (.iconst 0, 1) := by decide +kernel
theorem d_St_keep_99 : decode b_St_keep 99 = .ok (.iload_n 2, 1) := by decide +kernel
theorem d_St_keep_100 : decode b_St_keep 100 = .ok (.iload 7, 2) := by decide +kernel
theorem d_St_keep_102 : decode b_St_keep 102 = .ok (.isub, 1) := by decide +kernel
theorem d_St_keep_103 : decode b_St_keep 103 = .ok (.invokestatic 53, 3) := by decide +kernel
theorem d_St_keep_106 : decode b_St_keep 106 = .ok (.aload_n 0, 1) := by decide +kernel
theorem d_St_keep_107 : decode b_St_keep 107 = .ok (.getfield 13, 3) := by decide +kernel
theorem d_St_keep_110 : decode b_St_keep 110 = .ok (.aload_n 0, 1) := by decide +kernel
theorem d_St_keep_111 : decode b_St_keep 111 = .ok (.aload_n 0, 1) := by decide +kernel
theorem d_St_keep_112 : decode b_St_keep 112 = .ok (.invokevirtual 59, 3) := by decide +kernel
theorem d_St_keep_115 : decode b_St_keep 115 = .ok (.invokevirtual 21, 3) := by decide +kernel
theorem d_St_keep_118 : decode b_St_keep 118 = .ok (.iload_n 3, 1) := by decide +kernel
theorem d_St_keep_119 : decode b_St_keep 119 = .ok (.iastore, 1) := by decide +kernel
theorem d_St_keep_120 : decode b_St_keep 120 = .ok (.aload_n 0, 1) := by decide +kernel
theorem d_St_keep_121 : decode b_St_keep 121 = .ok (.getfield 17, 3) := by decide +kernel
theorem d_St_keep_124 : decode b_St_keep 124 = .ok (.aload_n 0, 1) := by decide +kernel
theorem d_St_keep_125 : decode b_St_keep 125 = .ok (.aload_n 0, 1) := by decide +kernel
theorem d_St_keep_126 : decode b_St_keep 126 = .ok (.invokevirtual 59, 3) := by decide +kernel
theorem d_St_keep_129 : decode b_St_keep 129 = .ok (.invokevirtual 21, 3) := by decide +kernel
theorem d_St_keep_132 : decode b_St_keep 132 = .ok (.iload_n 2, 1) := by decide +kernel
theorem d_St_keep_133 : decode b_St_keep 133 = .ok (.i2s, 1) := by decide +kernel
theorem d_St_keep_134 : decode b_St_keep 134 = .ok (.sastore, 1) := by decide +kernel
theorem d_St_keep_135 : decode b_St_keep 135 = .ok (.aload_n 0, 1) := by decide +kernel
theorem d_St_keep_136 : decode b_St_keep 136 = .ok (.dup, 1) := by decide +kernel
theorem d_St_keep_137 : decode b_St_keep 137 = .ok (.getfield 38, 3) := by decide +kernel
theorem d_St_keep_140 : decode b_St_keep 140 = .ok (.iload_n 2, 1) := by decide +kernel
theorem d_St_keep_141 : decode b_St_keep 141 = .ok (.iadd, 1) := by decide +kernel
theorem d_St_keep_142 : decode b_St_keep 142 = .ok (.putfield 38, 3) := by decide +kernel
theorem d_St_keep_145 : decode b_St_keep 145 = .ok (.aload_n 0, 1) := by decide +kernel
theorem d_St_keep_146 : decode b_St_keep 146 = .ok (.dup, 1) := by decide +kernel
theorem d_St_keep_147 : decode b_St_keep 147 = .ok (.getfield 29, 3) := by decide +kernel
theorem d_St_keep_150 : decode b_St_keep 150 = .ok (.iconst 1, 1) := by decide +kernel
theorem d_St_keep_151 : decode b_St_keep 151 = .ok (.iadd, 1) := by decide +kernel
theorem d_St_keep_152 : decode b_St_keep 152 = .ok (.putfield 29, 3) := by decide +kernel
theorem d_St_keep_155 : decode b_St_keep 155 = .ok (.iload 5, 2) := by decide +kernel
theorem d_St_keep_157 : decode b_St_keep 157 = .ok (.ireturn, 1) := by decide +kernel
theorem d_St_delete_0 : decode b_St_delete 0 = .ok (.aload_n 0, 1) := by decide +kernel
theorem d_St_delete_1 : decode b_St_delete 1 = .ok (.getfield 29, 3) := by decide +kernel
theorem d_St_delete_4 : decode b_St_delete 4 = .ok (.istore_n 2, 1) := by decide +kernel
theorem d_St_delete_5 : decode b_St_delete 5 = .ok (.aload_n 0, 1) := by decide +kernel
theorem d_St_delete_6 : decode b_St_delete 6 = .ok (.getfield 29, 3) := by decide +kernel
theorem d_St_delete_9 : decode b_St_delete 9 = .ok (.ifCond .le 22, 3) := by decide +kernel
theorem d_St_delete_12 : decode b_St_delete 12 = .ok (.aload_n 0, 1) := by decide +kernel
theorem d_St_delete_13 : decode b_St_delete 13 = .ok (.aload_n 0, 1) := by decide +kernel
theorem d_St_delete_14 : decode b_St_delete 14 = .ok (.getfield 25, 3) := by decide +kernel
theorem d_St_delete_17 : decode b_St_delete 17 = .ok (.invokevirtual 63, 3) := by decide +kernel
theorem d_St_delete_20 : decode b_St_delete 20 = .ok (.iload_n 1, 1) := by decide +kernel
theorem d_St_delete_21 : decode b_St_delete 21 = .ok (.if_icmp .gt 10, 3) := by decide +kernel
theorem d_St_delete_24 : decode b_St_delete 24 = .ok (.aload_n 0, 1) := by decide +kernel
theorem d_St_delete_25 : decode b_St_delete 25 = .ok (.invokevirtual 41, 3) := by decide +kernel
theorem d_St_delete_28 : decode b_St_delete 28 = .ok (.goto (-23), 3) := by decide +kernel
theorem d_St_delete_31 : decode b_St_delete 31 = .ok (.aload_n 0, 1) := by decide +kernel
theorem d_St_delete_32 : decode b_St_delete 32 = .ok (.dup, 1) := by decide +kernel
theorem d_St_delete_33 : decode b_St_delete 33 = .ok (.getfield 66, 3) := by decide +kernel
theorem d_St_delete_36 : decode b_St_delete 36 = .ok (.iload_n 2, 1) := by decide +kernel
theorem d_St_delete_37 : decode b_St_delete 37 = .ok (.aload_n 0, 1) := by decide +kernel
theorem d_St_delete_38 : decode b_St_delete 38 = .ok (.getfield 29, 3) := by decide +kernel
theorem d_St_delete_41 : decode b_St_delete 41 = .ok (.isub, 1) := by decide +kernel
theorem d_St_delete_42 : decode b_St_delete 42 = .ok (.iadd, 1) := by decide +kernel
theorem d_St_delete_43 : decode b_St_delete 43 = .ok (.putfield 66, 3) := by decide +kernel
theorem d_St_delete_46 : decode b_St_delete 46 = .ok (.iload_n 2, 1) := by decide +kernel
theorem d_St_delete_47 : decode b_St_delete 47 = .ok (.aload_n 0, 1) := by decide +kernel
theorem d_St_delete_48 : decode b_St_delete 48 = .ok (.getfield 29, 3) := by decide +kernel
theorem d_St_delete_51 : decode b_St_delete 51 = .ok (.isub, 1) := by decide +kernel
theorem d_St_delete_52 : decode b_St_delete 52 = .ok (.ireturn, 1) := by decide +kernel
theorem d_St_place_0 : decode b_St_place 0 = .ok (.aload_n 0, 1) := by decide +kernel
theorem d_St_place_1 : decode b_St_place 1 = .ok (.getfield 35, 3) := by decide +kernel
theorem d_St_place_4 : decode b_St_place 4 = .ok (.istore_n 2, 1) := by decide +kernel
theorem d_St_place_5 : decode b_St_place 5 = .ok (.aload_n 0, 1) := by decide +kernel
theorem d_St_place_6 : decode b_St_place 6 = .ok (.getfield 25, 3) := by decide +kernel
theorem d_St_place_9 : decode b_St_place 9 = .ok (.istore_n 3, 1) := by decide +kernel
theorem d_St_place_10 : decode b_St_place 10 = .ok (.iload_n 3, 1) := by decide +kernel
theorem d_St_place_11 : decode b_St_place 11 = .ok (.iload_n 1, 1) := by decide +kernel
theorem d_St_place_12 : decode b_St_place 12 = .ok (.if_icmp .ge 17, 3) := by decide +kernel
theorem d_St_place_15 : decode b_St_place 15 = .ok (.iload_n 2, 1) := by decide +kernel
theorem d_St_place_16 : decode b_St_place 16 = .ok (.aload_n 0, 1) := by decide +kernel
theorem d_St_place_17 : decode b_St_place 17 = .ok (.iload_n 3, 1) := by decide +kernel
theorem d_St_place_18 : decode b_St_place 18 = .ok (.invokevirtual 32, 3) := by decide +kernel
theorem d_St_place_21 : decode b_St_place 21 = .ok (.iadd, 1) := by decide +kernel
theorem d_St_place_22 : decode b_St_place 22 = .ok (.istore_n 2, 1) := by decide +kernel
theorem d_St_place_23 : decode b_St_place 23 = .ok (.iinc 3 1, 3) := by decide +kernel
theorem d_St_place_26 : decode b_St_place 26 = .ok (.goto (-16), 3) := by decide +kernel
theorem d_St_place_29 : decode b_St_place 29 = .ok (.iload_n 2, 1) := by decide +kernel
theorem d_St_place_30 : decode b_St_place 30 = .ok (.aload_n 0, 1) := by decide +kernel
theorem d_St_place_31 : decode b_St_place 31 = .ok (.getfield 7, 3) := by decide +kernel
theorem d_St_place_34 : decode b_St_place 34 = .ok (.arraylength, 1) := by decide +kernel
theorem d_St_place_35 : decode b_St_place 35 = .ok (.irem, 1) := by decide +kernel
theorem d_St_place_36 : decode b_St_place 36 = .ok (.ireturn, 1) := by decide +kernel
theorem d_St_byteAt_0 : decode b_St_byteAt 0 = .ok (.aload_n 0, 1) := by decide +kernel
theorem d_St_byteAt_1 : decode b_St_byteAt 1 = .ok (.getfield 7, 3) := by decide +kernel
theorem d_St_byteAt_4 : decode b_St_byteAt 4 = .ok (.aload_n 0, 1) := by decide +kernel
theorem d_St_byteAt_5 : decode b_St_byteAt 5 = .ok (.iload_n 1, 1) := by decide +kernel
theorem d_St_byteAt_6 : decode b_St_byteAt 6 = .ok (.invokevirtual 69, 3) := by decide +kernel
theorem d_St_byteAt_9 : decode b_St_byteAt 9 = .ok (.iload_n 2, 1) := by decide +kernel
theorem d_St_byteAt_10 : decode b_St_byteAt 10 = .ok (.iadd, 1) := by decide +kernel
theorem d_St_byteAt_11 : decode b_St_byteAt 11 = .ok (.aload_n 0, 1) := by decide +kernel
theorem d_St_byteAt_12 : decode b_St_byteAt 12 = .ok (.getfield 7, 3) := by decide +kernel
theorem d_St_byteAt_15 : decode b_St_byteAt 15 = .ok (.arraylength, 1) := by decide +kernel
theorem d_St_byteAt_16 : decode b_St_byteAt 16 = .ok (.irem, 1) := by decide +kernel
theorem d_St_byteAt_17 : decode b_St_byteAt 17 = .ok (.baload, 1) := by decide +kernel
theorem d_St_byteAt_18 : decode b_St_byteAt 18 = .ok (.sipush 255, 3) := by decide +kernel
theorem d_St_byteAt_21 : decode b_St_byteAt 21 = .ok (.iand, 1) := by decide +kernel
theorem d_St_byteAt_22 : decode b_St_byteAt 22 = .ok (.ireturn, 1) := by decide +kernel
theorem d_St_copy_0 : decode b_St_copy 0 = .ok (.aload_n 0, 1) := by decide +kernel
theorem d_St_copy_1 : decode b_St_copy 1 = .ok (.iload_n 1, 1) := by decide +kernel
theorem d_St_copy_2 : decode b_St_copy 2 = .ok (.invokevirtual 69, 3) := by decide +kernel
theorem d_St_copy_5 : decode b_St_copy 5 = .ok (.istore_n 3, 1) := by decide +kernel
theorem d_St_copy_6 : decode b_St_copy 6 = .ok (.aload_n 0, 1) := by decide +kernel
theorem d_St_copy_7 : decode b_St_copy 7 = .ok (.iload_n 1, 1) := by decide +kernel
theorem d_St_copy_8 : decode b_St_copy 8 = .ok (.invokevirtual 32, 3) := by decide +kernel
theorem d_St_copy_11 : decode b_St_copy 11 = .ok (.istore 4, 2) := by decide +kernel
theorem d_St_copy_13 : decode b_St_copy 13 = .ok (.iload 4, 2) := by decide +kernel
theorem d_St_copy_15 : decode b_St_copy 15 = .ok (.aload_n 0, 1) := by decide +kernel
theorem d_St_copy_16 : decode b_St_copy 16 = .ok (.getfield 7, 3) := by decide +kernel
theorem d_St_copy_19 : decode b_St_copy 19 = .ok (.arraylength, 1) := by decide +kernel
theorem d_St_copy_20 : decode b_St_copy 20 = .ok (.iload_n 3, 1) := by decide +kernel
theorem d_St_copy_21 : decode b_St_copy 21 = .ok (.isub, 1) := by decide +kernel
theorem d_St_copy_22 : decode b_St_copy 22 = .ok (.invokestatic 47, 3) := by decide +kernel
theorem d_St_copy_25 : decode b_St_copy 25 = .ok (.istore 5, 2) := by decide +kernel
theorem d_St_copy_27 : decode b_St_copy 27 = .ok (.aload_n 0, 1) := by decide +kernel
theorem d_St_copy_28 : decode b_St_copy 28 = .ok (.getfield 7, 3) := by decide +kernel
theorem d_St_copy_31 : decode b_St_copy 31 = .ok (.iload_n 3, 1) := by decide +kernel
theorem d_St_copy_32 : decode b_St_copy 32 = .ok (.aload_n 2, 1) := by decide +kernel
theorem d_St_copy_33 : decode b_St_copy 33 = .ok (.iconst 0, 1) := by decide +kernel
theorem d_St_copy_34 : decode b_St_copy 34 = .ok (.iload 5, 2) := by decide +kernel
theorem d_St_copy_36 : decode b_St_copy 36 = .ok (.invokestatic 53, 3) := by decide +kernel
theorem d_St_copy_39 : decode b_St_copy 39 = .ok (.aload_n 0, 1) := by decide +kernel
theorem d_St_copy_40 : decode b_St_copy 40 = .ok (.getfield 7, 3) := by decide +kernel
theorem d_St_copy_43 : decode b_St_copy 43 = .ok (.iconst 0, 1) := by decide +kernel
theorem d_St_copy_44 : decode b_St_copy 44 = .ok (.aload_n 2, 1) := by decide +kernel
theorem d_St_copy_45 : decode b_St_copy 45 = .ok (.iload 5, 2) := by decide +kernel
theorem d_St_copy_47 : decode b_St_copy 47 = .ok (.iload 4, 2) := by decide +kernel
theorem d_St_copy_49 : decode b_St_copy 49 = .ok (.iload 5, 2) := by decide +kernel
theorem d_St_copy_51 : decode b_St_copy 51 = .ok (.isub, 1) := by decide +kernel
theorem d_St_copy_52 : decode b_St_copy 52 = .ok (.invokestatic 53, 3) := by decide +kernel
theorem d_St_copy_55 : decode b_St_copy 55 = .ok (.return_, 1) := by decide +kernel
end
section
theorem d_PS_init_0 : decode b_PS_init 0 = .ok (.aload_n 0, 1) := by decide +kernel
theorem d_PS_init_1 : decode b_PS_init 1 = .ok (.invokespecial 1, 3) := by decide +kernel
theorem d_PS_init_4 : decode b_PS_init 4 = .ok (.aload_n 0, 1) := by decide +kernel
theorem d_PS_init_5 : decode b_PS_init 5 = .ok (.sipush 512, 3) := by decide +kernel
theorem d_PS_init_8 : decode b_PS_init 8 = .ok (.newarray .byte, 2) := by decide +kernel
theorem d_PS_init_10 : decode b_PS_init 10 = .ok (.putfield 9, 3) := by decide +kernel
theorem d_PS_init_13 : decode b_PS_init 13 = .ok (.aload_n 0, 1) := by decide +kernel
theorem d_PS_init_14 : decode b_PS_init 14 = .ok (.sipush 512, 3) := by decide +kernel
theorem d_PS_init_17 : decode b_PS_init 17 = .ok (.newarray .byte, 2) := by decide +kernel
theorem d_PS_init_19 : decode b_PS_init 19 = .ok (.putfield 13, 3) := by decide +kernel
theorem d_PS_init_22 : decode b_PS_init 22 = .ok (.aload_n 0, 1) := by decide +kernel
theorem d_PS_init_23 : decode b_PS_init 23 = .ok (.new 16, 3) := by decide +kernel
theorem d_PS_init_26 : decode b_PS_init 26 = .ok (.dup, 1) := by decide +kernel
theorem d_PS_init_27 : decode b_PS_init 27 = .ok (.sipush 16384, 3) := by decide +kernel
theorem d_PS_init_30 : decode b_PS_init 30 = .ok (.bipush 64, 2) := by decide +kernel
theorem d_PS_init_32 : decode b_PS_init 32 = .ok (.iload_n 1, 1) := by decide +kernel
theorem d_PS_init_33 : decode b_PS_init 33 = .ok (.invokestatic 18, 3) := by decide +kernel
theorem d_PS_init_36 : decode b_PS_init 36 = .ok (.invokestatic 24, 3) := by decide +kernel
theorem d_PS_init_39 : decode b_PS_init 39 = .ok (.invokespecial 27, 3) := by decide +kernel
theorem d_PS_init_42 : decode b_PS_init 42 = .ok (.putfield 30, 3) := by decide +kernel
theorem d_PS_init_45 : decode b_PS_init 45 = .ok (.aload_n 0, 1) := by decide +kernel
theorem d_PS_init_46 : decode b_PS_init 46 = .ok (.new 34, 3) := by decide +kernel
theorem d_PS_init_49 : decode b_PS_init 49 = .ok (.dup, 1) := by decide +kernel
theorem d_PS_init_50 : decode b_PS_init 50 = .ok (.aload_n 0, 1) := by decide +kernel
theorem d_PS_init_51 : decode b_PS_init 51 = .ok (.getfield 30, 3) := by decide +kernel
theorem d_PS_init_54 : decode b_PS_init 54 = .ok (.invokespecial 36, 3) := by decide +kernel
theorem d_PS_init_57 : decode b_PS_init 57 = .ok (.putfield 39, 3) := by decide +kernel
theorem d_PS_init_60 : decode b_PS_init 60 = .ok (.return_, 1) := by decide +kernel
theorem d_PS_put_0 : decode b_PS_put 0 = .ok (.aload_n 0, 1) := by decide +kernel
theorem d_PS_put_1 : decode b_PS_put 1 = .ok (.getfield 43, 3) := by decide +kernel
theorem d_PS_put_4 : decode b_PS_put 4 = .ok (.sipush 512, 3) := by decide +kernel
theorem d_PS_put_7 : decode b_PS_put 7 = .ok (.if_icmp .ne 5, 3) := by decide +kernel
theorem d_PS_put_10 : decode b_PS_put 10 = .ok (.iconst (-1), 1) := by decide +kernel
theorem d_PS_put_11 : decode b_PS_put 11 = .ok (.ireturn, 1) := by decide +kernel
theorem d_PS_put_12 : decode b_PS_put 12 = .ok (.aload_n 0, 1) := by decide +kernel
theorem d_PS_put_13 : decode b_PS_put 13 = .ok (.getfield 9, 3) := by decide +kernel
theorem d_PS_put_16 : decode b_PS_put 16 = .ok (.aload_n 0, 1) := by decide +kernel
theorem d_PS_put_17 : decode b_PS_put 17 = .ok (.getfield 43, 3) := by decide +kernel
theorem d_PS_put_20 : decode b_PS_put 20 = .ok (.iload_n 1, 1) := by decide +kernel
theorem d_PS_put_21 : decode b_PS_put 21 = .ok (.i2b, 1) := by decide +kernel
theorem d_PS_put_22 : decode b_PS_put 22 = .ok (.bastore, 1) := by decide +kernel
theorem d_PS_put_23 : decode b_PS_put 23 = .ok (.aload_n 0, 1) := by decide +kernel
theorem d_PS_put_24 : decode b_PS_put 24 = .ok (.dup, 1) := by decide +kernel
theorem d_PS_put_25 : decode b_PS_put 25 = .ok (.getfield 43, 3) := by decide +kernel
theorem d_PS_put_28 : decode b_PS_put 28 = .ok (.iconst 1, 1) := by decide +kernel
theorem d_PS_put_29 : decode b_PS_put 29 = .ok (.iadd, 1) := by decide +kernel
theorem d_PS_put_30 : decode b_PS_put 30 = .ok (.putfield 43, 3) := by decide +kernel
theorem d_PS_put_33 : decode b_PS_put 33 = .ok (.aload_n 0, 1) := by decide +kernel
theorem d_PS_put_34 : decode b_PS_put 34 = .ok (.getfield 43, 3) := by decide +kernel
theorem d_PS_put_37 : decode b_PS_put 37 = .ok (.ireturn, 1) := by decide +kernel
theorem d_PS_keep_0 : decode b_PS_keep 0 = .ok (.aload_n 0, 1) := by decide +kernel
theorem d_PS_keep_1 : decode b_PS_keep 1 = .ok (.getfield 43, 3) := by decide +kernel
theorem d_PS_keep_4 : decode b_PS_keep 4 = .ok (.istore_n 2, 1) := by decide +kernel
theorem d_PS_keep_5 : decode b_PS_keep 5 = .ok (.aload_n 0, 1) := by decide +kernel
theorem d_PS_keep_6 : decode b_PS_keep 6 = .ok (.iconst 0, 1) := by decide +kernel
theorem d_PS_keep_7 : decode b_PS_keep 7 = .ok (.putfield 43, 3) := by decide +kernel
theorem d_PS_keep_10 : decode b_PS_keep 10 = .ok (.iload_n 2, 1) := by decide +kernel
theorem d_PS_keep_11 : decode b_PS_keep 11 = .ok (.ifCond .ne 7, 3) := by decide +kernel
theorem d_PS_keep_14 : decode b_PS_keep 14 = .ok (.iconst (-1), 1) := by decide +kernel
theorem d_PS_keep_15 : decode b_PS_keep 15 = .ok (.goto 33, 3) := by decide +kernel
theorem d_PS_keep_18 : decode b_PS_keep 18 = .ok (.iload_n 2, 1) := by decide +kernel
theorem d_PS_keep_19 : decode b_PS_keep 19 = .ok (.aload_n 0, 1) := by decide +kernel
theorem d_PS_keep_20 : decode b_PS_keep 20 = .ok (.getfield 30, 3) := by decide +kernel
theorem d_PS_keep_23 : decode b_PS_keep 23 = .ok (.getfield 47, 3) := by decide +kernel
theorem d_PS_keep_26 : decode b_PS_keep 26 = .ok (.arraylength, 1) := by decide +kernel
theorem d_PS_keep_27 : decode b_PS_keep 27 = .ok (.if_icmp .le 8, 3) := by decide +kernel
theorem d_PS_keep_30 : decode b_PS_keep 30 = .ok (.bipush (-2), 2) := by decide +kernel
theorem d_PS_keep_32 : decode b_PS_keep 32 = .ok (.goto 16, 3) := by decide +kernel
theorem d_PS_keep_35 : decode b_PS_keep 35 = .ok (.aload_n 0, 1) := by decide +kernel
theorem d_PS_keep_36 : decode b_PS_keep 36 = .ok (.getfield 30, 3) := by decide +kernel
theorem d_PS_keep_39 : decode b_PS_keep 39 = .ok (.aload_n 0, 1) := by decide +kernel
theorem d_PS_keep_40 : decode b_PS_keep 40 = .ok (.getfield 9, 3) := by decide +kernel
theorem d_PS_keep_43 : decode b_PS_keep 43 = .ok (.iload_n 2, 1) := by decide +kernel
theorem d_PS_keep_44 : decode b_PS_keep 44 = .ok (.iload_n 1, 1) := by decide +kernel
theorem d_PS_keep_45 : decode b_PS_keep 45 = .ok (.invokevirtual 50, 3) := by decide +kernel
theorem d_PS_keep_48 : decode b_PS_keep 48 = .ok (.ireturn, 1) := by decide +kernel
theorem d_PS_delete_0 : decode b_PS_delete 0 = .ok (.aload_n 0, 1) := by decide +kernel
theorem d_PS_delete_1 : decode b_PS_delete 1 = .ok (.getfield 30, 3) := by decide +kernel
theorem d_PS_delete_4 : decode b_PS_delete 4 = .ok (.iload_n 1, 1) := by decide +kernel
theorem d_PS_delete_5 : decode b_PS_delete 5 = .ok (.invokevirtual 54, 3) := by decide +kernel
theorem d_PS_delete_8 : decode b_PS_delete 8 = .ok (.ireturn, 1) := by decide +kernel
theorem d_PS_begin_0 : decode b_PS_begin 0 = .ok (.aload_n 0, 1) := by decide +kernel
theorem d_PS_begin_1 : decode b_PS_begin 1 = .ok (.getfield 39, 3) := by decide +kernel
theorem d_PS_begin_4 : decode b_PS_begin 4 = .ok (.getfield 58, 3) := by decide +kernel
theorem d_PS_begin_7 : decode b_PS_begin 7 = .ok (.ifCond .eq 5, 3) := by decide +kernel
theorem d_PS_begin_10 : decode b_PS_begin 10 = .ok (.iconst 0, 1) := by decide +kernel
theorem d_PS_begin_11 : decode b_PS_begin 11 = .ok (.ireturn, 1) := by decide +kernel
theorem d_PS_begin_12 : decode b_PS_begin 12 = .ok (.aload_n 0, 1) := by decide +kernel
theorem d_PS_begin_13 : decode b_PS_begin 13 = .ok (.getfield 39, 3) := by decide +kernel
theorem d_PS_begin_16 : decode b_PS_begin 16 = .ok (.iload_n 1, 1) := by decide +kernel
theorem d_PS_begin_17 : decode b_PS_begin 17 = .ok (.iload_n 2, 1) := by decide +kernel
theorem d_PS_begin_18 : decode b_PS_begin 18 = .ok (.invokevirtual 62, 3) := by decide +kernel
theorem d_PS_begin_21 : decode b_PS_begin 21 = .ok (.iconst 1, 1) := by decide +kernel
theorem d_PS_begin_22 : decode b_PS_begin 22 = .ok (.ireturn, 1) := by decide +kernel
theorem d_PS_stop_0 : decode b_PS_stop 0 = .ok (.aload_n 0, 1) := by decide +kernel
theorem d_PS_stop_1 : decode b_PS_stop 1 = .ok (.getfield 39, 3) := by decide +kernel
theorem d_PS_stop_4 : decode b_PS_stop 4 = .ok (.getfield 58, 3) := by decide +kernel
theorem d_PS_stop_7 : decode b_PS_stop 7 = .ok (.istore_n 1, 1) := by decide +kernel
theorem d_PS_stop_8 : decode b_PS_stop 8 = .ok (.aload_n 0, 1) := by decide +kernel
theorem d_PS_stop_9 : decode b_PS_stop 9 = .ok (.getfield 39, 3) := by decide +kernel
theorem d_PS_stop_12 : decode b_PS_stop 12 = .ok (.iconst 0, 1) := by decide +kernel
theorem d_PS_stop_13 : decode b_PS_stop 13 = .ok (.putfield 58, 3) := by decide +kernel
theorem d_PS_stop_16 : decode b_PS_stop 16 = .ok (.iload_n 1, 1) := by decide +kernel
theorem d_PS_stop_17 : decode b_PS_stop 17 = .ok (.ireturn, 1) := by decide +kernel
theorem d_PS_next_0 : decode b_PS_next 0 = .ok (.aload_n 0, 1) := by decide +kernel
theorem d_PS_next_1 : decode b_PS_next 1 = .ok (.getfield 39, 3) := by decide +kernel
theorem d_PS_next_4 : decode b_PS_next 4 = .ok (.getfield 58, 3) := by decide +kernel
theorem d_PS_next_7 : decode b_PS_next 7 = .ok (.ifCond .eq 13, 3) := by decide +kernel
theorem d_PS_next_10 : decode b_PS_next 10 = .ok (.aload_n 0, 1) := by decide +kernel
theorem d_PS_next_11 : decode b_PS_next 11 = .ok (.getfield 39, 3) := by decide +kernel
theorem d_PS_next_14 : decode b_PS_next 14 = .ok (.invokevirtual 66, 3) := by decide +kernel
theorem d_PS_next_17 : decode b_PS_next 17 = .ok (.goto 4, 3) := by decide +kernel
theorem d_PS_next_20 : decode b_PS_next 20 = .ok (.iconst (-1), 1) := by decide +kernel
theorem d_PS_next_21 : decode b_PS_next 21 = .ok (.istore_n 2, 1) := by decide +kernel
theorem d_PS_next_22 : decode b_PS_next 22 = .ok (.iload_n 2, 1) := by decide +kernel
theorem d_PS_next_23 : decode b_PS_next 23 = .ok (.iconst (-1), 1) := by decide +kernel
theorem d_PS_next_24 : decode b_PS_next 24 = .ok (.if_icmp .ne 5, 3) := by decide +kernel
theorem d_PS_next_27 : decode b_PS_next 27 = .ok (.iconst (-1), 1) := by decide +kernel
theorem d_PS_next_28 : decode b_PS_next 28 = .ok (.ireturn, 1) := by decide +kernel
theorem d_PS_next_29 : decode b_PS_next 29 = .ok (.aload_n 0, 1) := by decide +kernel
theorem d_PS_next_30 : decode b_PS_next 30 = .ok (.getfield 30, 3) := by decide +kernel
theorem d_PS_next_33 : decode b_PS_next 33 = .ok (.iload_n 2, 1) := by decide +kernel
theorem d_PS_next_34 : decode b_PS_next 34 = .ok (.invokevirtual 70, 3) := by decide +kernel
theorem d_PS_next_37 : decode b_PS_next 37 = .ok (.iload_n 1, 1) := by decide +kernel
theorem d_PS_next_38 : decode b_PS_next 38 = .ok (.if_icmp .le 6, 3) := by decide +kernel
theorem d_PS_next_41 : decode b_PS_next 41 = .ok (.bipush (-2), 2) := by decide +kernel
theorem d_PS_next_43 : decode b_PS_next 43 = .ok (.ireturn, 1) := by decide +kernel
theorem d_PS_next_44 : decode b_PS_next 44 = .ok (.aload_n 0, 1) := by decide +kernel
theorem d_PS_next_45 : decode b_PS_next 45 = .ok (.getfield 30, 3) := by decide +kernel
theorem d_PS_next_48 : decode b_PS_next 48 = .ok (.iload_n 2, 1) := by decide +kernel
theorem d_PS_next_49 : decode b_PS_next 49 = .ok (.aload_n 0, 1) := by decide +kernel
theorem d_PS_next_50 : decode b_PS_next 50 = .ok (.getfield 13, 3) := by decide +kernel
theorem d_PS_next_53 : decode b_PS_next 53 = .ok (.invokevirtual 72, 3) := by decide +kernel
theorem d_PS_next_56 : decode b_PS_next 56 = .ok (.aload_n 0, 1) := by decide +kernel
theorem d_PS_next_57 : decode b_PS_next 57 = .ok (.aload_n 0, 1) := by decide +kernel
theorem d_PS_next_58 : decode b_PS_next 58 = .ok (.getfield 30, 3) := by decide +kernel
theorem d_PS_next_61 : decode b_PS_next 61 = .ok (.iload_n 2, 1) := by decide +kernel
theorem d_PS_next_62 : decode b_PS_next 62 = .ok (.invokevirtual 70, 3) := by decide +kernel
theorem d_PS_next_65 : decode b_PS_next 65 = .ok (.putfield 76, 3) := by decide +kernel
theorem d_PS_next_68 : decode b_PS_next 68 = .ok (.aload_n 0, 1) := by decide +kernel
theorem d_PS_next_69 : decode b_PS_next 69 = .ok (.getfield 39, 3) := by decide +kernel
theorem d_PS_next_72 : decode b_PS_next 72 = .ok (.iload_n 2, 1) := by decide +kernel
theorem d_PS_next_73 : decode b_PS_next 73 = .ok (.iconst 1, 1) := by decide +kernel
theorem d_PS_next_74 : decode b_PS_next 74 = .ok (.iadd, 1) := by decide +kernel
theorem d_PS_next_75 : decode b_PS_next 75 = .ok (.putfield 79, 3) := by decide +kernel
theorem d_PS_next_78 : decode b_PS_next 78 = .ok (.aload_n 0, 1) := by decide +kernel
theorem d_PS_next_79 : decode b_PS_next 79 = .ok (.getfield 76, 3) := by decide +kernel
theorem d_PS_next_82 : decode b_PS_next 82 = .ok (.ireturn, 1) := by decide +kernel
theorem d_PS_out_0 : decode b_PS_out 0 = .ok (.iload_n 1, 1) := by decide +kernel
theorem d_PS_out_1 : decode b_PS_out 1 = .ok (.ifCond .lt 11, 3) := by decide +kernel
theorem d_PS_out_4 : decode b_PS_out 4 = .ok (.iload_n 1, 1) := by decide +kernel
theorem d_PS_out_5 : decode b_PS_out 5 = .ok (.aload_n 0, 1) := by decide +kernel
theorem d_PS_out_6 : decode b_PS_out 6 = .ok (.getfield 76, 3) := by decide +kernel
theorem d_PS_out_9 : decode b_PS_out 9 = .ok (.if_icmp .lt 7, 3) := by decide +kernel
theorem d_PS_out_12 : decode b_PS_out 12 = .ok (.iconst (-1), 1) := by decide +kernel
theorem d_PS_out_13 : decode b_PS_out 13 = .ok (.goto 13, 3) := by decide +kernel
theorem d_PS_out_16 : decode b_PS_out 16 = .ok (.aload_n 0, 1) := by decide +kernel
theorem d_PS_out_17 : decode b_PS_out 17 = .ok (.getfield 13, 3) := by decide +kernel
theorem d_PS_out_20 : decode b_PS_out 20 = .ok (.iload_n 1, 1) := by decide +kernel
theorem d_PS_out_21 : decode b_PS_out 21 = .ok (.baload, 1) := by decide +kernel
theorem d_PS_out_22 : decode b_PS_out 22 = .ok (.sipush 255, 3) := by decide +kernel
theorem d_PS_out_25 : decode b_PS_out 25 = .ok (.iand, 1) := by decide +kernel
theorem d_PS_out_26 : decode b_PS_out 26 = .ok (.ireturn, 1) := by decide +kernel
theorem d_PS_count_0 : decode b_PS_count 0 = .ok (.iload_n 1, 1) := by decide +kernel
theorem d_PS_count_1 : decode b_PS_count 1 = .ok (.tableswitch 117 0 7 #[47, 55, 63, 71, 79, 87, 103, 108], 47) := by decide +kernel
theorem d_PS_count_48 : decode b_PS_count 48 = .ok (.aload_n 0, 1) := by decide +kernel
theorem d_PS_count_49 : decode b_PS_count 49 = .ok (.getfield 30, 3) := by decide +kernel
theorem d_PS_count_52 : decode b_PS_count 52 = .ok (.getfield 82, 3) := by decide +kernel
theorem d_PS_count_55 : decode b_PS_count 55 = .ok (.ireturn, 1) := by decide +kernel
theorem d_PS_count_56 : decode b_PS_count 56 = .ok (.aload_n 0, 1) := by decide +kernel
theorem d_PS_count_57 : decode b_PS_count 57 = .ok (.getfield 30, 3) := by decide +kernel
theorem d_PS_count_60 : decode b_PS_count 60 = .ok (.getfield 85, 3) := by decide +kernel
theorem d_PS_count_63 : decode b_PS_count 63 = .ok (.ireturn, 1) := by decide +kernel
theorem d_PS_count_64 : decode b_PS_count 64 = .ok (.aload_n 0, 1) := by decide +kernel
theorem d_PS_count_65 : decode b_PS_count 65 = .ok (.getfield 30, 3) := by decide +kernel
theorem d_PS_count_68 : decode b_PS_count 68 = .ok (.invokevirtual 88, 3) := by decide +kernel
theorem d_PS_count_71 : decode b_PS_count 71 = .ok (.ireturn, 1) := by decide +kernel
theorem d_PS_count_72 : decode b_PS_count 72 = .ok (.aload_n 0, 1) := by decide +kernel
theorem d_PS_count_73 : decode b_PS_count 73 = .ok (.getfield 30, 3) := by decide +kernel
theorem d_PS_count_76 : decode b_PS_count 76 = .ok (.getfield 91, 3) := by decide +kernel
theorem d_PS_count_79 : decode b_PS_count 79 = .ok (.ireturn, 1) := by decide +kernel
theorem d_PS_count_80 : decode b_PS_count 80 = .ok (.aload_n 0, 1) := by decide +kernel
theorem d_PS_count_81 : decode b_PS_count 81 = .ok (.getfield 30, 3) := by decide +kernel
theorem d_PS_count_84 : decode b_PS_count 84 = .ok (.getfield 94, 3) := by decide +kernel
theorem d_PS_count_87 : decode b_PS_count 87 = .ok (.ireturn, 1) := by decide +kernel
theorem d_PS_count_88 : decode b_PS_count 88 = .ok (.aload_n 0, 1) := by decide +kernel
theorem d_PS_count_89 : decode b_PS_count 89 = .ok (.getfield 39, 3) := by decide +kernel
theorem d_PS_count_92 : decode b_PS_count 92 = .ok (.getfield 58, 3) := by decide +kernel
theorem d_PS_count_95 : decode b_PS_count 95 = .ok (.ifCond .eq 7, 3) := by decide +kernel
theorem d_PS_count_98 : decode b_PS_count 98 = .ok (.iconst 1, 1) := by decide +kernel
theorem d_PS_count_99 : decode b_PS_count 99 = .ok (.goto 4, 3) := by decide +kernel
theorem d_PS_count_102 : decode b_PS_count 102 = .ok (.iconst 0, 1) := by decide +kernel
theorem d_PS_count_103 : decode b_PS_count 103 = .ok (.ireturn, 1) := by decide +kernel
theorem d_PS_count_104 : decode b_PS_count 104 = .ok (.aload_n 0, 1) := by decide +kernel
theorem d_PS_count_105 : decode b_PS_count 105 = .ok (.getfield 76, 3) := by decide +kernel
theorem d_PS_count_108 : decode b_PS_count 108 = .ok (.ireturn, 1) := by decide +kernel
theorem d_PS_count_109 : decode b_PS_count 109 = .ok (.aload_n 0, 1) := by decide +kernel
theorem d_PS_count_110 : decode b_PS_count 110 = .ok (.getfield 30, 3) := by decide +kernel
theorem d_PS_count_113 : decode b_PS_count 113 = .ok (.getfield 47, 3) := by decide +kernel
theorem d_PS_count_116 : decode b_PS_count 116 = .ok (.arraylength, 1) := by decide +kernel
theorem d_PS_count_117 : decode b_PS_count 117 = .ok (.ireturn, 1) := by decide +kernel
theorem d_PS_count_118 : decode b_PS_count 118 = .ok (.iconst (-1), 1) := by decide +kernel
theorem d_PS_count_119 : decode b_PS_count 119 = .ok (.ireturn, 1) := by decide +kernel
theorem d_PS_about_0 : decode b_PS_about 0 = .ok (.iload_n 1, 1) := by decide +kernel
theorem d_PS_about_1 : decode b_PS_about 1 = .ok (.ifCond .lt 14, 3) := by decide +kernel
theorem d_PS_about_4 : decode b_PS_about 4 = .ok (.iload_n 1, 1) := by decide +kernel
theorem d_PS_about_5 : decode b_PS_about 5 = .ok (.aload_n 0, 1) := by decide +kernel
theorem d_PS_about_6 : decode b_PS_about 6 = .ok (.getfield 30, 3) := by decide +kernel
theorem d_PS_about_9 : decode b_PS_about 9 = .ok (.getfield 82, 3) := by decide +kernel
theorem d_PS_about_12 : decode b_PS_about 12 = .ok (.if_icmp .lt 5, 3) := by decide +kernel
theorem d_PS_about_15 : decode b_PS_about 15 = .ok (.iconst (-1), 1) := by decide +kernel
theorem d_PS_about_16 : decode b_PS_about 16 = .ok (.ireturn, 1) := by decide +kernel
theorem d_PS_about_17 : decode b_PS_about 17 = .ok (.iload_n 2, 1) := by decide +kernel
theorem d_PS_about_18 : decode b_PS_about 18 = .ok (.ifCond .ne 22, 3) := by decide +kernel
theorem d_PS_about_21 : decode b_PS_about 21 = .ok (.aload_n 0, 1) := by decide +kernel
theorem d_PS_about_22 : decode b_PS_about 22 = .ok (.getfield 30, 3) := by decide +kernel
theorem d_PS_about_25 : decode b_PS_about 25 = .ok (.aload_n 0, 1) := by decide +kernel
theorem d_PS_about_26 : decode b_PS_about 26 = .ok (.getfield 30, 3) := by decide +kernel
theorem d_PS_about_29 : decode b_PS_about 29 = .ok (.getfield 97, 3) := by decide +kernel
theorem d_PS_about_32 : decode b_PS_about 32 = .ok (.iload_n 1, 1) := by decide +kernel
theorem d_PS_about_33 : decode b_PS_about 33 = .ok (.iadd, 1) := by decide +kernel
theorem d_PS_about_34 : decode b_PS_about 34 = .ok (.invokevirtual 100, 3) := by decide +kernel
theorem d_PS_about_37 : decode b_PS_about 37 = .ok (.goto 28, 3) := by decide +kernel
theorem d_PS_about_40 : decode b_PS_about 40 = .ok (.iload_n 2, 1) := by decide +kernel
theorem d_PS_about_41 : decode b_PS_about 41 = .ok (.iconst 1, 1) := by decide +kernel
theorem d_PS_about_42 : decode b_PS_about 42 = .ok (.if_icmp .ne 22, 3) := by decide +kernel
theorem d_PS_about_45 : decode b_PS_about 45 = .ok (.aload_n 0, 1) := by decide +kernel
theorem d_PS_about_46 : decode b_PS_about 46 = .ok (.getfield 30, 3) := by decide +kernel
theorem d_PS_about_49 : decode b_PS_about 49 = .ok (.aload_n 0, 1) := by decide +kernel
theorem d_PS_about_50 : decode b_PS_about 50 = .ok (.getfield 30, 3) := by decide +kernel
theorem d_PS_about_53 : decode b_PS_about 53 = .ok (.getfield 97, 3) := by decide +kernel
theorem d_PS_about_56 : decode b_PS_about 56 = .ok (.iload_n 1, 1) := by decide +kernel
theorem d_PS_about_57 : decode b_PS_about 57 = .ok (.iadd, 1) := by decide +kernel
theorem d_PS_about_58 : decode b_PS_about 58 = .ok (.invokevirtual 70, 3) := by decide +kernel
theorem d_PS_about_61 : decode b_PS_about 61 = .ok (.goto 4, 3) := by decide +kernel
theorem d_PS_about_64 : decode b_PS_about 64 = .ok (.iconst (-1), 1) := by decide +kernel
theorem d_PS_about_65 : decode b_PS_about 65 = .ok (.ireturn, 1) := by decide +kernel
theorem d_PS_byteAt_0 : decode b_PS_byteAt 0 = .ok (.iload_n 1, 1) := by decide +kernel
theorem d_PS_byteAt_1 : decode b_PS_byteAt 1 = .ok (.ifCond .lt 38, 3) := by decide +kernel
theorem d_PS_byteAt_4 : decode b_PS_byteAt 4 = .ok (.iload_n 1, 1) := by decide +kernel
theorem d_PS_byteAt_5 : decode b_PS_byteAt 5 = .ok (.aload_n 0, 1) := by decide +kernel
theorem d_PS_byteAt_6 : decode b_PS_byteAt 6 = .ok (.getfield 30, 3) := by decide +kernel
theorem d_PS_byteAt_9 : decode b_PS_byteAt 9 = .ok (.getfield 82, 3) := by decide +kernel
theorem d_PS_byteAt_12 : decode b_PS_byteAt 12 = .ok (.if_icmp .ge 27, 3) := by decide +kernel
theorem d_PS_byteAt_15 : decode b_PS_byteAt 15 = .ok (.iload_n 2, 1) := by decide +kernel
theorem d_PS_byteAt_16 : decode b_PS_byteAt 16 = .ok (.ifCond .lt 23, 3) := by decide +kernel
theorem d_PS_byteAt_19 : decode b_PS_byteAt 19 = .ok (.iload_n 2, 1) := by decide +kernel
theorem d_PS_byteAt_20 : decode b_PS_byteAt 20 = .ok (.aload_n 0, 1) := by decide +kernel
theorem d_PS_byteAt_21 : decode b_PS_byteAt 21 = .ok (.getfield 30, 3) := by decide +kernel
theorem d_PS_byteAt_24 : decode b_PS_byteAt 24 = .ok (.aload_n 0, 1) := by decide +kernel
theorem d_PS_byteAt_25 : decode b_PS_byteAt 25 = .ok (.getfield 30, 3) := by decide +kernel
theorem d_PS_byteAt_28 : decode b_PS_byteAt 28 = .ok (.getfield 97, 3) := by decide +kernel
theorem d_PS_byteAt_31 : decode b_PS_byteAt 31 = .ok (.iload_n 1, 1) := by decide +kernel
theorem d_PS_byteAt_32 : decode b_PS_byteAt 32 = .ok (.iadd, 1) := by decide +kernel
theorem d_PS_byteAt_33 : decode b_PS_byteAt 33 = .ok (.invokevirtual 70, 3) := by decide +kernel
theorem d_PS_byteAt_36 : decode b_PS_byteAt 36 = .ok (.if_icmp .lt 7, 3) := by decide +kernel
theorem d_PS_byteAt_39 : decode b_PS_byteAt 39 = .ok (.iconst (-1), 1) := by decide +kernel
theorem d_PS_byteAt_40 : decode b_PS_byteAt 40 = .ok (.goto 20, 3) := by decide +kernel
theorem d_PS_byteAt_43 : decode b_PS_byteAt 43 = .ok (.aload_n 0, 1) := by decide +kernel
theorem d_PS_byteAt_44 : decode b_PS_byteAt 44 = .ok (.getfield 30, 3) := by decide +kernel
theorem d_PS_byteAt_47 : decode b_PS_byteAt 47 = .ok (.aload_n 0, 1) := by decide +kernel
theorem d_PS_byteAt_48 : decode b_PS_byteAt 48 = .ok (.getfield 30, 3) := by decide +kernel
theorem d_PS_byteAt_51 : decode b_PS_byteAt 51 = .ok (.getfield 97, 3) := by decide +kernel
theorem d_PS_byteAt_54 : decode b_PS_byteAt 54 = .ok (.iload_n 1, 1) := by decide +kernel
theorem d_PS_byteAt_55 : decode b_PS_byteAt 55 = .ok (.iadd, 1) := by decide +kernel
theorem d_PS_byteAt_56 : decode b_PS_byteAt 56 = .ok (.iload_n 2, 1) := by decide +kernel
theorem d_PS_byteAt_57 : decode b_PS_byteAt 57 = .ok (.invokevirtual 103, 3) := by decide +kernel
theorem d_PS_byteAt_60 : decode b_PS_byteAt 60 = .ok (.ireturn, 1) := by decide +kernel
end
section
theorem d_Md_init_0 : decode b_Md_init 0 = .ok (.aload_n 0, 1) := by decide +kernel
theorem d_Md_init_1 : decode b_Md_init 1 = .ok (.invokespecial 1, 3) := by decide +kernel
theorem d_Md_init_4 : decode b_Md_init 4 = .ok (.aload_n 0, 1) := by decide +kernel
theorem d_Md_init_5 : decode b_Md_init 5 = .ok (.sipush 512, 3) := by decide +kernel
theorem d_Md_init_8 : decode b_Md_init 8 = .ok (.newarray .byte, 2) := by decide +kernel
theorem d_Md_init_10 : decode b_Md_init 10 = .ok (.putfield 7, 3) := by decide +kernel
theorem d_Md_init_13 : decode b_Md_init 13 = .ok (.aload_n 0, 1) := by decide +kernel
theorem d_Md_init_14 : decode b_Md_init 14 = .ok (.sipush 512, 3) := by decide +kernel
theorem d_Md_init_17 : decode b_Md_init 17 = .ok (.newarray .byte, 2) := by decide +kernel
theorem d_Md_init_19 : decode b_Md_init 19 = .ok (.putfield 13, 3) := by decide +kernel
theorem d_Md_init_22 : decode b_Md_init 22 = .ok (.aload_n 0, 1) := by decide +kernel
theorem d_Md_init_23 : decode b_Md_init 23 = .ok (.sipush 16384, 3) := by decide +kernel
theorem d_Md_init_26 : decode b_Md_init 26 = .ok (.newarray .int, 2) := by decide +kernel
theorem d_Md_init_28 : decode b_Md_init 28 = .ok (.putfield 16, 3) := by decide +kernel
theorem d_Md_init_31 : decode b_Md_init 31 = .ok (.aload_n 0, 1) := by decide +kernel
theorem d_Md_init_32 : decode b_Md_init 32 = .ok (.sipush 16384, 3) := by decide +kernel
theorem d_Md_init_35 : decode b_Md_init 35 = .ok (.newarray .int, 2) := by decide +kernel
theorem d_Md_init_37 : decode b_Md_init 37 = .ok (.putfield 20, 3) := by decide +kernel
theorem d_Md_init_40 : decode b_Md_init 40 = .ok (.aload_n 0, 1) := by decide +kernel
theorem d_Md_init_41 : decode b_Md_init 41 = .ok (.sipush 16384, 3) := by decide +kernel
theorem d_Md_init_44 : decode b_Md_init 44 = .ok (.newarray .byte, 2) := by decide +kernel
theorem d_Md_init_46 : decode b_Md_init 46 = .ok (.putfield 23, 3) := by decide +kernel
theorem d_Md_init_49 : decode b_Md_init 49 = .ok (.aload_n 0, 1) := by decide +kernel
theorem d_Md_init_50 : decode b_Md_init 50 = .ok (.iload_n 1, 1) := by decide +kernel
theorem d_Md_init_51 : decode b_Md_init 51 = .ok (.bipush 64, 2) := by decide +kernel
theorem d_Md_init_53 : decode b_Md_init 53 = .ok (.if_icmp .ge 8, 3) := by decide +kernel
theorem d_Md_init_56 : decode b_Md_init 56 = .ok (.bipush 64, 2) := by decide +kernel
theorem d_Md_init_58 : decode b_Md_init 58 = .ok (.goto 17, 3) := by decide +kernel
theorem d_Md_init_61 : decode b_Md_init 61 = .ok (.iload_n 1, 1) := by decide +kernel
theorem d_Md_init_62 : decode b_Md_init 62 = .ok (.sipush 16384, 3) := by decide +kernel
theorem d_Md_init_65 : decode b_Md_init 65 = .ok (.if_icmp .le 9, 3) := by decide +kernel
theorem d_Md_init_68 : decode b_Md_init 68 = .ok (.sipush 16384, 3) := by decide +kernel
theorem d_Md_init_71 : decode b_Md_init 71 = .ok (.goto 4, 3) := by decide +kernel
theorem d_Md_init_74 : decode b_Md_init 74 = .ok (.iload_n 1, 1) := by decide +kernel
theorem d_Md_init_75 : decode b_Md_init 75 = .ok (.putfield 26, 3) := by decide +kernel
theorem d_Md_init_78 : decode b_Md_init 78 = .ok (.return_, 1) := by decide +kernel
theorem d_Md_start_0 : decode b_Md_start 0 = .ok (.iconst 0, 1) := by decide +kernel
theorem d_Md_start_1 : decode b_Md_start 1 = .ok (.istore_n 2, 1) := by decide +kernel
theorem d_Md_start_2 : decode b_Md_start 2 = .ok (.iconst 0, 1) := by decide +kernel
theorem d_Md_start_3 : decode b_Md_start 3 = .ok (.istore_n 3, 1) := by decide +kernel
theorem d_Md_start_4 : decode b_Md_start 4 = .ok (.iload_n 3, 1) := by decide +kernel
theorem d_Md_start_5 : decode b_Md_start 5 = .ok (.iload_n 1, 1) := by decide +kernel
theorem d_Md_start_6 : decode b_Md_start 6 = .ok (.if_icmp .ge 18, 3) := by decide +kernel
theorem d_Md_start_9 : decode b_Md_start 9 = .ok (.iload_n 2, 1) := by decide +kernel
theorem d_Md_start_10 : decode b_Md_start 10 = .ok (.aload_n 0, 1) := by decide +kernel
theorem d_Md_start_11 : decode b_Md_start 11 = .ok (.getfield 20, 3) := by decide +kernel
theorem d_Md_start_14 : decode b_Md_start 14 = .ok (.iload_n 3, 1) := by decide +kernel
theorem d_Md_start_15 : decode b_Md_start 15 = .ok (.iaload, 1) := by decide +kernel
theorem d_Md_start_16 : decode b_Md_start 16 = .ok (.iadd, 1) := by decide +kernel
theorem d_Md_start_17 : decode b_Md_start 17 = .ok (.istore_n 2, 1) := by decide +kernel
theorem d_Md_start_18 : decode b_Md_start 18 = .ok (.iinc 3 1, 3) := by decide +kernel
theorem d_Md_start_21 : decode b_Md_start 21 = .ok (.goto (-17), 3) := by decide +kernel
theorem d_Md_start_24 : decode b_Md_start 24 = .ok (.iload_n 2, 1) := by decide +kernel
theorem d_Md_start_25 : decode b_Md_start 25 = .ok (.ireturn, 1) := by decide +kernel
theorem d_Md_goes_0 : decode b_Md_goes 0 = .ok (.aload_n 0, 1) := by decide +kernel
theorem d_Md_goes_1 : decode b_Md_goes 1 = .ok (.getfield 20, 3) := by decide +kernel
theorem d_Md_goes_4 : decode b_Md_goes 4 = .ok (.iconst 0, 1) := by decide +kernel
theorem d_Md_goes_5 : decode b_Md_goes 5 = .ok (.iaload, 1) := by decide +kernel
theorem d_Md_goes_6 : decode b_Md_goes 6 = .ok (.istore_n 1, 1) := by decide +kernel
theorem d_Md_goes_7 : decode b_Md_goes 7 = .ok (.iconst 0, 1) := by decide +kernel
theorem d_Md_goes_8 : decode b_Md_goes 8 = .ok (.istore_n 2, 1) := by decide +kernel
theorem d_Md_goes_9 : decode b_Md_goes 9 = .ok (.iload_n 2, 1) := by decide +kernel
theorem d_Md_goes_10 : decode b_Md_goes 10 = .ok (.iload_n 1, 1) := by decide +kernel
theorem d_Md_goes_11 : decode b_Md_goes 11 = .ok (.iadd, 1) := by decide +kernel
theorem d_Md_goes_12 : decode b_Md_goes 12 = .ok (.aload_n 0, 1) := by decide +kernel
theorem d_Md_goes_13 : decode b_Md_goes 13 = .ok (.getfield 33, 3) := by decide +kernel
theorem d_Md_goes_16 : decode b_Md_goes 16 = .ok (.if_icmp .ge 23, 3) := by decide +kernel
theorem d_Md_goes_19 : decode b_Md_goes 19 = .ok (.aload_n 0, 1) := by decide +kernel
theorem d_Md_goes_20 : decode b_Md_goes 20 = .ok (.getfield 23, 3) := by decide +kernel
theorem d_Md_goes_23 : decode b_Md_goes 23 = .ok (.iload_n 2, 1) := by decide +kernel
theorem d_Md_goes_24 : decode b_Md_goes 24 = .ok (.aload_n 0, 1) := by decide +kernel
theorem d_Md_goes_25 : decode b_Md_goes 25 = .ok (.getfield 23, 3) := by decide +kernel
theorem d_Md_goes_28 : decode b_Md_goes 28 = .ok (.iload_n 2, 1) := by decide +kernel
theorem d_Md_goes_29 : decode b_Md_goes 29 = .ok (.iload_n 1, 1) := by decide +kernel
theorem d_Md_goes_30 : decode b_Md_goes 30 = .ok (.iadd, 1) := by decide +kernel
theorem d_Md_goes_31 : decode b_Md_goes 31 = .ok (.baload, 1) := by decide +kernel
theorem d_Md_goes_32 : decode b_Md_goes 32 = .ok (.bastore, 1) := by decide +kernel
theorem d_Md_goes_33 : decode b_Md_goes 33 = .ok (.iinc 2 1, 3) := by decide +kernel
theorem d_Md_goes_36 : decode b_Md_goes 36 = .ok (.goto (-27), 3) := by decide +kernel
theorem d_Md_goes_39 : decode b_Md_goes 39 = .ok (.aload_n 0, 1) := by decide +kernel
theorem d_Md_goes_40 : decode b_Md_goes 40 = .ok (.dup, 1) := by decide +kernel
theorem d_Md_goes_41 : decode b_Md_goes 41 = .ok (.getfield 33, 3) := by decide +kernel
theorem d_Md_goes_44 : decode b_Md_goes 44 = .ok (.iload_n 1, 1) := by decide +kernel
theorem d_Md_goes_45 : decode b_Md_goes 45 = .ok (.isub, 1) := by decide +kernel
theorem d_Md_goes_46 : decode b_Md_goes 46 = .ok (.putfield 33, 3) := by decide +kernel
theorem d_Md_goes_49 : decode b_Md_goes 49 = .ok (.aload_n 0, 1) := by decide +kernel
theorem d_Md_goes_50 : decode b_Md_goes 50 = .ok (.dup, 1) := by decide +kernel
theorem d_Md_goes_51 : decode b_Md_goes 51 = .ok (.getfield 36, 3) := by decide +kernel
theorem d_Md_goes_54 : decode b_Md_goes 54 = .ok (.iconst 1, 1) := by decide +kernel
theorem d_Md_goes_55 : decode b_Md_goes 55 = .ok (.isub, 1) := by decide +kernel
theorem d_Md_goes_56 : decode b_Md_goes 56 = .ok (.putfield 36, 3) := by decide +kernel
theorem d_Md_goes_59 : decode b_Md_goes 59 = .ok (.iconst 0, 1) := by decide +kernel
theorem d_Md_goes_60 : decode b_Md_goes 60 = .ok (.istore_n 2, 1) := by decide +kernel
theorem d_Md_goes_61 : decode b_Md_goes 61 = .ok (.iload_n 2, 1) := by decide +kernel
theorem d_Md_goes_62 : decode b_Md_goes 62 = .ok (.aload_n 0, 1) := by decide +kernel
theorem d_Md_goes_63 : decode b_Md_goes 63 = .ok (.getfield 36, 3) := by decide +kernel
theorem d_Md_goes_66 : decode b_Md_goes 66 = .ok (.if_icmp .ge 37, 3) := by decide +kernel
theorem d_Md_goes_69 : decode b_Md_goes 69 = .ok (.aload_n 0, 1) := by decide +kernel
theorem d_Md_goes_70 : decode b_Md_goes 70 = .ok (.getfield 16, 3) := by decide +kernel
theorem d_Md_goes_73 : decode b_Md_goes 73 = .ok (.iload_n 2, 1) := by decide +kernel
theorem d_Md_goes_74 : decode b_Md_goes 74 = .ok (.aload_n 0, 1) := by decide +kernel
theorem d_Md_goes_75 : decode b_Md_goes 75 = .ok (.getfield 16, 3) := by decide +kernel
theorem d_Md_goes_78 : decode b_Md_goes 78 = .ok (.iload_n 2, 1) := by decide +kernel
theorem d_Md_goes_79 : decode b_Md_goes 79 = .ok (.iconst 1, 1) := by decide +kernel
theorem d_Md_goes_80 : decode b_Md_goes 80 = .ok (.iadd, 1) := by decide +kernel
theorem d_Md_goes_81 : decode b_Md_goes 81 = .ok (.iaload, 1) := by decide +kernel
theorem d_Md_goes_82 : decode b_Md_goes 82 = .ok (.iastore, 1) := by decide +kernel
theorem d_Md_goes_83 : decode b_Md_goes 83 = .ok (.aload_n 0, 1) := by decide +kernel
theorem d_Md_goes_84 : decode b_Md_goes 84 = .ok (.getfield 20, 3) := by decide +kernel
theorem d_Md_goes_87 : decode b_Md_goes 87 = .ok (.iload_n 2, 1) := by decide +kernel
theorem d_Md_goes_88 : decode b_Md_goes 88 = .ok (.aload_n 0, 1) := by decide +kernel
theorem d_Md_goes_89 : decode b_Md_goes 89 = .ok (.getfield 20, 3) := by decide +kernel
theorem d_Md_goes_92 : decode b_Md_goes 92 = .ok (.iload_n 2, 1) := by decide +kernel
theorem d_Md_goes_93 : decode b_Md_goes 93 = .ok (.iconst 1, 1) := by decide +kernel
theorem d_Md_goes_94 : decode b_Md_goes 94 = .ok (.iadd, 1) := by decide +kernel
theorem d_Md_goes_95 : decode b_Md_goes 95 = .ok (.iaload, 1) := by decide +kernel
theorem d_Md_goes_96 : decode b_Md_goes 96 = .ok (.iastore, 1) := by decide +kernel
theorem d_Md_goes_97 : decode b_Md_goes 97 = .ok (.iinc 2 1, 3) := by decide +kernel
theorem d_Md_goes_100 : decode b_Md_goes 100 = .ok (.goto (-39), 3) := by decide +kernel
theorem d_Md_goes_103 : decode b_Md_goes 103 = .ok (.return_, 1) := by decide +kernel
theorem d_Md_put_0 : decode b_Md_put 0 = .ok (.aload_n 0, 1) := by decide +kernel
theorem d_Md_put_1 : decode b_Md_put 1 = .ok (.iconst 0, 1) := by decide +kernel
theorem d_Md_put_2 : decode b_Md_put 2 = .ok (.putfield 30, 3) := by decide +kernel
theorem d_Md_put_5 : decode b_Md_put 5 = .ok (.aload_n 0, 1) := by decide +kernel
theorem d_Md_put_6 : decode b_Md_put 6 = .ok (.getfield 39, 3) := by decide +kernel
theorem d_Md_put_9 : decode b_Md_put 9 = .ok (.sipush 512, 3) := by decide +kernel
theorem d_Md_put_12 : decode b_Md_put 12 = .ok (.if_icmp .ne 5, 3) := by decide +kernel
theorem d_Md_put_15 : decode b_Md_put 15 = .ok (.iconst (-1), 1) := by decide +kernel
theorem d_Md_put_16 : decode b_Md_put 16 = .ok (.ireturn, 1) := by decide +kernel
theorem d_Md_put_17 : decode b_Md_put 17 = .ok (.aload_n 0, 1) := by decide +kernel
theorem d_Md_put_18 : decode b_Md_put 18 = .ok (.getfield 7, 3) := by decide +kernel
theorem d_Md_put_21 : decode b_Md_put 21 = .ok (.aload_n 0, 1) := by decide +kernel
theorem d_Md_put_22 : decode b_Md_put 22 = .ok (.getfield 39, 3) := by decide +kernel
theorem d_Md_put_25 : decode b_Md_put 25 = .ok (.iload_n 1, 1) := by decide +kernel
theorem d_Md_put_26 : decode b_Md_put 26 = .ok (.i2b, 1) := by decide +kernel
theorem d_Md_put_27 : decode b_Md_put 27 = .ok (.bastore, 1) := by decide +kernel
theorem d_Md_put_28 : decode b_Md_put 28 = .ok (.aload_n 0, 1) := by decide +kernel
theorem d_Md_put_29 : decode b_Md_put 29 = .ok (.dup, 1) := by decide +kernel
theorem d_Md_put_30 : decode b_Md_put 30 = .ok (.getfield 39, 3) := by decide +kernel
theorem d_Md_put_33 : decode b_Md_put 33 = .ok (.iconst 1, 1) := by decide +kernel
theorem d_Md_put_34 : decode b_Md_put 34 = .ok (.iadd, 1) := by decide +kernel
theorem d_Md_put_35 : decode b_Md_put 35 = .ok (.putfield 39, 3) := by decide +kernel
theorem d_Md_put_38 : decode b_Md_put 38 = .ok (.aload_n 0, 1) := by decide +kernel
theorem d_Md_put_39 : decode b_Md_put 39 = .ok (.getfield 39, 3) := by decide +kernel
theorem d_Md_put_42 : decode b_Md_put 42 = .ok (.ireturn, 1) := by decide +kernel
theorem d_Md_keep_0 : decode b_Md_keep 0 = .ok (.aload_n 0, 1) := by decide +kernel
theorem d_Md_keep_1 : decode b_Md_keep 1 = .ok (.iconst 0, 1) := by decide +kernel
theorem d_Md_keep_2 : decode b_Md_keep 2 = .ok (.putfield 30, 3) := by decide +kernel
theorem d_Md_keep_5 : decode b_Md_keep 5 = .ok (.aload_n 0, 1) := by decide +kernel
theorem d_Md_keep_6 : decode b_Md_keep 6 = .ok (.getfield 39, 3) := by decide +kernel
theorem d_Md_keep_9 : decode b_Md_keep 9 = .ok (.istore_n 2, 1) := by decide +kernel
theorem d_Md_keep_10 : decode b_Md_keep 10 = .ok (.aload_n 0, 1) := by decide +kernel
theorem d_Md_keep_11 : decode b_Md_keep 11 = .ok (.iconst 0, 1) := by decide +kernel
theorem d_Md_keep_12 : decode b_Md_keep 12 = .ok (.putfield 39, 3) := by decide +kernel
theorem d_Md_keep_15 : decode b_Md_keep 15 = .ok (.iload_n 2, 1) := by decide +kernel
theorem d_Md_keep_16 : decode b_Md_keep 16 = .ok (.ifCond .ne 5, 3) := by decide +kernel
theorem d_Md_keep_19 : decode b_Md_keep 19 = .ok (.iconst (-1), 1) := by decide +kernel
theorem d_Md_keep_20 : decode b_Md_keep 20 = .ok (.ireturn, 1) := by decide +kernel
theorem d_Md_keep_21 : decode b_Md_keep 21 = .ok (.iload_n 2, 1) := by decide +kernel
theorem d_Md_keep_22 : decode b_Md_keep 22 = .ok (.aload_n 0, 1) := by decide +kernel
theorem d_Md_keep_23 : decode b_Md_keep 23 = .ok (.getfield 26, 3) := by decide +kernel
theorem d_Md_keep_26 : decode b_Md_keep 26 = .ok (.if_icmp .le 6, 3) := by decide +kernel
theorem d_Md_keep_29 : decode b_Md_keep 29 = .ok (.bipush (-2), 2) := by decide +kernel
theorem d_Md_keep_31 : decode b_Md_keep 31 = .ok (.ireturn, 1) := by decide +kernel
theorem d_Md_keep_32 : decode b_Md_keep 32 = .ok (.iconst 0, 1) := by decide +kernel
theorem d_Md_keep_33 : decode b_Md_keep 33 = .ok (.istore_n 3, 1) := by decide +kernel
theorem d_Md_keep_34 : decode b_Md_keep 34 = .ok (.aload_n 0, 1) := by decide +kernel
theorem d_Md_keep_35 : decode b_Md_keep 35 = .ok (.getfield 33, 3) := by decide +kernel
theorem d_Md_keep_38 : decode b_Md_keep 38 = .ok (.iload_n 2, 1) := by decide +kernel
theorem d_Md_keep_39 : decode b_Md_keep 39 = .ok (.iadd, 1) := by decide +kernel
theorem d_Md_keep_40 : decode b_Md_keep 40 = .ok (.aload_n 0, 1) := by decide +kernel
theorem d_Md_keep_41 : decode b_Md_keep 41 = .ok (.getfield 26, 3) := by decide +kernel
theorem d_Md_keep_44 : decode b_Md_keep 44 = .ok (.if_icmp .le 13, 3) := by decide +kernel
theorem d_Md_keep_47 : decode b_Md_keep 47 = .ok (.aload_n 0, 1) := by decide +kernel
theorem d_Md_keep_48 : decode b_Md_keep 48 = .ok (.invokevirtual 42, 3) := by decide +kernel
theorem d_Md_keep_51 : decode b_Md_keep 51 = .ok (.iinc 3 1, 3) := by decide +kernel
theorem d_Md_keep_54 : decode b_Md_keep 54 = .ok (.goto (-20), 3) := by decide +kernel
theorem d_Md_keep_57 : decode b_Md_keep 57 = .ok (.aload_n 0, 1) := by decide +kernel
theorem d_Md_keep_58 : decode b_Md_keep 58 = .ok (.dup, 1) := by decide +kernel
theorem d_Md_keep_59 : decode b_Md_keep 59 = .ok (.getfield 45, 3) := by decide +kernel
theorem d_Md_keep_62 : decode b_Md_keep 62 = .ok (.iload_n 3, 1) := by decide +kernel
theorem d_Md_keep_63 : decode b_Md_keep 63 = .ok (.iadd, 1) := by decide +kernel
theorem d_Md_keep_64 : decode b_Md_keep 64 = .ok (.putfield 45, 3) := by decide +kernel
theorem d_Md_keep_67 : decode b_Md_keep 67 = .ok (.iconst 0, 1) := by decide +kernel
theorem d_Md_keep_68 : decode b_Md_keep 68 = .ok (.istore 4, 2) := by decide +kernel
theorem d_Md_keep_70 : decode b_Md_keep 70 = .ok (.iload 4, 2) := by decide +kernel
theorem d_Md_keep_72 : decode b_Md_keep 72 = .ok (.iload_n 2, 1) := by decide +kernel
theorem d_Md_keep_73 : decode b_Md_keep 73 = .ok (.if_icmp .ge 28, 3) := by decide +kernel
theorem d_Md_keep_76 : decode b_Md_keep 76 = .ok (.aload_n 0, 1) := by decide +kernel
theorem d_Md_keep_77 : decode b_Md_keep 77 = .ok (.getfield 23, 3) := by decide +kernel
theorem d_Md_keep_80 : decode b_Md_keep 80 = .ok (.aload_n 0, 1) := by decide +kernel
theorem d_Md_keep_81 : decode b_Md_keep 81 = .ok (.getfield 33, 3) := by decide +kernel
theorem d_Md_keep_84 : decode b_Md_keep 84 = .ok (.iload 4, 2) := by decide +kernel
theorem d_Md_keep_86 : decode b_Md_keep 86 = .ok (.iadd, 1) := by decide +kernel
theorem d_Md_keep_87 : decode b_Md_keep 87 = .ok (.aload_n 0, 1) := by decide +kernel
theorem d_Md_keep_88 : decode b_Md_keep 88 = .ok (.getfield 7, 3) := by decide +kernel
theorem d_Md_keep_91 : decode b_Md_keep 91 = .ok (.iload 4, 2) := by decide +kernel
theorem d_Md_keep_93 : decode b_Md_keep 93 = .ok (.baload, 1) := by decide +kernel
theorem d_Md_keep_94 : decode b_Md_keep 94 = .ok (.bastore, 1) := by decide +kernel
theorem d_Md_keep_95 : decode b_Md_keep 95 = .ok (.iinc 4 1, 3) := by decide +kernel
theorem d_Md_keep_98 : decode b_Md_keep 98 = .ok (.goto (-28), 3) := by decide +kernel
theorem d_Md_keep_101 : decode b_Md_keep 101 = .ok (.aload_n 0, 1) := by decide +kernel
theorem d_Md_keep_102 : decode b_Md_keep 102 = .ok (.dup, 1) := by decide +kernel
theorem d_Md_keep_103 : decode b_Md_keep 103 = .ok (.getfield 33, 3) := by decide +kernel
theorem d_Md_keep_106 : decode b_Md_keep 106 = .ok (.iload_n 2, 1) := by decide +kernel
theorem d_Md_keep_107 : decode b_Md_keep 107 = .ok (.iadd, 1) := by decide +kernel
theorem d_Md_keep_108 : decode b_Md_keep 108 = .ok (.putfield 33, 3) := by decide +kernel
theorem d_Md_keep_111 : decode b_Md_keep 111 = .ok (.aload_n 0, 1) := by decide +kernel
theorem d_Md_keep_112 : decode b_Md_keep 112 = .ok (.getfield 16, 3) := by decide +kernel
theorem d_Md_keep_115 : decode b_Md_keep 115 = .ok (.aload_n 0, 1) := by decide +kernel
theorem d_Md_keep_116 : decode b_Md_keep 116 = .ok (.getfield 36, 3) := by decide +kernel
theorem d_Md_keep_119 : decode b_Md_keep 119 = .ok (.iload_n 1, 1) := by decide +kernel
theorem d_Md_keep_120 : decode b_Md_keep 120 = .ok (.iastore, 1) := by decide +kernel
theorem d_Md_keep_121 : decode b_Md_keep 121 = .ok (.aload_n 0, 1) := by decide +kernel
theorem d_Md_keep_122 : decode b_Md_keep 122 = .ok (.getfield 20, 3) := by decide +kernel
theorem d_Md_keep_125 : decode b_Md_keep 125 = .ok (.aload_n 0, 1) := by decide +kernel
theorem d_Md_keep_126 : decode b_Md_keep 126 = .ok (.getfield 36, 3) := by decide +kernel
theorem d_Md_keep_129 : decode b_Md_keep 129 = .ok (.iload_n 2, 1) := by decide +kernel
theorem d_Md_keep_130 : decode b_Md_keep 130 = .ok (.iastore, 1) := by decide +kernel
theorem d_Md_keep_131 : decode b_Md_keep 131 = .ok (.aload_n 0, 1) := by decide +kernel
theorem d_Md_keep_132 : decode b_Md_keep 132 = .ok (.dup, 1) := by decide +kernel
theorem d_Md_keep_133 : decode b_Md_keep 133 = .ok (.getfield 36, 3) := by decide +kernel
theorem d_Md_keep_136 : decode b_Md_keep 136 = .ok (.iconst 1, 1) := by decide +kernel
theorem d_Md_keep_137 : decode b_Md_keep 137 = .ok (.iadd, 1) := by decide +kernel
theorem d_Md_keep_138 : decode b_Md_keep 138 = .ok (.putfield 36, 3) := by decide +kernel
theorem d_Md_keep_141 : decode b_Md_keep 141 = .ok (.aload_n 0, 1) := by decide +kernel
theorem d_Md_keep_142 : decode b_Md_keep 142 = .ok (.dup, 1) := by decide +kernel
theorem d_Md_keep_143 : decode b_Md_keep 143 = .ok (.getfield 48, 3) := by decide +kernel
theorem d_Md_keep_146 : decode b_Md_keep 146 = .ok (.iconst 1, 1) := by decide +kernel
theorem d_Md_keep_147 : decode b_Md_keep 147 = .ok (.iadd, 1) := by decide +kernel
theorem d_Md_keep_148 : decode b_Md_keep 148 = .ok (.putfield 48, 3) := by decide +kernel
theorem d_Md_keep_151 : decode b_Md_keep 151 = .ok (.iload_n 3, 1) := by decide +kernel
theorem d_Md_keep_152 : decode b_Md_keep 152 = .ok (.ireturn, 1) := by decide +kernel
theorem d_Md_delete_0 : decode b_Md_delete 0 = .ok (.aload_n 0, 1) := by decide +kernel
theorem d_Md_delete_1 : decode b_Md_delete 1 = .ok (.iconst 0, 1) := by decide +kernel
theorem d_Md_delete_2 : decode b_Md_delete 2 = .ok (.putfield 30, 3) := by decide +kernel
theorem d_Md_delete_5 : decode b_Md_delete 5 = .ok (.iconst 0, 1) := by decide +kernel
theorem d_Md_delete_6 : decode b_Md_delete 6 = .ok (.istore_n 2, 1) := by decide +kernel
theorem d_Md_delete_7 : decode b_Md_delete 7 = .ok (.aload_n 0, 1) := by decide +kernel
theorem d_Md_delete_8 : decode b_Md_delete 8 = .ok (.getfield 36, 3) := by decide +kernel
theorem d_Md_delete_11 : decode b_Md_delete 11 = .ok (.ifCond .le 23, 3) := by decide +kernel
theorem d_Md_delete_14 : decode b_Md_delete 14 = .ok (.aload_n 0, 1) := by decide +kernel
theorem d_Md_delete_15 : decode b_Md_delete 15 = .ok (.getfield 16, 3) := by decide +kernel
theorem d_Md_delete_18 : decode b_Md_delete 18 = .ok (.iconst 0, 1) := by decide +kernel
theorem d_Md_delete_19 : decode b_Md_delete 19 = .ok (.iaload, 1) := by decide +kernel
theorem d_Md_delete_20 : decode b_Md_delete 20 = .ok (.iload_n 1, 1) := by decide +kernel
theorem d_Md_delete_21 : decode b_Md_delete 21 = .ok (.if_icmp .gt 13, 3) := by decide +kernel
theorem d_Md_delete_24 : decode b_Md_delete 24 = .ok (.aload_n 0, 1) := by decide +kernel
theorem d_Md_delete_25 : decode b_Md_delete 25 = .ok (.invokevirtual 42, 3) := by decide +kernel
theorem d_Md_delete_28 : decode b_Md_delete 28 = .ok (.iinc 2 1, 3) := by decide +kernel
theorem d_Md_delete_31 : decode b_Md_delete 31 = .ok (.goto (-24), 3) := by decide +kernel
theorem d_Md_delete_34 : decode b_Md_delete 34 = .ok (.aload_n 0, 1) := by decide +kernel
theorem d_Md_delete_35 : decode b_Md_delete 35 = .ok (.dup, 1) := by decide +kernel
theorem d_Md_delete_36 : decode b_Md_delete 36 = .ok (.getfield 51, 3) := by decide +kernel
theorem d_Md_delete_39 : decode b_Md_delete 39 = .ok (.iload_n 2, 1) := by decide +kernel
theorem d_Md_delete_40 : decode b_Md_delete 40 = .ok (.iadd, 1) := by decide +kernel
theorem d_Md_delete_41 : decode b_Md_delete 41 = .ok (.putfield 51, 3) := by decide +kernel
theorem d_Md_delete_44 : decode b_Md_delete 44 = .ok (.iload_n 2, 1) := by decide +kernel
theorem d_Md_delete_45 : decode b_Md_delete 45 = .ok (.ireturn, 1) := by decide +kernel
theorem d_Md_begin_0 : decode b_Md_begin 0 = .ok (.aload_n 0, 1) := by decide +kernel
theorem d_Md_begin_1 : decode b_Md_begin 1 = .ok (.iconst 0, 1) := by decide +kernel
theorem d_Md_begin_2 : decode b_Md_begin 2 = .ok (.putfield 30, 3) := by decide +kernel
theorem d_Md_begin_5 : decode b_Md_begin 5 = .ok (.aload_n 0, 1) := by decide +kernel
theorem d_Md_begin_6 : decode b_Md_begin 6 = .ok (.getfield 54, 3) := by decide +kernel
theorem d_Md_begin_9 : decode b_Md_begin 9 = .ok (.ifCond .eq 5, 3) := by decide +kernel
theorem d_Md_begin_12 : decode b_Md_begin 12 = .ok (.iconst 0, 1) := by decide +kernel
theorem d_Md_begin_13 : decode b_Md_begin 13 = .ok (.ireturn, 1) := by decide +kernel
theorem d_Md_begin_14 : decode b_Md_begin 14 = .ok (.aload_n 0, 1) := by decide +kernel
theorem d_Md_begin_15 : decode b_Md_begin 15 = .ok (.iconst 1, 1) := by decide +kernel
theorem d_Md_begin_16 : decode b_Md_begin 16 = .ok (.putfield 54, 3) := by decide +kernel
theorem d_Md_begin_19 : decode b_Md_begin 19 = .ok (.aload_n 0, 1) := by decide +kernel
theorem d_Md_begin_20 : decode b_Md_begin 20 = .ok (.iload_n 1, 1) := by decide +kernel
theorem d_Md_begin_21 : decode b_Md_begin 21 = .ok (.putfield 58, 3) := by decide +kernel
theorem d_Md_begin_24 : decode b_Md_begin 24 = .ok (.aload_n 0, 1) := by decide +kernel
theorem d_Md_begin_25 : decode b_Md_begin 25 = .ok (.iload_n 2, 1) := by decide +kernel
theorem d_Md_begin_26 : decode b_Md_begin 26 = .ok (.putfield 61, 3) := by decide +kernel
theorem d_Md_begin_29 : decode b_Md_begin 29 = .ok (.aload_n 0, 1) := by decide +kernel
theorem d_Md_begin_30 : decode b_Md_begin 30 = .ok (.aload_n 0, 1) := by decide +kernel
theorem d_Md_begin_31 : decode b_Md_begin 31 = .ok (.getfield 48, 3) := by decide +kernel
theorem d_Md_begin_34 : decode b_Md_begin 34 = .ok (.aload_n 0, 1) := by decide +kernel
theorem d_Md_begin_35 : decode b_Md_begin 35 = .ok (.getfield 36, 3) := by decide +kernel
theorem d_Md_begin_38 : decode b_Md_begin 38 = .ok (.isub, 1) := by decide +kernel
theorem d_Md_begin_39 : decode b_Md_begin 39 = .ok (.putfield 64, 3) := by decide +kernel
theorem d_Md_begin_42 : decode b_Md_begin 42 = .ok (.iconst 1, 1) := by decide +kernel
theorem d_Md_begin_43 : decode b_Md_begin 43 = .ok (.ireturn, 1) := by decide +kernel
theorem d_Md_stop_0 : decode b_Md_stop 0 = .ok (.aload_n 0, 1) := by decide +kernel
theorem d_Md_stop_1 : decode b_Md_stop 1 = .ok (.iconst 0, 1) := by decide +kernel
theorem d_Md_stop_2 : decode b_Md_stop 2 = .ok (.putfield 30, 3) := by decide +kernel
theorem d_Md_stop_5 : decode b_Md_stop 5 = .ok (.aload_n 0, 1) := by decide +kernel
theorem d_Md_stop_6 : decode b_Md_stop 6 = .ok (.getfield 54, 3) := by decide +kernel
theorem d_Md_stop_9 : decode b_Md_stop 9 = .ok (.istore_n 1, 1) := by decide +kernel
theorem d_Md_stop_10 : decode b_Md_stop 10 = .ok (.aload_n 0, 1) := by decide +kernel
theorem d_Md_stop_11 : decode b_Md_stop 11 = .ok (.iconst 0, 1) := by decide +kernel
theorem d_Md_stop_12 : decode b_Md_stop 12 = .ok (.putfield 54, 3) := by decide +kernel
theorem d_Md_stop_15 : decode b_Md_stop 15 = .ok (.iload_n 1, 1) := by decide +kernel
theorem d_Md_stop_16 : decode b_Md_stop 16 = .ok (.ireturn, 1) := by decide +kernel
theorem d_Md_next_0 : decode b_Md_next 0 = .ok (.aload_n 0, 1) := by decide +kernel
theorem d_Md_next_1 : decode b_Md_next 1 = .ok (.iconst 0, 1) := by decide +kernel
theorem d_Md_next_2 : decode b_Md_next 2 = .ok (.putfield 30, 3) := by decide +kernel
theorem d_Md_next_5 : decode b_Md_next 5 = .ok (.aload_n 0, 1) := by decide +kernel
theorem d_Md_next_6 : decode b_Md_next 6 = .ok (.getfield 54, 3) := by decide +kernel
theorem d_Md_next_9 : decode b_Md_next 9 = .ok (.ifCond .ne 5, 3) := by decide +kernel
theorem d_Md_next_12 : decode b_Md_next 12 = .ok (.iconst (-1), 1) := by decide +kernel
theorem d_Md_next_13 : decode b_Md_next 13 = .ok (.ireturn, 1) := by decide +kernel
theorem d_Md_next_14 : decode b_Md_next 14 = .ok (.aload_n 0, 1) := by decide +kernel
theorem d_Md_next_15 : decode b_Md_next 15 = .ok (.getfield 64, 3) := by decide +kernel
theorem d_Md_next_18 : decode b_Md_next 18 = .ok (.aload_n 0, 1) := by decide +kernel
theorem d_Md_next_19 : decode b_Md_next 19 = .ok (.getfield 48, 3) := by decide +kernel
theorem d_Md_next_22 : decode b_Md_next 22 = .ok (.aload_n 0, 1) := by decide +kernel
theorem d_Md_next_23 : decode b_Md_next 23 = .ok (.getfield 36, 3) := by decide +kernel
theorem d_Md_next_26 : decode b_Md_next 26 = .ok (.isub, 1) := by decide +kernel
theorem d_Md_next_27 : decode b_Md_next 27 = .ok (.isub, 1) := by decide +kernel
theorem d_Md_next_28 : decode b_Md_next 28 = .ok (.istore_n 2, 1) := by decide +kernel
theorem d_Md_next_29 : decode b_Md_next 29 = .ok (.iload_n 2, 1) := by decide +kernel
theorem d_Md_next_30 : decode b_Md_next 30 = .ok (.ifCond .ge 7, 3) := by decide +kernel
theorem d_Md_next_33 : decode b_Md_next 33 = .ok (.iconst 0, 1) := by decide +kernel
theorem d_Md_next_34 : decode b_Md_next 34 = .ok (.goto 4, 3) := by decide +kernel
theorem d_Md_next_37 : decode b_Md_next 37 = .ok (.iload_n 2, 1) := by decide +kernel
theorem d_Md_next_38 : decode b_Md_next 38 = .ok (.istore_n 2, 1) := by decide +kernel
theorem d_Md_next_39 : decode b_Md_next 39 = .ok (.iload_n 2, 1) := by decide +kernel
theorem d_Md_next_40 : decode b_Md_next 40 = .ok (.aload_n 0, 1) := by decide +kernel
theorem d_Md_next_41 : decode b_Md_next 41 = .ok (.getfield 36, 3) := by decide +kernel
theorem d_Md_next_44 : decode b_Md_next 44 = .ok (.if_icmp .ge 35, 3) := by decide +kernel
theorem d_Md_next_47 : decode b_Md_next 47 = .ok (.aload_n 0, 1) := by decide +kernel
theorem d_Md_next_48 : decode b_Md_next 48 = .ok (.getfield 16, 3) := by decide +kernel
theorem d_Md_next_51 : decode b_Md_next 51 = .ok (.iload_n 2, 1) := by decide +kernel
theorem d_Md_next_52 : decode b_Md_next 52 = .ok (.iaload, 1) := by decide +kernel
theorem d_Md_next_53 : decode b_Md_next 53 = .ok (.aload_n 0, 1) := by decide +kernel
theorem d_Md_next_54 : decode b_Md_next 54 = .ok (.getfield 58, 3) := by decide +kernel
theorem d_Md_next_57 : decode b_Md_next 57 = .ok (.if_icmp .lt 16, 3) := by decide +kernel
theorem d_Md_next_60 : decode b_Md_next 60 = .ok (.aload_n 0, 1) := by decide +kernel
theorem d_Md_next_61 : decode b_Md_next 61 = .ok (.getfield 16, 3) := by decide +kernel
theorem d_Md_next_64 : decode b_Md_next 64 = .ok (.iload_n 2, 1) := by decide +kernel
theorem d_Md_next_65 : decode b_Md_next 65 = .ok (.iaload, 1) := by decide +kernel
theorem d_Md_next_66 : decode b_Md_next 66 = .ok (.aload_n 0, 1) := by decide +kernel
theorem d_Md_next_67 : decode b_Md_next 67 = .ok (.getfield 61, 3) := by decide +kernel
theorem d_Md_next_70 : decode b_Md_next 70 = .ok (.if_icmp .le 9, 3) := by decide +kernel
theorem d_Md_next_73 : decode b_Md_next 73 = .ok (.iinc 2 1, 3) := by decide +kernel
theorem d_Md_next_76 : decode b_Md_next 76 = .ok (.goto (-37), 3) := by decide +kernel
theorem d_Md_next_79 : decode b_Md_next 79 = .ok (.aload_n 0, 1) := by decide +kernel
theorem d_Md_next_80 : decode b_Md_next 80 = .ok (.aload_n 0, 1) := by decide +kernel
theorem d_Md_next_81 : decode b_Md_next 81 = .ok (.getfield 48, 3) := by decide +kernel
theorem d_Md_next_84 : decode b_Md_next 84 = .ok (.aload_n 0, 1) := by decide +kernel
theorem d_Md_next_85 : decode b_Md_next 85 = .ok (.getfield 36, 3) := by decide +kernel
theorem d_Md_next_88 : decode b_Md_next 88 = .ok (.isub, 1) := by decide +kernel
theorem d_Md_next_89 : decode b_Md_next 89 = .ok (.iload_n 2, 1) := by decide +kernel
theorem d_Md_next_90 : decode b_Md_next 90 = .ok (.iadd, 1) := by decide +kernel
theorem d_Md_next_91 : decode b_Md_next 91 = .ok (.putfield 64, 3) := by decide +kernel
theorem d_Md_next_94 : decode b_Md_next 94 = .ok (.iload_n 2, 1) := by decide +kernel
theorem d_Md_next_95 : decode b_Md_next 95 = .ok (.aload_n 0, 1) := by decide +kernel
theorem d_Md_next_96 : decode b_Md_next 96 = .ok (.getfield 36, 3) := by decide +kernel
theorem d_Md_next_99 : decode b_Md_next 99 = .ok (.if_icmp .ne 10, 3) := by decide +kernel
theorem d_Md_next_102 : decode b_Md_next 102 = .ok (.aload_n 0, 1) := by decide +kernel
theorem d_Md_next_103 : decode b_Md_next 103 = .ok (.iconst 0, 1) := by decide +kernel
theorem d_Md_next_104 : decode b_Md_next 104 = .ok (.putfield 54, 3) := by decide +kernel
theorem d_Md_next_107 : decode b_Md_next 107 = .ok (.iconst (-1), 1) := by decide +kernel
theorem d_Md_next_108 : decode b_Md_next 108 = .ok (.ireturn, 1) := by decide +kernel
theorem d_Md_next_109 : decode b_Md_next 109 = .ok (.aload_n 0, 1) := by decide +kernel
theorem d_Md_next_110 : decode b_Md_next 110 = .ok (.getfield 20, 3) := by decide +kernel
theorem d_Md_next_113 : decode b_Md_next 113 = .ok (.iload_n 2, 1) := by decide +kernel
theorem d_Md_next_114 : decode b_Md_next 114 = .ok (.iaload, 1) := by decide +kernel
theorem d_Md_next_115 : decode b_Md_next 115 = .ok (.iload_n 1, 1) := by decide +kernel
theorem d_Md_next_116 : decode b_Md_next 116 = .ok (.if_icmp .le 6, 3) := by decide +kernel
theorem d_Md_next_119 : decode b_Md_next 119 = .ok (.bipush (-2), 2) := by decide +kernel
theorem d_Md_next_121 : decode b_Md_next 121 = .ok (.ireturn, 1) := by decide +kernel
theorem d_Md_next_122 : decode b_Md_next 122 = .ok (.aload_n 0, 1) := by decide +kernel
theorem d_Md_next_123 : decode b_Md_next 123 = .ok (.iload_n 2, 1) := by decide +kernel
theorem d_Md_next_124 : decode b_Md_next 124 = .ok (.invokevirtual 67, 3) := by decide +kernel
theorem d_Md_next_127 : decode b_Md_next 127 = .ok (.istore_n 3, 1) := by decide +kernel
theorem d_Md_next_128 : decode b_Md_next 128 = .ok (.iconst 0, 1) := by decide +kernel
theorem d_Md_next_129 : decode b_Md_next 129 = .ok (.istore 4, 2) := by decide +kernel
theorem d_Md_next_131 : decode b_Md_next 131 = .ok (.iload 4, 2) := by decide +kernel
theorem d_Md_next_133 : decode b_Md_next 133 = .ok (.aload_n 0, 1) := by decide +kernel
theorem d_Md_next_134 : decode b_Md_next 134 = .ok (.getfield 20, 3) := by decide +kernel
theorem d_Md_next_137 : decode b_Md_next 137 = .ok (.iload_n 2, 1) := by decide +kernel
theorem d_Md_next_138 : decode b_Md_next 138 = .ok (.iaload, 1) := by decide +kernel
theorem d_Md_next_139 : decode b_Md_next 139 = .ok (.if_icmp .ge 25, 3) := by decide +kernel
theorem d_Md_next_142 : decode b_Md_next 142 = .ok (.aload_n 0, 1) := by decide +kernel
theorem d_Md_next_143 : decode b_Md_next 143 = .ok (.getfield 13, 3) := by decide +kernel
theorem d_Md_next_146 : decode b_Md_next 146 = .ok (.iload 4, 2) := by decide +kernel
theorem d_Md_next_148 : decode b_Md_next 148 = .ok (.aload_n 0, 1) := by decide +kernel
theorem d_Md_next_149 : decode b_Md_next 149 = .ok (.getfield 23, 3) := by decide +kernel
theorem d_Md_next_152 : decode b_Md_next 152 = .ok (.iload_n 3, 1) := by decide +kernel
theorem d_Md_next_153 : decode b_Md_next 153 = .ok (.iload 4, 2) := by decide +kernel
theorem d_Md_next_155 : decode b_Md_next 155 = .ok (.iadd, 1) := by decide +kernel
theorem d_Md_next_156 : decode b_Md_next 156 = .ok (.baload, 1) := by decide +kernel
theorem d_Md_next_157 : decode b_Md_next 157 = .ok (.bastore, 1) := by decide +kernel
theorem d_Md_next_158 : decode b_Md_next 158 = .ok (.iinc 4 1, 3) := by decide +kernel
theorem d_Md_next_161 : decode b_Md_next 161 = .ok (.goto (-30), 3) := by decide +kernel
theorem d_Md_next_164 : decode b_Md_next 164 = .ok (.aload_n 0, 1) := by decide +kernel
theorem d_Md_next_165 : decode b_Md_next 165 = .ok (.aload_n 0, 1) := by decide +kernel
theorem d_Md_next_166 : decode b_Md_next 166 = .ok (.getfield 20, 3) := by decide +kernel
theorem d_Md_next_169 : decode b_Md_next 169 = .ok (.iload_n 2, 1) := by decide +kernel
theorem d_Md_next_170 : decode b_Md_next 170 = .ok (.iaload, 1) := by decide +kernel
theorem d_Md_next_171 : decode b_Md_next 171 = .ok (.putfield 71, 3) := by decide +kernel
theorem d_Md_next_174 : decode b_Md_next 174 = .ok (.aload_n 0, 1) := by decide +kernel
theorem d_Md_next_175 : decode b_Md_next 175 = .ok (.dup, 1) := by decide +kernel
theorem d_Md_next_176 : decode b_Md_next 176 = .ok (.getfield 64, 3) := by decide +kernel
theorem d_Md_next_179 : decode b_Md_next 179 = .ok (.iconst 1, 1) := by decide +kernel
theorem d_Md_next_180 : decode b_Md_next 180 = .ok (.iadd, 1) := by decide +kernel
theorem d_Md_next_181 : decode b_Md_next 181 = .ok (.putfield 64, 3) := by decide +kernel
theorem d_Md_next_184 : decode b_Md_next 184 = .ok (.aload_n 0, 1) := by decide +kernel
theorem d_Md_next_185 : decode b_Md_next 185 = .ok (.getfield 71, 3) := by decide +kernel
theorem d_Md_next_188 : decode b_Md_next 188 = .ok (.ireturn, 1) := by decide +kernel
theorem d_Md_out_0 : decode b_Md_out 0 = .ok (.aload_n 0, 1) := by decide +kernel
theorem d_Md_out_1 : decode b_Md_out 1 = .ok (.iconst 0, 1) := by decide +kernel
theorem d_Md_out_2 : decode b_Md_out 2 = .ok (.putfield 30, 3) := by decide +kernel
theorem d_Md_out_5 : decode b_Md_out 5 = .ok (.iload_n 1, 1) := by decide +kernel
theorem d_Md_out_6 : decode b_Md_out 6 = .ok (.ifCond .lt 11, 3) := by decide +kernel
theorem d_Md_out_9 : decode b_Md_out 9 = .ok (.iload_n 1, 1) := by decide +kernel
theorem d_Md_out_10 : decode b_Md_out 10 = .ok (.aload_n 0, 1) := by decide +kernel
theorem d_Md_out_11 : decode b_Md_out 11 = .ok (.getfield 71, 3) := by decide +kernel
theorem d_Md_out_14 : decode b_Md_out 14 = .ok (.if_icmp .lt 7, 3) := by decide +kernel
theorem d_Md_out_17 : decode b_Md_out 17 = .ok (.iconst (-1), 1) := by decide +kernel
theorem d_Md_out_18 : decode b_Md_out 18 = .ok (.goto 13, 3) := by decide +kernel
theorem d_Md_out_21 : decode b_Md_out 21 = .ok (.aload_n 0, 1) := by decide +kernel
theorem d_Md_out_22 : decode b_Md_out 22 = .ok (.getfield 13, 3) := by decide +kernel
theorem d_Md_out_25 : decode b_Md_out 25 = .ok (.iload_n 1, 1) := by decide +kernel
theorem d_Md_out_26 : decode b_Md_out 26 = .ok (.baload, 1) := by decide +kernel
theorem d_Md_out_27 : decode b_Md_out 27 = .ok (.sipush 255, 3) := by decide +kernel
theorem d_Md_out_30 : decode b_Md_out 30 = .ok (.iand, 1) := by decide +kernel
theorem d_Md_out_31 : decode b_Md_out 31 = .ok (.ireturn, 1) := by decide +kernel
theorem d_Md_count_0 : decode b_Md_count 0 = .ok (.aload_n 0, 1) := by decide +kernel
theorem d_Md_count_1 : decode b_Md_count 1 = .ok (.iconst 0, 1) := by decide +kernel
theorem d_Md_count_2 : decode b_Md_count 2 = .ok (.putfield 30, 3) := by decide +kernel
theorem d_Md_count_5 : decode b_Md_count 5 = .ok (.iload_n 1, 1) := by decide +kernel
theorem d_Md_count_6 : decode b_Md_count 6 = .ok (.tableswitch 94 0 7 #[46, 51, 56, 61, 66, 71, 84, 89], 46) := by decide +kernel
theorem d_Md_count_52 : decode b_Md_count 52 = .ok (.aload_n 0, 1) := by decide +kernel
theorem d_Md_count_53 : decode b_Md_count 53 = .ok (.getfield 36, 3) := by decide +kernel
theorem d_Md_count_56 : decode b_Md_count 56 = .ok (.ireturn, 1) := by decide +kernel
theorem d_Md_count_57 : decode b_Md_count 57 = .ok (.aload_n 0, 1) := by decide +kernel
theorem d_Md_count_58 : decode b_Md_count 58 = .ok (.getfield 33, 3) := by decide +kernel
theorem d_Md_count_61 : decode b_Md_count 61 = .ok (.ireturn, 1) := by decide +kernel
theorem d_Md_count_62 : decode b_Md_count 62 = .ok (.aload_n 0, 1) := by decide +kernel
theorem d_Md_count_63 : decode b_Md_count 63 = .ok (.getfield 48, 3) := by decide +kernel
theorem d_Md_count_66 : decode b_Md_count 66 = .ok (.ireturn, 1) := by decide +kernel
theorem d_Md_count_67 : decode b_Md_count 67 = .ok (.aload_n 0, 1) := by decide +kernel
theorem d_Md_count_68 : decode b_Md_count 68 = .ok (.getfield 45, 3) := by decide +kernel
theorem d_Md_count_71 : decode b_Md_count 71 = .ok (.ireturn, 1) := by decide +kernel
theorem d_Md_count_72 : decode b_Md_count 72 = .ok (.aload_n 0, 1) := by decide +kernel
theorem d_Md_count_73 : decode b_Md_count 73 = .ok (.getfield 51, 3) := by decide +kernel
theorem d_Md_count_76 : decode b_Md_count 76 = .ok (.ireturn, 1) := by decide +kernel
theorem d_Md_count_77 : decode b_Md_count 77 = .ok (.aload_n 0, 1) := by decide +kernel
theorem d_Md_count_78 : decode b_Md_count 78 = .ok (.getfield 54, 3) := by decide +kernel
theorem d_Md_count_81 : decode b_Md_count 81 = .ok (.ifCond .eq 7, 3) := by decide +kernel
theorem d_Md_count_84 : decode b_Md_count 84 = .ok (.iconst 1, 1) := by decide +kernel
theorem d_Md_count_85 : decode b_Md_count 85 = .ok (.goto 4, 3) := by decide +kernel
theorem d_Md_count_88 : decode b_Md_count 88 = .ok (.iconst 0, 1) := by decide +kernel
theorem d_Md_count_89 : decode b_Md_count 89 = .ok (.ireturn, 1) := by decide +kernel
theorem d_Md_count_90 : decode b_Md_count 90 = .ok (.aload_n 0, 1) := by decide +kernel
theorem d_Md_count_91 : decode b_Md_count 91 = .ok (.getfield 71, 3) := by decide +kernel
theorem d_Md_count_94 : decode b_Md_count 94 = .ok (.ireturn, 1) := by decide +kernel
theorem d_Md_count_95 : decode b_Md_count 95 = .ok (.aload_n 0, 1) := by decide +kernel
theorem d_Md_count_96 : decode b_Md_count 96 = .ok (.getfield 26, 3) := by decide +kernel
theorem d_Md_count_99 : decode b_Md_count 99 = .ok (.ireturn, 1) := by decide +kernel
theorem d_Md_count_100 : decode b_Md_count 100 = .ok (.iconst (-1), 1) := by decide +kernel
theorem d_Md_count_101 : decode b_Md_count 101 = .ok (.ireturn, 1) := by decide +kernel
theorem d_Md_about_0 : decode b_Md_about 0 = .ok (.aload_n 0, 1) := by decide +kernel
theorem d_Md_about_1 : decode b_Md_about 1 = .ok (.iconst 0, 1) := by decide +kernel
theorem d_Md_about_2 : decode b_Md_about 2 = .ok (.putfield 30, 3) := by decide +kernel
theorem d_Md_about_5 : decode b_Md_about 5 = .ok (.iload_n 1, 1) := by decide +kernel
theorem d_Md_about_6 : decode b_Md_about 6 = .ok (.ifCond .lt 11, 3) := by decide +kernel
theorem d_Md_about_9 : decode b_Md_about 9 = .ok (.iload_n 1, 1) := by decide +kernel
theorem d_Md_about_10 : decode b_Md_about 10 = .ok (.aload_n 0, 1) := by decide +kernel
theorem d_Md_about_11 : decode b_Md_about 11 = .ok (.getfield 36, 3) := by decide +kernel
theorem d_Md_about_14 : decode b_Md_about 14 = .ok (.if_icmp .lt 7, 3) := by decide +kernel
theorem d_Md_about_17 : decode b_Md_about 17 = .ok (.iconst (-1), 1) := by decide +kernel
theorem d_Md_about_18 : decode b_Md_about 18 = .ok (.goto 31, 3) := by decide +kernel
theorem d_Md_about_21 : decode b_Md_about 21 = .ok (.iload_n 2, 1) := by decide +kernel
theorem d_Md_about_22 : decode b_Md_about 22 = .ok (.ifCond .ne 12, 3) := by decide +kernel
theorem d_Md_about_25 : decode b_Md_about 25 = .ok (.aload_n 0, 1) := by decide +kernel
theorem d_Md_about_26 : decode b_Md_about 26 = .ok (.getfield 16, 3) := by decide +kernel
theorem d_Md_about_29 : decode b_Md_about 29 = .ok (.iload_n 1, 1) := by decide +kernel
theorem d_Md_about_30 : decode b_Md_about 30 = .ok (.iaload, 1) := by decide +kernel
theorem d_Md_about_31 : decode b_Md_about 31 = .ok (.goto 18, 3) := by decide +kernel
theorem d_Md_about_34 : decode b_Md_about 34 = .ok (.iload_n 2, 1) := by decide +kernel
theorem d_Md_about_35 : decode b_Md_about 35 = .ok (.iconst 1, 1) := by decide +kernel
theorem d_Md_about_36 : decode b_Md_about 36 = .ok (.if_icmp .ne 12, 3) := by decide +kernel
theorem d_Md_about_39 : decode b_Md_about 39 = .ok (.aload_n 0, 1) := by decide +kernel
theorem d_Md_about_40 : decode b_Md_about 40 = .ok (.getfield 20, 3) := by decide +kernel
theorem d_Md_about_43 : decode b_Md_about 43 = .ok (.iload_n 1, 1) := by decide +kernel
theorem d_Md_about_44 : decode b_Md_about 44 = .ok (.iaload, 1) := by decide +kernel
theorem d_Md_about_45 : decode b_Md_about 45 = .ok (.goto 4, 3) := by decide +kernel
theorem d_Md_about_48 : decode b_Md_about 48 = .ok (.iconst (-1), 1) := by decide +kernel
theorem d_Md_about_49 : decode b_Md_about 49 = .ok (.ireturn, 1) := by decide +kernel
theorem d_Md_byteAt_0 : decode b_Md_byteAt 0 = .ok (.aload_n 0, 1) := by decide +kernel
theorem d_Md_byteAt_1 : decode b_Md_byteAt 1 = .ok (.iconst 0, 1) := by decide +kernel
theorem d_Md_byteAt_2 : decode b_Md_byteAt 2 = .ok (.putfield 30, 3) := by decide +kernel
theorem d_Md_byteAt_5 : decode b_Md_byteAt 5 = .ok (.iload_n 1, 1) := by decide +kernel
theorem d_Md_byteAt_6 : decode b_Md_byteAt 6 = .ok (.ifCond .lt 25, 3) := by decide +kernel
theorem d_Md_byteAt_9 : decode b_Md_byteAt 9 = .ok (.iload_n 1, 1) := by decide +kernel
theorem d_Md_byteAt_10 : decode b_Md_byteAt 10 = .ok (.aload_n 0, 1) := by decide +kernel
theorem d_Md_byteAt_11 : decode b_Md_byteAt 11 = .ok (.getfield 36, 3) := by decide +kernel
theorem d_Md_byteAt_14 : decode b_Md_byteAt 14 = .ok (.if_icmp .ge 17, 3) := by decide +kernel
theorem d_Md_byteAt_17 : decode b_Md_byteAt 17 = .ok (.iload_n 2, 1) := by decide +kernel
theorem d_Md_byteAt_18 : decode b_Md_byteAt 18 = .ok (.ifCond .lt 13, 3) := by decide +kernel
theorem d_Md_byteAt_21 : decode b_Md_byteAt 21 = .ok (.iload_n 2, 1) := by decide +kernel
theorem d_Md_byteAt_22 : decode b_Md_byteAt 22 = .ok (.aload_n 0, 1) := by decide +kernel
theorem d_Md_byteAt_23 : decode b_Md_byteAt 23 = .ok (.getfield 20, 3) := by decide +kernel
theorem d_Md_byteAt_26 : decode b_Md_byteAt 26 = .ok (.iload_n 1, 1) := by decide +kernel
theorem d_Md_byteAt_27 : decode b_Md_byteAt 27 = .ok (.iaload, 1) := by decide +kernel
theorem d_Md_byteAt_28 : decode b_Md_byteAt 28 = .ok (.if_icmp .lt 7, 3) := by decide +kernel
theorem d_Md_byteAt_31 : decode b_Md_byteAt 31 = .ok (.iconst (-1), 1) := by decide +kernel
theorem d_Md_byteAt_32 : decode b_Md_byteAt 32 = .ok (.goto 19, 3) := by decide +kernel
theorem d_Md_byteAt_35 : decode b_Md_byteAt 35 = .ok (.aload_n 0, 1) := by decide +kernel
theorem d_Md_byteAt_36 : decode b_Md_byteAt 36 = .ok (.getfield 23, 3) := by decide +kernel
theorem d_Md_byteAt_39 : decode b_Md_byteAt 39 = .ok (.aload_n 0, 1) := by decide +kernel
theorem d_Md_byteAt_40 : decode b_Md_byteAt 40 = .ok (.iload_n 1, 1) := by decide +kernel
theorem d_Md_byteAt_41 : decode b_Md_byteAt 41 = .ok (.invokevirtual 67, 3) := by decide +kernel
theorem d_Md_byteAt_44 : decode b_Md_byteAt 44 = .ok (.iload_n 2, 1) := by decide +kernel
theorem d_Md_byteAt_45 : decode b_Md_byteAt 45 = .ok (.iadd, 1) := by decide +kernel
theorem d_Md_byteAt_46 : decode b_Md_byteAt 46 = .ok (.baload, 1) := by decide +kernel
theorem d_Md_byteAt_47 : decode b_Md_byteAt 47 = .ok (.sipush 255, 3) := by decide +kernel
theorem d_Md_byteAt_50 : decode b_Md_byteAt 50 = .ok (.iand, 1) := by decide +kernel
theorem d_Md_byteAt_51 : decode b_Md_byteAt 51 = .ok (.ireturn, 1) := by decide +kernel
end
section
theorem d_law_cell_0 : decode b_law_cell 0 = .ok (.iload_n 1, 1) := by decide +kernel
theorem d_law_cell_1 : decode b_law_cell 1 = .ok (.aload_n 0, 1) := by decide +kernel
theorem d_law_cell_2 : decode b_law_cell 2 = .ok (.arraylength, 1) := by decide +kernel
theorem d_law_cell_3 : decode b_law_cell 3 = .ok (.if_icmp .ge 9, 3) := by decide +kernel
theorem d_law_cell_6 : decode b_law_cell 6 = .ok (.aload_n 0, 1) := by decide +kernel
theorem d_law_cell_7 : decode b_law_cell 7 = .ok (.iload_n 1, 1) := by decide +kernel
theorem d_law_cell_8 : decode b_law_cell 8 = .ok (.iaload, 1) := by decide +kernel
theorem d_law_cell_9 : decode b_law_cell 9 = .ok (.goto 4, 3) := by decide +kernel
theorem d_law_cell_12 : decode b_law_cell 12 = .ok (.iconst 0, 1) := by decide +kernel
theorem d_law_cell_13 : decode b_law_cell 13 = .ok (.ireturn, 1) := by decide +kernel
theorem d_law_0 : decode code 0 = .ok (.new 7, 3) := by decide +kernel
theorem d_law_3 : decode code 3 = .ok (.dup, 1) := by decide +kernel
theorem d_law_4 : decode code 4 = .ok (.aload_n 0, 1) := by decide +kernel
theorem d_law_5 : decode code 5 = .ok (.iconst 0, 1) := by decide +kernel
theorem d_law_6 : decode code 6 = .ok (.invokestatic 9, 3) := by decide +kernel
theorem d_law_9 : decode code 9 = .ok (.invokespecial 15, 3) := by decide +kernel
theorem d_law_12 : decode code 12 = .ok (.astore_n 1, 1) := by decide +kernel
theorem d_law_13 : decode code 13 = .ok (.new 18, 3) := by decide +kernel
theorem d_law_16 : decode code 16 = .ok (.dup, 1) := by decide +kernel
theorem d_law_17 : decode code 17 = .ok (.aload_n 0, 1) := by decide +kernel
theorem d_law_18 : decode code 18 = .ok (.iconst 0, 1) := by decide +kernel
theorem d_law_19 : decode code 19 = .ok (.invokestatic 9, 3) := by decide +kernel
theorem d_law_22 : decode code 22 = .ok (.invokespecial 20, 3) := by decide +kernel
theorem d_law_25 : decode code 25 = .ok (.astore_n 2, 1) := by decide +kernel
theorem d_law_26 : decode code 26 = .ok (.iconst 1, 1) := by decide +kernel
theorem d_law_27 : decode code 27 = .ok (.istore_n 3, 1) := by decide +kernel
theorem d_law_28 : decode code 28 = .ok (.iload_n 3, 1) := by decide +kernel
theorem d_law_29 : decode code 29 = .ok (.aload_n 0, 1) := by decide +kernel
theorem d_law_30 : decode code 30 = .ok (.arraylength, 1) := by decide +kernel
theorem d_law_31 : decode code 31 = .ok (.iconst 3, 1) := by decide +kernel
theorem d_law_32 : decode code 32 = .ok (.isub, 1) := by decide +kernel
theorem d_law_33 : decode code 33 = .ok (.if_icmp .gt 319, 3) := by decide +kernel
theorem d_law_36 : decode code 36 = .ok (.aload_n 0, 1) := by decide +kernel
theorem d_law_37 : decode code 37 = .ok (.iload_n 3, 1) := by decide +kernel
theorem d_law_38 : decode code 38 = .ok (.iaload, 1) := by decide +kernel
theorem d_law_39 : decode code 39 = .ok (.bipush 15, 2) := by decide +kernel
theorem d_law_41 : decode code 41 = .ok (.iand, 1) := by decide +kernel
theorem d_law_42 : decode code 42 = .ok (.tableswitch 304 0 9 #[54, 77, 100, 123, 156, 169, 192, 215, 238, 271], 54) := by decide +kernel
theorem d_law_96 : decode code 96 = .ok (.aload_n 1, 1) := by decide +kernel
theorem d_law_97 : decode code 97 = .ok (.aload_n 0, 1) := by decide +kernel
theorem d_law_98 : decode code 98 = .ok (.iload_n 3, 1) := by decide +kernel
theorem d_law_99 : decode code 99 = .ok (.iconst 1, 1) := by decide +kernel
theorem d_law_100 : decode code 100 = .ok (.iadd, 1) := by decide +kernel
theorem d_law_101 : decode code 101 = .ok (.iaload, 1) := by decide +kernel
theorem d_law_102 : decode code 102 = .ok (.invokevirtual 21, 3) := by decide +kernel
theorem d_law_105 : decode code 105 = .ok (.aload_n 2, 1) := by decide +kernel
theorem d_law_106 : decode code 106 = .ok (.aload_n 0, 1) := by decide +kernel
theorem d_law_107 : decode code 107 = .ok (.iload_n 3, 1) := by decide +kernel
theorem d_law_108 : decode code 108 = .ok (.iconst 1, 1) := by decide +kernel
theorem d_law_109 : decode code 109 = .ok (.iadd, 1) := by decide +kernel
theorem d_law_110 : decode code 110 = .ok (.iaload, 1) := by decide +kernel
theorem d_law_111 : decode code 111 = .ok (.invokevirtual 25, 3) := by decide +kernel
theorem d_law_114 : decode code 114 = .ok (.if_icmp .eq 232, 3) := by decide +kernel
theorem d_law_117 : decode code 117 = .ok (.iconst 0, 1) := by decide +kernel
theorem d_law_118 : decode code 118 = .ok (.ireturn, 1) := by decide +kernel
theorem d_law_119 : decode code 119 = .ok (.aload_n 1, 1) := by decide +kernel
theorem d_law_120 : decode code 120 = .ok (.aload_n 0, 1) := by decide +kernel
theorem d_law_121 : decode code 121 = .ok (.iload_n 3, 1) := by decide +kernel
theorem d_law_122 : decode code 122 = .ok (.iconst 1, 1) := by decide +kernel
theorem d_law_123 : decode code 123 = .ok (.iadd, 1) := by decide +kernel
theorem d_law_124 : decode code 124 = .ok (.iaload, 1) := by decide +kernel
theorem d_law_125 : decode code 125 = .ok (.invokevirtual 26, 3) := by decide +kernel
theorem d_law_128 : decode code 128 = .ok (.aload_n 2, 1) := by decide +kernel
theorem d_law_129 : decode code 129 = .ok (.aload_n 0, 1) := by decide +kernel
theorem d_law_130 : decode code 130 = .ok (.iload_n 3, 1) := by decide +kernel
theorem d_law_131 : decode code 131 = .ok (.iconst 1, 1) := by decide +kernel
theorem d_law_132 : decode code 132 = .ok (.iadd, 1) := by decide +kernel
theorem d_law_133 : decode code 133 = .ok (.iaload, 1) := by decide +kernel
theorem d_law_134 : decode code 134 = .ok (.invokevirtual 29, 3) := by decide +kernel
theorem d_law_137 : decode code 137 = .ok (.if_icmp .eq 209, 3) := by decide +kernel
theorem d_law_140 : decode code 140 = .ok (.iconst 0, 1) := by decide +kernel
theorem d_law_141 : decode code 141 = .ok (.ireturn, 1) := by decide +kernel
theorem d_law_142 : decode code 142 = .ok (.aload_n 1, 1) := by decide +kernel
theorem d_law_143 : decode code 143 = .ok (.aload_n 0, 1) := by decide +kernel
theorem d_law_144 : decode code 144 = .ok (.iload_n 3, 1) := by decide +kernel
theorem d_law_145 : decode code 145 = .ok (.iconst 1, 1) := by decide +kernel
theorem d_law_146 : decode code 146 = .ok (.iadd, 1) := by decide +kernel
theorem d_law_147 : decode code 147 = .ok (.iaload, 1) := by decide +kernel
theorem d_law_148 : decode code 148 = .ok (.invokevirtual 30, 3) := by decide +kernel
theorem d_law_151 : decode code 151 = .ok (.aload_n 2, 1) := by decide +kernel
theorem d_law_152 : decode code 152 = .ok (.aload_n 0, 1) := by decide +kernel
theorem d_law_153 : decode code 153 = .ok (.iload_n 3, 1) := by decide +kernel
theorem d_law_154 : decode code 154 = .ok (.iconst 1, 1) := by decide +kernel
theorem d_law_155 : decode code 155 = .ok (.iadd, 1) := by decide +kernel
theorem d_law_156 : decode code 156 = .ok (.iaload, 1) := by decide +kernel
theorem d_law_157 : decode code 157 = .ok (.invokevirtual 33, 3) := by decide +kernel
theorem d_law_160 : decode code 160 = .ok (.if_icmp .eq 186, 3) := by decide +kernel
theorem d_law_163 : decode code 163 = .ok (.iconst 0, 1) := by decide +kernel
theorem d_law_164 : decode code 164 = .ok (.ireturn, 1) := by decide +kernel
theorem d_law_165 : decode code 165 = .ok (.aload_n 1, 1) := by decide +kernel
theorem d_law_166 : decode code 166 = .ok (.aload_n 0, 1) := by decide +kernel
theorem d_law_167 : decode code 167 = .ok (.iload_n 3, 1) := by decide +kernel
theorem d_law_168 : decode code 168 = .ok (.iconst 1, 1) := by decide +kernel
theorem d_law_169 : decode code 169 = .ok (.iadd, 1) := by decide +kernel
theorem d_law_170 : decode code 170 = .ok (.iaload, 1) := by decide +kernel
theorem d_law_171 : decode code 171 = .ok (.aload_n 0, 1) := by decide +kernel
theorem d_law_172 : decode code 172 = .ok (.iload_n 3, 1) := by decide +kernel
theorem d_law_173 : decode code 173 = .ok (.iconst 2, 1) := by decide +kernel
theorem d_law_174 : decode code 174 = .ok (.iadd, 1) := by decide +kernel
theorem d_law_175 : decode code 175 = .ok (.iaload, 1) := by decide +kernel
theorem d_law_176 : decode code 176 = .ok (.invokevirtual 34, 3) := by decide +kernel
theorem d_law_179 : decode code 179 = .ok (.aload_n 2, 1) := by decide +kernel
theorem d_law_180 : decode code 180 = .ok (.aload_n 0, 1) := by decide +kernel
theorem d_law_181 : decode code 181 = .ok (.iload_n 3, 1) := by decide +kernel
theorem d_law_182 : decode code 182 = .ok (.iconst 1, 1) := by decide +kernel
theorem d_law_183 : decode code 183 = .ok (.iadd, 1) := by decide +kernel
theorem d_law_184 : decode code 184 = .ok (.iaload, 1) := by decide +kernel
theorem d_law_185 : decode code 185 = .ok (.aload_n 0, 1) := by decide +kernel
theorem d_law_186 : decode code 186 = .ok (.iload_n 3, 1) := by decide +kernel
theorem d_law_187 : decode code 187 = .ok (.iconst 2, 1) := by decide +kernel
theorem d_law_188 : decode code 188 = .ok (.iadd, 1) := by decide +kernel
theorem d_law_189 : decode code 189 = .ok (.iaload, 1) := by decide +kernel
theorem d_law_190 : decode code 190 = .ok (.invokevirtual 38, 3) := by decide +kernel
theorem d_law_193 : decode code 193 = .ok (.if_icmp .eq 153, 3) := by decide +kernel
theorem d_law_196 : decode code 196 = .ok (.iconst 0, 1) := by decide +kernel
theorem d_law_197 : decode code 197 = .ok (.ireturn, 1) := by decide +kernel
theorem d_law_198 : decode code 198 = .ok (.aload_n 1, 1) := by decide +kernel
theorem d_law_199 : decode code 199 = .ok (.invokevirtual 39, 3) := by decide +kernel
theorem d_law_202 : decode code 202 = .ok (.aload_n 2, 1) := by decide +kernel
theorem d_law_203 : decode code 203 = .ok (.invokevirtual 43, 3) := by decide +kernel
theorem d_law_206 : decode code 206 = .ok (.if_icmp .eq 140, 3) := by decide +kernel
theorem d_law_209 : decode code 209 = .ok (.iconst 0, 1) := by decide +kernel
theorem d_law_210 : decode code 210 = .ok (.ireturn, 1) := by decide +kernel
theorem d_law_211 : decode code 211 = .ok (.aload_n 1, 1) := by decide +kernel
theorem d_law_212 : decode code 212 = .ok (.aload_n 0, 1) := by decide +kernel
theorem d_law_213 : decode code 213 = .ok (.iload_n 3, 1) := by decide +kernel
theorem d_law_214 : decode code 214 = .ok (.iconst 1, 1) := by decide +kernel
theorem d_law_215 : decode code 215 = .ok (.iadd, 1) := by decide +kernel
theorem d_law_216 : decode code 216 = .ok (.iaload, 1) := by decide +kernel
theorem d_law_217 : decode code 217 = .ok (.invokevirtual 44, 3) := by decide +kernel
theorem d_law_220 : decode code 220 = .ok (.aload_n 2, 1) := by decide +kernel
theorem d_law_221 : decode code 221 = .ok (.aload_n 0, 1) := by decide +kernel
theorem d_law_222 : decode code 222 = .ok (.iload_n 3, 1) := by decide +kernel
theorem d_law_223 : decode code 223 = .ok (.iconst 1, 1) := by decide +kernel
theorem d_law_224 : decode code 224 = .ok (.iadd, 1) := by decide +kernel
theorem d_law_225 : decode code 225 = .ok (.iaload, 1) := by decide +kernel
theorem d_law_226 : decode code 226 = .ok (.invokevirtual 47, 3) := by decide +kernel
theorem d_law_229 : decode code 229 = .ok (.if_icmp .eq 117, 3) := by decide +kernel
theorem d_law_232 : decode code 232 = .ok (.iconst 0, 1) := by decide +kernel
theorem d_law_233 : decode code 233 = .ok (.ireturn, 1) := by decide +kernel
theorem d_law_234 : decode code 234 = .ok (.aload_n 1, 1) := by decide +kernel
theorem d_law_235 : decode code 235 = .ok (.aload_n 0, 1) := by decide +kernel
theorem d_law_236 : decode code 236 = .ok (.iload_n 3, 1) := by decide +kernel
theorem d_law_237 : decode code 237 = .ok (.iconst 1, 1) := by decide +kernel
theorem d_law_238 : decode code 238 = .ok (.iadd, 1) := by decide +kernel
theorem d_law_239 : decode code 239 = .ok (.iaload, 1) := by decide +kernel
theorem d_law_240 : decode code 240 = .ok (.invokevirtual 48, 3) := by decide +kernel
theorem d_law_243 : decode code 243 = .ok (.aload_n 2, 1) := by decide +kernel
theorem d_law_244 : decode code 244 = .ok (.aload_n 0, 1) := by decide +kernel
theorem d_law_245 : decode code 245 = .ok (.iload_n 3, 1) := by decide +kernel
theorem d_law_246 : decode code 246 = .ok (.iconst 1, 1) := by decide +kernel
theorem d_law_247 : decode code 247 = .ok (.iadd, 1) := by decide +kernel
theorem d_law_248 : decode code 248 = .ok (.iaload, 1) := by decide +kernel
theorem d_law_249 : decode code 249 = .ok (.invokevirtual 51, 3) := by decide +kernel
theorem d_law_252 : decode code 252 = .ok (.if_icmp .eq 94, 3) := by decide +kernel
theorem d_law_255 : decode code 255 = .ok (.iconst 0, 1) := by decide +kernel
theorem d_law_256 : decode code 256 = .ok (.ireturn, 1) := by decide +kernel
theorem d_law_257 : decode code 257 = .ok (.aload_n 1, 1) := by decide +kernel
theorem d_law_258 : decode code 258 = .ok (.aload_n 0, 1) := by decide +kernel
theorem d_law_259 : decode code 259 = .ok (.iload_n 3, 1) := by decide +kernel
theorem d_law_260 : decode code 260 = .ok (.iconst 1, 1) := by decide +kernel
theorem d_law_261 : decode code 261 = .ok (.iadd, 1) := by decide +kernel
theorem d_law_262 : decode code 262 = .ok (.iaload, 1) := by decide +kernel
theorem d_law_263 : decode code 263 = .ok (.invokevirtual 52, 3) := by decide +kernel
theorem d_law_266 : decode code 266 = .ok (.aload_n 2, 1) := by decide +kernel
theorem d_law_267 : decode code 267 = .ok (.aload_n 0, 1) := by decide +kernel
theorem d_law_268 : decode code 268 = .ok (.iload_n 3, 1) := by decide +kernel
theorem d_law_269 : decode code 269 = .ok (.iconst 1, 1) := by decide +kernel
theorem d_law_270 : decode code 270 = .ok (.iadd, 1) := by decide +kernel
theorem d_law_271 : decode code 271 = .ok (.iaload, 1) := by decide +kernel
theorem d_law_272 : decode code 272 = .ok (.invokevirtual 55, 3) := by decide +kernel
theorem d_law_275 : decode code 275 = .ok (.if_icmp .eq 71, 3) := by decide +kernel
theorem d_law_278 : decode code 278 = .ok (.iconst 0, 1) := by decide +kernel
theorem d_law_279 : decode code 279 = .ok (.ireturn, 1) := by decide +kernel
theorem d_law_280 : decode code 280 = .ok (.aload_n 1, 1) := by decide +kernel
theorem d_law_281 : decode code 281 = .ok (.aload_n 0, 1) := by decide +kernel
theorem d_law_282 : decode code 282 = .ok (.iload_n 3, 1) := by decide +kernel
theorem d_law_283 : decode code 283 = .ok (.iconst 1, 1) := by decide +kernel
theorem d_law_284 : decode code 284 = .ok (.iadd, 1) := by decide +kernel
theorem d_law_285 : decode code 285 = .ok (.iaload, 1) := by decide +kernel
theorem d_law_286 : decode code 286 = .ok (.aload_n 0, 1) := by decide +kernel
theorem d_law_287 : decode code 287 = .ok (.iload_n 3, 1) := by decide +kernel
theorem d_law_288 : decode code 288 = .ok (.iconst 2, 1) := by decide +kernel
theorem d_law_289 : decode code 289 = .ok (.iadd, 1) := by decide +kernel
theorem d_law_290 : decode code 290 = .ok (.iaload, 1) := by decide +kernel
theorem d_law_291 : decode code 291 = .ok (.invokevirtual 56, 3) := by decide +kernel
theorem d_law_294 : decode code 294 = .ok (.aload_n 2, 1) := by decide +kernel
theorem d_law_295 : decode code 295 = .ok (.aload_n 0, 1) := by decide +kernel
theorem d_law_296 : decode code 296 = .ok (.iload_n 3, 1) := by decide +kernel
theorem d_law_297 : decode code 297 = .ok (.iconst 1, 1) := by decide +kernel
theorem d_law_298 : decode code 298 = .ok (.iadd, 1) := by decide +kernel
theorem d_law_299 : decode code 299 = .ok (.iaload, 1) := by decide +kernel
theorem d_law_300 : decode code 300 = .ok (.aload_n 0, 1) := by decide +kernel
theorem d_law_301 : decode code 301 = .ok (.iload_n 3, 1) := by decide +kernel
theorem d_law_302 : decode code 302 = .ok (.iconst 2, 1) := by decide +kernel
theorem d_law_303 : decode code 303 = .ok (.iadd, 1) := by decide +kernel
theorem d_law_304 : decode code 304 = .ok (.iaload, 1) := by decide +kernel
theorem d_law_305 : decode code 305 = .ok (.invokevirtual 60, 3) := by decide +kernel
theorem d_law_308 : decode code 308 = .ok (.if_icmp .eq 38, 3) := by decide +kernel
theorem d_law_311 : decode code 311 = .ok (.iconst 0, 1) := by decide +kernel
theorem d_law_312 : decode code 312 = .ok (.ireturn, 1) := by decide +kernel
theorem d_law_313 : decode code 313 = .ok (.aload_n 1, 1) := by decide +kernel
theorem d_law_314 : decode code 314 = .ok (.aload_n 0, 1) := by decide +kernel
theorem d_law_315 : decode code 315 = .ok (.iload_n 3, 1) := by decide +kernel
theorem d_law_316 : decode code 316 = .ok (.iconst 1, 1) := by decide +kernel
theorem d_law_317 : decode code 317 = .ok (.iadd, 1) := by decide +kernel
theorem d_law_318 : decode code 318 = .ok (.iaload, 1) := by decide +kernel
theorem d_law_319 : decode code 319 = .ok (.aload_n 0, 1) := by decide +kernel
theorem d_law_320 : decode code 320 = .ok (.iload_n 3, 1) := by decide +kernel
theorem d_law_321 : decode code 321 = .ok (.iconst 2, 1) := by decide +kernel
theorem d_law_322 : decode code 322 = .ok (.iadd, 1) := by decide +kernel
theorem d_law_323 : decode code 323 = .ok (.iaload, 1) := by decide +kernel
theorem d_law_324 : decode code 324 = .ok (.invokevirtual 61, 3) := by decide +kernel
theorem d_law_327 : decode code 327 = .ok (.aload_n 2, 1) := by decide +kernel
theorem d_law_328 : decode code 328 = .ok (.aload_n 0, 1) := by decide +kernel
theorem d_law_329 : decode code 329 = .ok (.iload_n 3, 1) := by decide +kernel
theorem d_law_330 : decode code 330 = .ok (.iconst 1, 1) := by decide +kernel
theorem d_law_331 : decode code 331 = .ok (.iadd, 1) := by decide +kernel
theorem d_law_332 : decode code 332 = .ok (.iaload, 1) := by decide +kernel
theorem d_law_333 : decode code 333 = .ok (.aload_n 0, 1) := by decide +kernel
theorem d_law_334 : decode code 334 = .ok (.iload_n 3, 1) := by decide +kernel
theorem d_law_335 : decode code 335 = .ok (.iconst 2, 1) := by decide +kernel
theorem d_law_336 : decode code 336 = .ok (.iadd, 1) := by decide +kernel
theorem d_law_337 : decode code 337 = .ok (.iaload, 1) := by decide +kernel
theorem d_law_338 : decode code 338 = .ok (.invokevirtual 64, 3) := by decide +kernel
theorem d_law_341 : decode code 341 = .ok (.if_icmp .eq 5, 3) := by decide +kernel
theorem d_law_344 : decode code 344 = .ok (.iconst 0, 1) := by decide +kernel
theorem d_law_345 : decode code 345 = .ok (.ireturn, 1) := by decide +kernel
theorem d_law_346 : decode code 346 = .ok (.iinc 3 3, 3) := by decide +kernel
theorem d_law_349 : decode code 349 = .ok (.goto (-321), 3) := by decide +kernel
theorem d_law_352 : decode code 352 = .ok (.iconst 1, 1) := by decide +kernel
theorem d_law_353 : decode code 353 = .ok (.ireturn, 1) := by decide +kernel
end
section
section LY2
variable {p : Program} {l : Launch} {e : Env} {R : Room} {s : State} {m : MethodId} {args : Array Value} {below : List Frame} {meth : Method} {c : Code} {H : Heap} {locs : List Loc} {cells slots : Nat} {Q : State → Prop}
variable {cc : ByteArray} {pc : Nat} {ls : Array Slot} {rest st0 : List Value} {D : va_G} {A : Nat → Prop} {a : Nat} {tys : List (ClassId × FieldType)} {ws : va_W} {H0 : Heap}
theorem gf_St_7 (hx : p.tables.exec = Jvm.exec) (hb : c.code = cc) (hT : ∀ w ∈ lw_g, w.before args s = true) (hown : s.vm.findClass R_St = some m.cls) (hK : va_K D classes tys s) (hP : va_P D classes ws H) (q0 : Nat) {fs : List Value} (he : ws[q0]? = some (a, .inr (1, fs))) {v : Value} (hv : fs[0]? = some v) (hd : decode cc pc = .ok (.getfield 7, 3)) (kk : W p l e R s m args below meth c H locs cells slots Q (F0 m (pc + 3) ls (v :: rest))) : W p l e R s m args below meth c H locs cells slots Q (F0 m pc ls (.ref a :: rest)) :=
  va_get (own := R_St) (ref := "PacketStore$Store") hx hb hT i_St hown hK hP q0 he rfl 0 (by decide) (hT _ tb_1_27) (fun _ h => h) hv hd kk
theorem pf_St_7 (hx : p.tables.exec = Jvm.exec) (hb : c.code = cc) (hT : ∀ w ∈ lw_g, w.before args s = true) (hown : s.vm.findClass R_St = some m.cls) (hK : va_K D classes tys s) (hP : va_P D classes ws H) (hD : va_D A ws) (hS : va_S A H0 H locs) (q0 : Nat) {fs : List Value} {x : Nat} (he : ws[q0]? = some (a, .inr (1, fs))) (hin : meth.name = "<init>") (hl : 0 < fs.length) (hd : decode cc pc = .ok (.putfield 7, 3)) (kk : ∀ (H1 : Heap) (locs1 : List Loc), va_P D classes (ws.set q0 (a, .inr (1, fs.set 0 (.ref x)))) H1 → va_D A (ws.set q0 (a, .inr (1, fs.set 0 (.ref x)))) → va_S A H0 H1 locs1 → W p l e R s m args below meth c H1 locs1 cells slots Q (F0 m (pc + 3) ls rest)) : W p l e R s m args below meth c H locs cells slots Q (F0 m pc ls (.ref x :: .ref a :: rest)) :=
  va_putF (own := R_St) (ref := "PacketStore$Store") (ty := (.array .byte)) hx hb hT i_St t_St t_St_ok n_St hown hK hP hD hS q0 he rfl 0 (by decide) (hT _ tb_1_27) (fun _ h => h) rfl hin rfl (by decide +kernel) rfl rfl hl hd kk
theorem gf_PS_47 (hx : p.tables.exec = Jvm.exec) (hb : c.code = cc) (hT : ∀ w ∈ lw_g, w.before args s = true) (hown : s.vm.findClass R_PS = some m.cls) (hK : va_K D classes tys s) (hP : va_P D classes ws H) (q0 : Nat) {fs : List Value} (he : ws[q0]? = some (a, .inr (1, fs))) {v : Value} (hv : fs[0]? = some v) (hd : decode cc pc = .ok (.getfield 47, 3)) (kk : W p l e R s m args below meth c H locs cells slots Q (F0 m (pc + 3) ls (v :: rest))) : W p l e R s m args below meth c H locs cells slots Q (F0 m pc ls (.ref a :: rest)) :=
  va_getN (own := R_PS) (ref := "PacketStore$Store") (host := R_PS) hx hb hT i_St hown hK hP q0 he rfl 0 (by decide) (hT _ tb_1_28) (fun _ h => h) hv hd kk
theorem gf_St_13 (hx : p.tables.exec = Jvm.exec) (hb : c.code = cc) (hT : ∀ w ∈ lw_g, w.before args s = true) (hown : s.vm.findClass R_St = some m.cls) (hK : va_K D classes tys s) (hP : va_P D classes ws H) (q0 : Nat) {fs : List Value} (he : ws[q0]? = some (a, .inr (1, fs))) {v : Value} (hv : fs[1]? = some v) (hd : decode cc pc = .ok (.getfield 13, 3)) (kk : W p l e R s m args below meth c H locs cells slots Q (F0 m (pc + 3) ls (v :: rest))) : W p l e R s m args below meth c H locs cells slots Q (F0 m pc ls (.ref a :: rest)) :=
  va_get (own := R_St) (ref := "PacketStore$Store") hx hb hT i_St hown hK hP q0 he rfl 1 (by decide) (hT _ tb_1_29) (fun _ h => h) hv hd kk
theorem pf_St_13 (hx : p.tables.exec = Jvm.exec) (hb : c.code = cc) (hT : ∀ w ∈ lw_g, w.before args s = true) (hown : s.vm.findClass R_St = some m.cls) (hK : va_K D classes tys s) (hP : va_P D classes ws H) (hD : va_D A ws) (hS : va_S A H0 H locs) (q0 : Nat) {fs : List Value} {x : Nat} (he : ws[q0]? = some (a, .inr (1, fs))) (hin : meth.name = "<init>") (hl : 1 < fs.length) (hd : decode cc pc = .ok (.putfield 13, 3)) (kk : ∀ (H1 : Heap) (locs1 : List Loc), va_P D classes (ws.set q0 (a, .inr (1, fs.set 1 (.ref x)))) H1 → va_D A (ws.set q0 (a, .inr (1, fs.set 1 (.ref x)))) → va_S A H0 H1 locs1 → W p l e R s m args below meth c H1 locs1 cells slots Q (F0 m (pc + 3) ls rest)) : W p l e R s m args below meth c H locs cells slots Q (F0 m pc ls (.ref x :: .ref a :: rest)) :=
  va_putF (own := R_St) (ref := "PacketStore$Store") (ty := (.array .int)) hx hb hT i_St t_St t_St_ok n_St hown hK hP hD hS q0 he rfl 1 (by decide) (hT _ tb_1_29) (fun _ h => h) rfl hin rfl (by decide +kernel) rfl rfl hl hd kk
theorem gf_St_17 (hx : p.tables.exec = Jvm.exec) (hb : c.code = cc) (hT : ∀ w ∈ lw_g, w.before args s = true) (hown : s.vm.findClass R_St = some m.cls) (hK : va_K D classes tys s) (hP : va_P D classes ws H) (q0 : Nat) {fs : List Value} (he : ws[q0]? = some (a, .inr (1, fs))) {v : Value} (hv : fs[2]? = some v) (hd : decode cc pc = .ok (.getfield 17, 3)) (kk : W p l e R s m args below meth c H locs cells slots Q (F0 m (pc + 3) ls (v :: rest))) : W p l e R s m args below meth c H locs cells slots Q (F0 m pc ls (.ref a :: rest)) :=
  va_get (own := R_St) (ref := "PacketStore$Store") hx hb hT i_St hown hK hP q0 he rfl 2 (by decide) (hT _ tb_1_30) (fun _ h => h) hv hd kk
theorem pf_St_17 (hx : p.tables.exec = Jvm.exec) (hb : c.code = cc) (hT : ∀ w ∈ lw_g, w.before args s = true) (hown : s.vm.findClass R_St = some m.cls) (hK : va_K D classes tys s) (hP : va_P D classes ws H) (hD : va_D A ws) (hS : va_S A H0 H locs) (q0 : Nat) {fs : List Value} {x : Nat} (he : ws[q0]? = some (a, .inr (1, fs))) (hin : meth.name = "<init>") (hl : 2 < fs.length) (hd : decode cc pc = .ok (.putfield 17, 3)) (kk : ∀ (H1 : Heap) (locs1 : List Loc), va_P D classes (ws.set q0 (a, .inr (1, fs.set 2 (.ref x)))) H1 → va_D A (ws.set q0 (a, .inr (1, fs.set 2 (.ref x)))) → va_S A H0 H1 locs1 → W p l e R s m args below meth c H1 locs1 cells slots Q (F0 m (pc + 3) ls rest)) : W p l e R s m args below meth c H locs cells slots Q (F0 m pc ls (.ref x :: .ref a :: rest)) :=
  va_putF (own := R_St) (ref := "PacketStore$Store") (ty := (.array .short)) hx hb hT i_St t_St t_St_ok n_St hown hK hP hD hS q0 he rfl 2 (by decide) (hT _ tb_1_30) (fun _ h => h) rfl hin rfl (by decide +kernel) rfl rfl hl hd kk
theorem gf_Rt_26 (hx : p.tables.exec = Jvm.exec) (hb : c.code = cc) (hT : ∀ w ∈ lw_g, w.before args s = true) (hown : s.vm.findClass R_Rt = some m.cls) (hK : va_K D classes tys s) (hP : va_P D classes ws H) (q0 : Nat) {fs : List Value} (he : ws[q0]? = some (a, .inr (1, fs))) {v : Value} (hv : fs[3]? = some v) (hd : decode cc pc = .ok (.getfield 26, 3)) (kk : W p l e R s m args below meth c H locs cells slots Q (F0 m (pc + 3) ls (v :: rest))) : W p l e R s m args below meth c H locs cells slots Q (F0 m pc ls (.ref a :: rest)) :=
  va_getN (own := R_Rt) (ref := "PacketStore$Store") (host := R_PS) hx hb hT i_St hown hK hP q0 he rfl 3 (by decide) (hT _ tb_1_31) (fun _ h => h) hv hd kk
theorem pf_Rt_26 (hx : p.tables.exec = Jvm.exec) (hb : c.code = cc) (hT : ∀ w ∈ lw_g, w.before args s = true) (hown : s.vm.findClass R_Rt = some m.cls) (hK : va_K D classes tys s) (hP : va_P D classes ws H) (hD : va_D A ws) (hS : va_S A H0 H locs) (q0 : Nat) {fs : List Value} {x : Int32} (he : ws[q0]? = some (a, .inr (1, fs))) (hl : 3 < fs.length) (hd : decode cc pc = .ok (.putfield 26, 3)) (kk : ∀ (H1 : Heap) (locs1 : List Loc), va_P D classes (ws.set q0 (a, .inr (1, fs.set 3 (.int x)))) H1 → va_D A (ws.set q0 (a, .inr (1, fs.set 3 (.int x)))) → va_S A H0 H1 locs1 → W p l e R s m args below meth c H1 locs1 cells slots Q (F0 m (pc + 3) ls rest)) : W p l e R s m args below meth c H locs cells slots Q (F0 m pc ls (.int x :: .ref a :: rest)) :=
  va_putN (own := R_Rt) (ref := "PacketStore$Store") (host := R_PS) (ty := .int) hx hb hT i_St t_St t_St_ok n_St hown hK hP hD hS q0 he rfl 3 (by decide) (hT _ tb_1_31) (fun _ h => h) rfl (by decide +kernel) rfl rfl hl hd kk
theorem gf_St_25 (hx : p.tables.exec = Jvm.exec) (hb : c.code = cc) (hT : ∀ w ∈ lw_g, w.before args s = true) (hown : s.vm.findClass R_St = some m.cls) (hK : va_K D classes tys s) (hP : va_P D classes ws H) (q0 : Nat) {fs : List Value} (he : ws[q0]? = some (a, .inr (1, fs))) {v : Value} (hv : fs[3]? = some v) (hd : decode cc pc = .ok (.getfield 25, 3)) (kk : W p l e R s m args below meth c H locs cells slots Q (F0 m (pc + 3) ls (v :: rest))) : W p l e R s m args below meth c H locs cells slots Q (F0 m pc ls (.ref a :: rest)) :=
  va_get (own := R_St) (ref := "PacketStore$Store") hx hb hT i_St hown hK hP q0 he rfl 3 (by decide) (hT _ tb_1_32) (fun _ h => h) hv hd kk
theorem pf_St_25 (hx : p.tables.exec = Jvm.exec) (hb : c.code = cc) (hT : ∀ w ∈ lw_g, w.before args s = true) (hown : s.vm.findClass R_St = some m.cls) (hK : va_K D classes tys s) (hP : va_P D classes ws H) (hD : va_D A ws) (hS : va_S A H0 H locs) (q0 : Nat) {fs : List Value} {x : Int32} (he : ws[q0]? = some (a, .inr (1, fs))) (hl : 3 < fs.length) (hd : decode cc pc = .ok (.putfield 25, 3)) (kk : ∀ (H1 : Heap) (locs1 : List Loc), va_P D classes (ws.set q0 (a, .inr (1, fs.set 3 (.int x)))) H1 → va_D A (ws.set q0 (a, .inr (1, fs.set 3 (.int x)))) → va_S A H0 H1 locs1 → W p l e R s m args below meth c H1 locs1 cells slots Q (F0 m (pc + 3) ls rest)) : W p l e R s m args below meth c H locs cells slots Q (F0 m pc ls (.int x :: .ref a :: rest)) :=
  va_put (own := R_St) (ref := "PacketStore$Store") (ty := .int) hx hb hT i_St t_St t_St_ok n_St hown hK hP hD hS q0 he rfl 3 (by decide) (hT _ tb_1_32) (fun _ h => h) rfl (by decide +kernel) rfl rfl hl hd kk
theorem gf_PS_97 (hx : p.tables.exec = Jvm.exec) (hb : c.code = cc) (hT : ∀ w ∈ lw_g, w.before args s = true) (hown : s.vm.findClass R_PS = some m.cls) (hK : va_K D classes tys s) (hP : va_P D classes ws H) (q0 : Nat) {fs : List Value} (he : ws[q0]? = some (a, .inr (1, fs))) {v : Value} (hv : fs[3]? = some v) (hd : decode cc pc = .ok (.getfield 97, 3)) (kk : W p l e R s m args below meth c H locs cells slots Q (F0 m (pc + 3) ls (v :: rest))) : W p l e R s m args below meth c H locs cells slots Q (F0 m pc ls (.ref a :: rest)) :=
  va_getN (own := R_PS) (ref := "PacketStore$Store") (host := R_PS) hx hb hT i_St hown hK hP q0 he rfl 3 (by decide) (hT _ tb_1_33) (fun _ h => h) hv hd kk
theorem pf_PS_97 (hx : p.tables.exec = Jvm.exec) (hb : c.code = cc) (hT : ∀ w ∈ lw_g, w.before args s = true) (hown : s.vm.findClass R_PS = some m.cls) (hK : va_K D classes tys s) (hP : va_P D classes ws H) (hD : va_D A ws) (hS : va_S A H0 H locs) (q0 : Nat) {fs : List Value} {x : Int32} (he : ws[q0]? = some (a, .inr (1, fs))) (hl : 3 < fs.length) (hd : decode cc pc = .ok (.putfield 97, 3)) (kk : ∀ (H1 : Heap) (locs1 : List Loc), va_P D classes (ws.set q0 (a, .inr (1, fs.set 3 (.int x)))) H1 → va_D A (ws.set q0 (a, .inr (1, fs.set 3 (.int x)))) → va_S A H0 H1 locs1 → W p l e R s m args below meth c H1 locs1 cells slots Q (F0 m (pc + 3) ls rest)) : W p l e R s m args below meth c H locs cells slots Q (F0 m pc ls (.int x :: .ref a :: rest)) :=
  va_putN (own := R_PS) (ref := "PacketStore$Store") (host := R_PS) (ty := .int) hx hb hT i_St t_St t_St_ok n_St hown hK hP hD hS q0 he rfl 3 (by decide) (hT _ tb_1_33) (fun _ h => h) rfl (by decide +kernel) rfl rfl hl hd kk
theorem gf_St_29 (hx : p.tables.exec = Jvm.exec) (hb : c.code = cc) (hT : ∀ w ∈ lw_g, w.before args s = true) (hown : s.vm.findClass R_St = some m.cls) (hK : va_K D classes tys s) (hP : va_P D classes ws H) (q0 : Nat) {fs : List Value} (he : ws[q0]? = some (a, .inr (1, fs))) {v : Value} (hv : fs[4]? = some v) (hd : decode cc pc = .ok (.getfield 29, 3)) (kk : W p l e R s m args below meth c H locs cells slots Q (F0 m (pc + 3) ls (v :: rest))) : W p l e R s m args below meth c H locs cells slots Q (F0 m pc ls (.ref a :: rest)) :=
  va_get (own := R_St) (ref := "PacketStore$Store") hx hb hT i_St hown hK hP q0 he rfl 4 (by decide) (hT _ tb_1_34) (fun _ h => h) hv hd kk
theorem pf_St_29 (hx : p.tables.exec = Jvm.exec) (hb : c.code = cc) (hT : ∀ w ∈ lw_g, w.before args s = true) (hown : s.vm.findClass R_St = some m.cls) (hK : va_K D classes tys s) (hP : va_P D classes ws H) (hD : va_D A ws) (hS : va_S A H0 H locs) (q0 : Nat) {fs : List Value} {x : Int32} (he : ws[q0]? = some (a, .inr (1, fs))) (hl : 4 < fs.length) (hd : decode cc pc = .ok (.putfield 29, 3)) (kk : ∀ (H1 : Heap) (locs1 : List Loc), va_P D classes (ws.set q0 (a, .inr (1, fs.set 4 (.int x)))) H1 → va_D A (ws.set q0 (a, .inr (1, fs.set 4 (.int x)))) → va_S A H0 H1 locs1 → W p l e R s m args below meth c H1 locs1 cells slots Q (F0 m (pc + 3) ls rest)) : W p l e R s m args below meth c H locs cells slots Q (F0 m pc ls (.int x :: .ref a :: rest)) :=
  va_put (own := R_St) (ref := "PacketStore$Store") (ty := .int) hx hb hT i_St t_St t_St_ok n_St hown hK hP hD hS q0 he rfl 4 (by decide) (hT _ tb_1_34) (fun _ h => h) rfl (by decide +kernel) rfl rfl hl hd kk
theorem gf_PS_82 (hx : p.tables.exec = Jvm.exec) (hb : c.code = cc) (hT : ∀ w ∈ lw_g, w.before args s = true) (hown : s.vm.findClass R_PS = some m.cls) (hK : va_K D classes tys s) (hP : va_P D classes ws H) (q0 : Nat) {fs : List Value} (he : ws[q0]? = some (a, .inr (1, fs))) {v : Value} (hv : fs[4]? = some v) (hd : decode cc pc = .ok (.getfield 82, 3)) (kk : W p l e R s m args below meth c H locs cells slots Q (F0 m (pc + 3) ls (v :: rest))) : W p l e R s m args below meth c H locs cells slots Q (F0 m pc ls (.ref a :: rest)) :=
  va_getN (own := R_PS) (ref := "PacketStore$Store") (host := R_PS) hx hb hT i_St hown hK hP q0 he rfl 4 (by decide) (hT _ tb_1_35) (fun _ h => h) hv hd kk
theorem pf_PS_82 (hx : p.tables.exec = Jvm.exec) (hb : c.code = cc) (hT : ∀ w ∈ lw_g, w.before args s = true) (hown : s.vm.findClass R_PS = some m.cls) (hK : va_K D classes tys s) (hP : va_P D classes ws H) (hD : va_D A ws) (hS : va_S A H0 H locs) (q0 : Nat) {fs : List Value} {x : Int32} (he : ws[q0]? = some (a, .inr (1, fs))) (hl : 4 < fs.length) (hd : decode cc pc = .ok (.putfield 82, 3)) (kk : ∀ (H1 : Heap) (locs1 : List Loc), va_P D classes (ws.set q0 (a, .inr (1, fs.set 4 (.int x)))) H1 → va_D A (ws.set q0 (a, .inr (1, fs.set 4 (.int x)))) → va_S A H0 H1 locs1 → W p l e R s m args below meth c H1 locs1 cells slots Q (F0 m (pc + 3) ls rest)) : W p l e R s m args below meth c H locs cells slots Q (F0 m pc ls (.int x :: .ref a :: rest)) :=
  va_putN (own := R_PS) (ref := "PacketStore$Store") (host := R_PS) (ty := .int) hx hb hT i_St t_St t_St_ok n_St hown hK hP hD hS q0 he rfl 4 (by decide) (hT _ tb_1_35) (fun _ h => h) rfl (by decide +kernel) rfl rfl hl hd kk
theorem gf_St_35 (hx : p.tables.exec = Jvm.exec) (hb : c.code = cc) (hT : ∀ w ∈ lw_g, w.before args s = true) (hown : s.vm.findClass R_St = some m.cls) (hK : va_K D classes tys s) (hP : va_P D classes ws H) (q0 : Nat) {fs : List Value} (he : ws[q0]? = some (a, .inr (1, fs))) {v : Value} (hv : fs[5]? = some v) (hd : decode cc pc = .ok (.getfield 35, 3)) (kk : W p l e R s m args below meth c H locs cells slots Q (F0 m (pc + 3) ls (v :: rest))) : W p l e R s m args below meth c H locs cells slots Q (F0 m pc ls (.ref a :: rest)) :=
  va_get (own := R_St) (ref := "PacketStore$Store") hx hb hT i_St hown hK hP q0 he rfl 5 (by decide) (hT _ tb_1_36) (fun _ h => h) hv hd kk
theorem pf_St_35 (hx : p.tables.exec = Jvm.exec) (hb : c.code = cc) (hT : ∀ w ∈ lw_g, w.before args s = true) (hown : s.vm.findClass R_St = some m.cls) (hK : va_K D classes tys s) (hP : va_P D classes ws H) (hD : va_D A ws) (hS : va_S A H0 H locs) (q0 : Nat) {fs : List Value} {x : Int32} (he : ws[q0]? = some (a, .inr (1, fs))) (hl : 5 < fs.length) (hd : decode cc pc = .ok (.putfield 35, 3)) (kk : ∀ (H1 : Heap) (locs1 : List Loc), va_P D classes (ws.set q0 (a, .inr (1, fs.set 5 (.int x)))) H1 → va_D A (ws.set q0 (a, .inr (1, fs.set 5 (.int x)))) → va_S A H0 H1 locs1 → W p l e R s m args below meth c H1 locs1 cells slots Q (F0 m (pc + 3) ls rest)) : W p l e R s m args below meth c H locs cells slots Q (F0 m pc ls (.int x :: .ref a :: rest)) :=
  va_put (own := R_St) (ref := "PacketStore$Store") (ty := .int) hx hb hT i_St t_St t_St_ok n_St hown hK hP hD hS q0 he rfl 5 (by decide) (hT _ tb_1_36) (fun _ h => h) rfl (by decide +kernel) rfl rfl hl hd kk
theorem gf_St_38 (hx : p.tables.exec = Jvm.exec) (hb : c.code = cc) (hT : ∀ w ∈ lw_g, w.before args s = true) (hown : s.vm.findClass R_St = some m.cls) (hK : va_K D classes tys s) (hP : va_P D classes ws H) (q0 : Nat) {fs : List Value} (he : ws[q0]? = some (a, .inr (1, fs))) {v : Value} (hv : fs[6]? = some v) (hd : decode cc pc = .ok (.getfield 38, 3)) (kk : W p l e R s m args below meth c H locs cells slots Q (F0 m (pc + 3) ls (v :: rest))) : W p l e R s m args below meth c H locs cells slots Q (F0 m pc ls (.ref a :: rest)) :=
  va_get (own := R_St) (ref := "PacketStore$Store") hx hb hT i_St hown hK hP q0 he rfl 6 (by decide) (hT _ tb_1_37) (fun _ h => h) hv hd kk
theorem pf_St_38 (hx : p.tables.exec = Jvm.exec) (hb : c.code = cc) (hT : ∀ w ∈ lw_g, w.before args s = true) (hown : s.vm.findClass R_St = some m.cls) (hK : va_K D classes tys s) (hP : va_P D classes ws H) (hD : va_D A ws) (hS : va_S A H0 H locs) (q0 : Nat) {fs : List Value} {x : Int32} (he : ws[q0]? = some (a, .inr (1, fs))) (hl : 6 < fs.length) (hd : decode cc pc = .ok (.putfield 38, 3)) (kk : ∀ (H1 : Heap) (locs1 : List Loc), va_P D classes (ws.set q0 (a, .inr (1, fs.set 6 (.int x)))) H1 → va_D A (ws.set q0 (a, .inr (1, fs.set 6 (.int x)))) → va_S A H0 H1 locs1 → W p l e R s m args below meth c H1 locs1 cells slots Q (F0 m (pc + 3) ls rest)) : W p l e R s m args below meth c H locs cells slots Q (F0 m pc ls (.int x :: .ref a :: rest)) :=
  va_put (own := R_St) (ref := "PacketStore$Store") (ty := .int) hx hb hT i_St t_St t_St_ok n_St hown hK hP hD hS q0 he rfl 6 (by decide) (hT _ tb_1_37) (fun _ h => h) rfl (by decide +kernel) rfl rfl hl hd kk
theorem gf_PS_85 (hx : p.tables.exec = Jvm.exec) (hb : c.code = cc) (hT : ∀ w ∈ lw_g, w.before args s = true) (hown : s.vm.findClass R_PS = some m.cls) (hK : va_K D classes tys s) (hP : va_P D classes ws H) (q0 : Nat) {fs : List Value} (he : ws[q0]? = some (a, .inr (1, fs))) {v : Value} (hv : fs[6]? = some v) (hd : decode cc pc = .ok (.getfield 85, 3)) (kk : W p l e R s m args below meth c H locs cells slots Q (F0 m (pc + 3) ls (v :: rest))) : W p l e R s m args below meth c H locs cells slots Q (F0 m pc ls (.ref a :: rest)) :=
  va_getN (own := R_PS) (ref := "PacketStore$Store") (host := R_PS) hx hb hT i_St hown hK hP q0 he rfl 6 (by decide) (hT _ tb_1_38) (fun _ h => h) hv hd kk
theorem pf_PS_85 (hx : p.tables.exec = Jvm.exec) (hb : c.code = cc) (hT : ∀ w ∈ lw_g, w.before args s = true) (hown : s.vm.findClass R_PS = some m.cls) (hK : va_K D classes tys s) (hP : va_P D classes ws H) (hD : va_D A ws) (hS : va_S A H0 H locs) (q0 : Nat) {fs : List Value} {x : Int32} (he : ws[q0]? = some (a, .inr (1, fs))) (hl : 6 < fs.length) (hd : decode cc pc = .ok (.putfield 85, 3)) (kk : ∀ (H1 : Heap) (locs1 : List Loc), va_P D classes (ws.set q0 (a, .inr (1, fs.set 6 (.int x)))) H1 → va_D A (ws.set q0 (a, .inr (1, fs.set 6 (.int x)))) → va_S A H0 H1 locs1 → W p l e R s m args below meth c H1 locs1 cells slots Q (F0 m (pc + 3) ls rest)) : W p l e R s m args below meth c H locs cells slots Q (F0 m pc ls (.int x :: .ref a :: rest)) :=
  va_putN (own := R_PS) (ref := "PacketStore$Store") (host := R_PS) (ty := .int) hx hb hT i_St t_St t_St_ok n_St hown hK hP hD hS q0 he rfl 6 (by decide) (hT _ tb_1_38) (fun _ h => h) rfl (by decide +kernel) rfl rfl hl hd kk
theorem gf_St_44 (hx : p.tables.exec = Jvm.exec) (hb : c.code = cc) (hT : ∀ w ∈ lw_g, w.before args s = true) (hown : s.vm.findClass R_St = some m.cls) (hK : va_K D classes tys s) (hP : va_P D classes ws H) (q0 : Nat) {fs : List Value} (he : ws[q0]? = some (a, .inr (1, fs))) {v : Value} (hv : fs[7]? = some v) (hd : decode cc pc = .ok (.getfield 44, 3)) (kk : W p l e R s m args below meth c H locs cells slots Q (F0 m (pc + 3) ls (v :: rest))) : W p l e R s m args below meth c H locs cells slots Q (F0 m pc ls (.ref a :: rest)) :=
  va_get (own := R_St) (ref := "PacketStore$Store") hx hb hT i_St hown hK hP q0 he rfl 7 (by decide) (hT _ tb_1_39) (fun _ h => h) hv hd kk
theorem pf_St_44 (hx : p.tables.exec = Jvm.exec) (hb : c.code = cc) (hT : ∀ w ∈ lw_g, w.before args s = true) (hown : s.vm.findClass R_St = some m.cls) (hK : va_K D classes tys s) (hP : va_P D classes ws H) (hD : va_D A ws) (hS : va_S A H0 H locs) (q0 : Nat) {fs : List Value} {x : Int32} (he : ws[q0]? = some (a, .inr (1, fs))) (hl : 7 < fs.length) (hd : decode cc pc = .ok (.putfield 44, 3)) (kk : ∀ (H1 : Heap) (locs1 : List Loc), va_P D classes (ws.set q0 (a, .inr (1, fs.set 7 (.int x)))) H1 → va_D A (ws.set q0 (a, .inr (1, fs.set 7 (.int x)))) → va_S A H0 H1 locs1 → W p l e R s m args below meth c H1 locs1 cells slots Q (F0 m (pc + 3) ls rest)) : W p l e R s m args below meth c H locs cells slots Q (F0 m pc ls (.int x :: .ref a :: rest)) :=
  va_put (own := R_St) (ref := "PacketStore$Store") (ty := .int) hx hb hT i_St t_St t_St_ok n_St hown hK hP hD hS q0 he rfl 7 (by decide) (hT _ tb_1_39) (fun _ h => h) rfl (by decide +kernel) rfl rfl hl hd kk
theorem gf_PS_91 (hx : p.tables.exec = Jvm.exec) (hb : c.code = cc) (hT : ∀ w ∈ lw_g, w.before args s = true) (hown : s.vm.findClass R_PS = some m.cls) (hK : va_K D classes tys s) (hP : va_P D classes ws H) (q0 : Nat) {fs : List Value} (he : ws[q0]? = some (a, .inr (1, fs))) {v : Value} (hv : fs[7]? = some v) (hd : decode cc pc = .ok (.getfield 91, 3)) (kk : W p l e R s m args below meth c H locs cells slots Q (F0 m (pc + 3) ls (v :: rest))) : W p l e R s m args below meth c H locs cells slots Q (F0 m pc ls (.ref a :: rest)) :=
  va_getN (own := R_PS) (ref := "PacketStore$Store") (host := R_PS) hx hb hT i_St hown hK hP q0 he rfl 7 (by decide) (hT _ tb_1_40) (fun _ h => h) hv hd kk
theorem pf_PS_91 (hx : p.tables.exec = Jvm.exec) (hb : c.code = cc) (hT : ∀ w ∈ lw_g, w.before args s = true) (hown : s.vm.findClass R_PS = some m.cls) (hK : va_K D classes tys s) (hP : va_P D classes ws H) (hD : va_D A ws) (hS : va_S A H0 H locs) (q0 : Nat) {fs : List Value} {x : Int32} (he : ws[q0]? = some (a, .inr (1, fs))) (hl : 7 < fs.length) (hd : decode cc pc = .ok (.putfield 91, 3)) (kk : ∀ (H1 : Heap) (locs1 : List Loc), va_P D classes (ws.set q0 (a, .inr (1, fs.set 7 (.int x)))) H1 → va_D A (ws.set q0 (a, .inr (1, fs.set 7 (.int x)))) → va_S A H0 H1 locs1 → W p l e R s m args below meth c H1 locs1 cells slots Q (F0 m (pc + 3) ls rest)) : W p l e R s m args below meth c H locs cells slots Q (F0 m pc ls (.int x :: .ref a :: rest)) :=
  va_putN (own := R_PS) (ref := "PacketStore$Store") (host := R_PS) (ty := .int) hx hb hT i_St t_St t_St_ok n_St hown hK hP hD hS q0 he rfl 7 (by decide) (hT _ tb_1_40) (fun _ h => h) rfl (by decide +kernel) rfl rfl hl hd kk
theorem gf_St_66 (hx : p.tables.exec = Jvm.exec) (hb : c.code = cc) (hT : ∀ w ∈ lw_g, w.before args s = true) (hown : s.vm.findClass R_St = some m.cls) (hK : va_K D classes tys s) (hP : va_P D classes ws H) (q0 : Nat) {fs : List Value} (he : ws[q0]? = some (a, .inr (1, fs))) {v : Value} (hv : fs[8]? = some v) (hd : decode cc pc = .ok (.getfield 66, 3)) (kk : W p l e R s m args below meth c H locs cells slots Q (F0 m (pc + 3) ls (v :: rest))) : W p l e R s m args below meth c H locs cells slots Q (F0 m pc ls (.ref a :: rest)) :=
  va_get (own := R_St) (ref := "PacketStore$Store") hx hb hT i_St hown hK hP q0 he rfl 8 (by decide) (hT _ tb_1_41) (fun _ h => h) hv hd kk
theorem pf_St_66 (hx : p.tables.exec = Jvm.exec) (hb : c.code = cc) (hT : ∀ w ∈ lw_g, w.before args s = true) (hown : s.vm.findClass R_St = some m.cls) (hK : va_K D classes tys s) (hP : va_P D classes ws H) (hD : va_D A ws) (hS : va_S A H0 H locs) (q0 : Nat) {fs : List Value} {x : Int32} (he : ws[q0]? = some (a, .inr (1, fs))) (hl : 8 < fs.length) (hd : decode cc pc = .ok (.putfield 66, 3)) (kk : ∀ (H1 : Heap) (locs1 : List Loc), va_P D classes (ws.set q0 (a, .inr (1, fs.set 8 (.int x)))) H1 → va_D A (ws.set q0 (a, .inr (1, fs.set 8 (.int x)))) → va_S A H0 H1 locs1 → W p l e R s m args below meth c H1 locs1 cells slots Q (F0 m (pc + 3) ls rest)) : W p l e R s m args below meth c H locs cells slots Q (F0 m pc ls (.int x :: .ref a :: rest)) :=
  va_put (own := R_St) (ref := "PacketStore$Store") (ty := .int) hx hb hT i_St t_St t_St_ok n_St hown hK hP hD hS q0 he rfl 8 (by decide) (hT _ tb_1_41) (fun _ h => h) rfl (by decide +kernel) rfl rfl hl hd kk
theorem gf_PS_94 (hx : p.tables.exec = Jvm.exec) (hb : c.code = cc) (hT : ∀ w ∈ lw_g, w.before args s = true) (hown : s.vm.findClass R_PS = some m.cls) (hK : va_K D classes tys s) (hP : va_P D classes ws H) (q0 : Nat) {fs : List Value} (he : ws[q0]? = some (a, .inr (1, fs))) {v : Value} (hv : fs[8]? = some v) (hd : decode cc pc = .ok (.getfield 94, 3)) (kk : W p l e R s m args below meth c H locs cells slots Q (F0 m (pc + 3) ls (v :: rest))) : W p l e R s m args below meth c H locs cells slots Q (F0 m pc ls (.ref a :: rest)) :=
  va_getN (own := R_PS) (ref := "PacketStore$Store") (host := R_PS) hx hb hT i_St hown hK hP q0 he rfl 8 (by decide) (hT _ tb_1_42) (fun _ h => h) hv hd kk
theorem pf_PS_94 (hx : p.tables.exec = Jvm.exec) (hb : c.code = cc) (hT : ∀ w ∈ lw_g, w.before args s = true) (hown : s.vm.findClass R_PS = some m.cls) (hK : va_K D classes tys s) (hP : va_P D classes ws H) (hD : va_D A ws) (hS : va_S A H0 H locs) (q0 : Nat) {fs : List Value} {x : Int32} (he : ws[q0]? = some (a, .inr (1, fs))) (hl : 8 < fs.length) (hd : decode cc pc = .ok (.putfield 94, 3)) (kk : ∀ (H1 : Heap) (locs1 : List Loc), va_P D classes (ws.set q0 (a, .inr (1, fs.set 8 (.int x)))) H1 → va_D A (ws.set q0 (a, .inr (1, fs.set 8 (.int x)))) → va_S A H0 H1 locs1 → W p l e R s m args below meth c H1 locs1 cells slots Q (F0 m (pc + 3) ls rest)) : W p l e R s m args below meth c H locs cells slots Q (F0 m pc ls (.int x :: .ref a :: rest)) :=
  va_putN (own := R_PS) (ref := "PacketStore$Store") (host := R_PS) (ty := .int) hx hb hT i_St t_St t_St_ok n_St hown hK hP hD hS q0 he rfl 8 (by decide) (hT _ tb_1_42) (fun _ h => h) rfl (by decide +kernel) rfl rfl hl hd kk
theorem gf_Rt_9 (hx : p.tables.exec = Jvm.exec) (hb : c.code = cc) (hT : ∀ w ∈ lw_g, w.before args s = true) (hown : s.vm.findClass R_Rt = some m.cls) (hK : va_K D classes tys s) (hP : va_P D classes ws H) (q0 : Nat) {fs : List Value} (he : ws[q0]? = some (a, .inr (2, fs))) {v : Value} (hv : fs[0]? = some v) (hd : decode cc pc = .ok (.getfield 9, 3)) (kk : W p l e R s m args below meth c H locs cells slots Q (F0 m (pc + 3) ls (v :: rest))) : W p l e R s m args below meth c H locs cells slots Q (F0 m pc ls (.ref a :: rest)) :=
  va_get (own := R_Rt) (ref := "PacketStore$Retrieval") hx hb hT i_Rt hown hK hP q0 he rfl 0 (by decide) (hT _ tb_1_71) (fun _ h => h) hv hd kk
theorem pf_Rt_9 (hx : p.tables.exec = Jvm.exec) (hb : c.code = cc) (hT : ∀ w ∈ lw_g, w.before args s = true) (hown : s.vm.findClass R_Rt = some m.cls) (hK : va_K D classes tys s) (hP : va_P D classes ws H) (hD : va_D A ws) (hS : va_S A H0 H locs) (q0 : Nat) {fs : List Value} {x : Nat} (he : ws[q0]? = some (a, .inr (2, fs))) (hin : meth.name = "<init>") (hl : 0 < fs.length) (hd : decode cc pc = .ok (.putfield 9, 3)) (kk : ∀ (H1 : Heap) (locs1 : List Loc), va_P D classes (ws.set q0 (a, .inr (2, fs.set 0 (.ref x)))) H1 → va_D A (ws.set q0 (a, .inr (2, fs.set 0 (.ref x)))) → va_S A H0 H1 locs1 → W p l e R s m args below meth c H1 locs1 cells slots Q (F0 m (pc + 3) ls rest)) : W p l e R s m args below meth c H locs cells slots Q (F0 m pc ls (.ref x :: .ref a :: rest)) :=
  va_putF (own := R_Rt) (ref := "PacketStore$Retrieval") (ty := (.object "PacketStore$Store")) hx hb hT i_Rt t_Rt t_Rt_ok n_Rt hown hK hP hD hS q0 he rfl 0 (by decide) (hT _ tb_1_71) (fun _ h => h) rfl hin rfl (by decide +kernel) rfl rfl hl hd kk
theorem gf_Rt_15 (hx : p.tables.exec = Jvm.exec) (hb : c.code = cc) (hT : ∀ w ∈ lw_g, w.before args s = true) (hown : s.vm.findClass R_Rt = some m.cls) (hK : va_K D classes tys s) (hP : va_P D classes ws H) (q0 : Nat) {fs : List Value} (he : ws[q0]? = some (a, .inr (2, fs))) {v : Value} (hv : fs[1]? = some v) (hd : decode cc pc = .ok (.getfield 15, 3)) (kk : W p l e R s m args below meth c H locs cells slots Q (F0 m (pc + 3) ls (v :: rest))) : W p l e R s m args below meth c H locs cells slots Q (F0 m pc ls (.ref a :: rest)) :=
  va_get (own := R_Rt) (ref := "PacketStore$Retrieval") hx hb hT i_Rt hown hK hP q0 he rfl 1 (by decide) (hT _ tb_1_72) (fun _ h => h) hv hd kk
theorem pf_Rt_15 (hx : p.tables.exec = Jvm.exec) (hb : c.code = cc) (hT : ∀ w ∈ lw_g, w.before args s = true) (hown : s.vm.findClass R_Rt = some m.cls) (hK : va_K D classes tys s) (hP : va_P D classes ws H) (hD : va_D A ws) (hS : va_S A H0 H locs) (q0 : Nat) {fs : List Value} {x : Int32} (he : ws[q0]? = some (a, .inr (2, fs))) (hz : narrow .boolean (.int x) = .int x) (hz2 : fits .boolean (.int x) = true) (hl : 1 < fs.length) (hd : decode cc pc = .ok (.putfield 15, 3)) (kk : ∀ (H1 : Heap) (locs1 : List Loc), va_P D classes (ws.set q0 (a, .inr (2, fs.set 1 (.int x)))) H1 → va_D A (ws.set q0 (a, .inr (2, fs.set 1 (.int x)))) → va_S A H0 H1 locs1 → W p l e R s m args below meth c H1 locs1 cells slots Q (F0 m (pc + 3) ls rest)) : W p l e R s m args below meth c H locs cells slots Q (F0 m pc ls (.int x :: .ref a :: rest)) :=
  va_put (own := R_Rt) (ref := "PacketStore$Retrieval") (ty := .boolean) hx hb hT i_Rt t_Rt t_Rt_ok n_Rt hown hK hP hD hS q0 he rfl 1 (by decide) (hT _ tb_1_72) (fun _ h => h) rfl (by decide +kernel) hz hz2 hl hd kk
theorem gf_PS_58 (hx : p.tables.exec = Jvm.exec) (hb : c.code = cc) (hT : ∀ w ∈ lw_g, w.before args s = true) (hown : s.vm.findClass R_PS = some m.cls) (hK : va_K D classes tys s) (hP : va_P D classes ws H) (q0 : Nat) {fs : List Value} (he : ws[q0]? = some (a, .inr (2, fs))) {v : Value} (hv : fs[1]? = some v) (hd : decode cc pc = .ok (.getfield 58, 3)) (kk : W p l e R s m args below meth c H locs cells slots Q (F0 m (pc + 3) ls (v :: rest))) : W p l e R s m args below meth c H locs cells slots Q (F0 m pc ls (.ref a :: rest)) :=
  va_getN (own := R_PS) (ref := "PacketStore$Retrieval") (host := R_PS) hx hb hT i_Rt hown hK hP q0 he rfl 1 (by decide) (hT _ tb_1_73) (fun _ h => h) hv hd kk
theorem pf_PS_58 (hx : p.tables.exec = Jvm.exec) (hb : c.code = cc) (hT : ∀ w ∈ lw_g, w.before args s = true) (hown : s.vm.findClass R_PS = some m.cls) (hK : va_K D classes tys s) (hP : va_P D classes ws H) (hD : va_D A ws) (hS : va_S A H0 H locs) (q0 : Nat) {fs : List Value} {x : Int32} (he : ws[q0]? = some (a, .inr (2, fs))) (hz : narrow .boolean (.int x) = .int x) (hz2 : fits .boolean (.int x) = true) (hl : 1 < fs.length) (hd : decode cc pc = .ok (.putfield 58, 3)) (kk : ∀ (H1 : Heap) (locs1 : List Loc), va_P D classes (ws.set q0 (a, .inr (2, fs.set 1 (.int x)))) H1 → va_D A (ws.set q0 (a, .inr (2, fs.set 1 (.int x)))) → va_S A H0 H1 locs1 → W p l e R s m args below meth c H1 locs1 cells slots Q (F0 m (pc + 3) ls rest)) : W p l e R s m args below meth c H locs cells slots Q (F0 m pc ls (.int x :: .ref a :: rest)) :=
  va_putN (own := R_PS) (ref := "PacketStore$Retrieval") (host := R_PS) (ty := .boolean) hx hb hT i_Rt t_Rt t_Rt_ok n_Rt hown hK hP hD hS q0 he rfl 1 (by decide) (hT _ tb_1_73) (fun _ h => h) rfl (by decide +kernel) hz hz2 hl hd kk
theorem gf_Rt_19 (hx : p.tables.exec = Jvm.exec) (hb : c.code = cc) (hT : ∀ w ∈ lw_g, w.before args s = true) (hown : s.vm.findClass R_Rt = some m.cls) (hK : va_K D classes tys s) (hP : va_P D classes ws H) (q0 : Nat) {fs : List Value} (he : ws[q0]? = some (a, .inr (2, fs))) {v : Value} (hv : fs[2]? = some v) (hd : decode cc pc = .ok (.getfield 19, 3)) (kk : W p l e R s m args below meth c H locs cells slots Q (F0 m (pc + 3) ls (v :: rest))) : W p l e R s m args below meth c H locs cells slots Q (F0 m pc ls (.ref a :: rest)) :=
  va_get (own := R_Rt) (ref := "PacketStore$Retrieval") hx hb hT i_Rt hown hK hP q0 he rfl 2 (by decide) (hT _ tb_1_74) (fun _ h => h) hv hd kk
theorem pf_Rt_19 (hx : p.tables.exec = Jvm.exec) (hb : c.code = cc) (hT : ∀ w ∈ lw_g, w.before args s = true) (hown : s.vm.findClass R_Rt = some m.cls) (hK : va_K D classes tys s) (hP : va_P D classes ws H) (hD : va_D A ws) (hS : va_S A H0 H locs) (q0 : Nat) {fs : List Value} {x : Int32} (he : ws[q0]? = some (a, .inr (2, fs))) (hl : 2 < fs.length) (hd : decode cc pc = .ok (.putfield 19, 3)) (kk : ∀ (H1 : Heap) (locs1 : List Loc), va_P D classes (ws.set q0 (a, .inr (2, fs.set 2 (.int x)))) H1 → va_D A (ws.set q0 (a, .inr (2, fs.set 2 (.int x)))) → va_S A H0 H1 locs1 → W p l e R s m args below meth c H1 locs1 cells slots Q (F0 m (pc + 3) ls rest)) : W p l e R s m args below meth c H locs cells slots Q (F0 m pc ls (.int x :: .ref a :: rest)) :=
  va_put (own := R_Rt) (ref := "PacketStore$Retrieval") (ty := .int) hx hb hT i_Rt t_Rt t_Rt_ok n_Rt hown hK hP hD hS q0 he rfl 2 (by decide) (hT _ tb_1_74) (fun _ h => h) rfl (by decide +kernel) rfl rfl hl hd kk
theorem gf_Rt_23 (hx : p.tables.exec = Jvm.exec) (hb : c.code = cc) (hT : ∀ w ∈ lw_g, w.before args s = true) (hown : s.vm.findClass R_Rt = some m.cls) (hK : va_K D classes tys s) (hP : va_P D classes ws H) (q0 : Nat) {fs : List Value} (he : ws[q0]? = some (a, .inr (2, fs))) {v : Value} (hv : fs[3]? = some v) (hd : decode cc pc = .ok (.getfield 23, 3)) (kk : W p l e R s m args below meth c H locs cells slots Q (F0 m (pc + 3) ls (v :: rest))) : W p l e R s m args below meth c H locs cells slots Q (F0 m pc ls (.ref a :: rest)) :=
  va_get (own := R_Rt) (ref := "PacketStore$Retrieval") hx hb hT i_Rt hown hK hP q0 he rfl 3 (by decide) (hT _ tb_1_75) (fun _ h => h) hv hd kk
theorem pf_Rt_23 (hx : p.tables.exec = Jvm.exec) (hb : c.code = cc) (hT : ∀ w ∈ lw_g, w.before args s = true) (hown : s.vm.findClass R_Rt = some m.cls) (hK : va_K D classes tys s) (hP : va_P D classes ws H) (hD : va_D A ws) (hS : va_S A H0 H locs) (q0 : Nat) {fs : List Value} {x : Int32} (he : ws[q0]? = some (a, .inr (2, fs))) (hl : 3 < fs.length) (hd : decode cc pc = .ok (.putfield 23, 3)) (kk : ∀ (H1 : Heap) (locs1 : List Loc), va_P D classes (ws.set q0 (a, .inr (2, fs.set 3 (.int x)))) H1 → va_D A (ws.set q0 (a, .inr (2, fs.set 3 (.int x)))) → va_S A H0 H1 locs1 → W p l e R s m args below meth c H1 locs1 cells slots Q (F0 m (pc + 3) ls rest)) : W p l e R s m args below meth c H locs cells slots Q (F0 m pc ls (.int x :: .ref a :: rest)) :=
  va_put (own := R_Rt) (ref := "PacketStore$Retrieval") (ty := .int) hx hb hT i_Rt t_Rt t_Rt_ok n_Rt hown hK hP hD hS q0 he rfl 3 (by decide) (hT _ tb_1_75) (fun _ h => h) rfl (by decide +kernel) rfl rfl hl hd kk
theorem gf_Rt_31 (hx : p.tables.exec = Jvm.exec) (hb : c.code = cc) (hT : ∀ w ∈ lw_g, w.before args s = true) (hown : s.vm.findClass R_Rt = some m.cls) (hK : va_K D classes tys s) (hP : va_P D classes ws H) (q0 : Nat) {fs : List Value} (he : ws[q0]? = some (a, .inr (2, fs))) {v : Value} (hv : fs[4]? = some v) (hd : decode cc pc = .ok (.getfield 31, 3)) (kk : W p l e R s m args below meth c H locs cells slots Q (F0 m (pc + 3) ls (v :: rest))) : W p l e R s m args below meth c H locs cells slots Q (F0 m pc ls (.ref a :: rest)) :=
  va_get (own := R_Rt) (ref := "PacketStore$Retrieval") hx hb hT i_Rt hown hK hP q0 he rfl 4 (by decide) (hT _ tb_1_76) (fun _ h => h) hv hd kk
theorem pf_Rt_31 (hx : p.tables.exec = Jvm.exec) (hb : c.code = cc) (hT : ∀ w ∈ lw_g, w.before args s = true) (hown : s.vm.findClass R_Rt = some m.cls) (hK : va_K D classes tys s) (hP : va_P D classes ws H) (hD : va_D A ws) (hS : va_S A H0 H locs) (q0 : Nat) {fs : List Value} {x : Int32} (he : ws[q0]? = some (a, .inr (2, fs))) (hl : 4 < fs.length) (hd : decode cc pc = .ok (.putfield 31, 3)) (kk : ∀ (H1 : Heap) (locs1 : List Loc), va_P D classes (ws.set q0 (a, .inr (2, fs.set 4 (.int x)))) H1 → va_D A (ws.set q0 (a, .inr (2, fs.set 4 (.int x)))) → va_S A H0 H1 locs1 → W p l e R s m args below meth c H1 locs1 cells slots Q (F0 m (pc + 3) ls rest)) : W p l e R s m args below meth c H locs cells slots Q (F0 m pc ls (.int x :: .ref a :: rest)) :=
  va_put (own := R_Rt) (ref := "PacketStore$Retrieval") (ty := .int) hx hb hT i_Rt t_Rt t_Rt_ok n_Rt hown hK hP hD hS q0 he rfl 4 (by decide) (hT _ tb_1_76) (fun _ h => h) rfl (by decide +kernel) rfl rfl hl hd kk
theorem gf_PS_79 (hx : p.tables.exec = Jvm.exec) (hb : c.code = cc) (hT : ∀ w ∈ lw_g, w.before args s = true) (hown : s.vm.findClass R_PS = some m.cls) (hK : va_K D classes tys s) (hP : va_P D classes ws H) (q0 : Nat) {fs : List Value} (he : ws[q0]? = some (a, .inr (2, fs))) {v : Value} (hv : fs[4]? = some v) (hd : decode cc pc = .ok (.getfield 79, 3)) (kk : W p l e R s m args below meth c H locs cells slots Q (F0 m (pc + 3) ls (v :: rest))) : W p l e R s m args below meth c H locs cells slots Q (F0 m pc ls (.ref a :: rest)) :=
  va_getN (own := R_PS) (ref := "PacketStore$Retrieval") (host := R_PS) hx hb hT i_Rt hown hK hP q0 he rfl 4 (by decide) (hT _ tb_1_77) (fun _ h => h) hv hd kk
theorem pf_PS_79 (hx : p.tables.exec = Jvm.exec) (hb : c.code = cc) (hT : ∀ w ∈ lw_g, w.before args s = true) (hown : s.vm.findClass R_PS = some m.cls) (hK : va_K D classes tys s) (hP : va_P D classes ws H) (hD : va_D A ws) (hS : va_S A H0 H locs) (q0 : Nat) {fs : List Value} {x : Int32} (he : ws[q0]? = some (a, .inr (2, fs))) (hl : 4 < fs.length) (hd : decode cc pc = .ok (.putfield 79, 3)) (kk : ∀ (H1 : Heap) (locs1 : List Loc), va_P D classes (ws.set q0 (a, .inr (2, fs.set 4 (.int x)))) H1 → va_D A (ws.set q0 (a, .inr (2, fs.set 4 (.int x)))) → va_S A H0 H1 locs1 → W p l e R s m args below meth c H1 locs1 cells slots Q (F0 m (pc + 3) ls rest)) : W p l e R s m args below meth c H locs cells slots Q (F0 m pc ls (.int x :: .ref a :: rest)) :=
  va_putN (own := R_PS) (ref := "PacketStore$Retrieval") (host := R_PS) (ty := .int) hx hb hT i_Rt t_Rt t_Rt_ok n_Rt hown hK hP hD hS q0 he rfl 4 (by decide) (hT _ tb_1_77) (fun _ h => h) rfl (by decide +kernel) rfl rfl hl hd kk
theorem gf_PS_30 (hx : p.tables.exec = Jvm.exec) (hb : c.code = cc) (hT : ∀ w ∈ lw_g, w.before args s = true) (hown : s.vm.findClass R_PS = some m.cls) (hK : va_K D classes tys s) (hP : va_P D classes ws H) (q0 : Nat) {fs : List Value} (he : ws[q0]? = some (a, .inr (0, fs))) {v : Value} (hv : fs[0]? = some v) (hd : decode cc pc = .ok (.getfield 30, 3)) (kk : W p l e R s m args below meth c H locs cells slots Q (F0 m (pc + 3) ls (v :: rest))) : W p l e R s m args below meth c H locs cells slots Q (F0 m pc ls (.ref a :: rest)) :=
  va_get (own := R_PS) (ref := "PacketStore") hx hb hT i_PS hown hK hP q0 he rfl 0 (by decide) (hT _ tb_1_89) (fun _ h => h) hv hd kk
theorem pf_PS_30 (hx : p.tables.exec = Jvm.exec) (hb : c.code = cc) (hT : ∀ w ∈ lw_g, w.before args s = true) (hown : s.vm.findClass R_PS = some m.cls) (hK : va_K D classes tys s) (hP : va_P D classes ws H) (hD : va_D A ws) (hS : va_S A H0 H locs) (q0 : Nat) {fs : List Value} {x : Nat} (he : ws[q0]? = some (a, .inr (0, fs))) (hin : meth.name = "<init>") (hl : 0 < fs.length) (hd : decode cc pc = .ok (.putfield 30, 3)) (kk : ∀ (H1 : Heap) (locs1 : List Loc), va_P D classes (ws.set q0 (a, .inr (0, fs.set 0 (.ref x)))) H1 → va_D A (ws.set q0 (a, .inr (0, fs.set 0 (.ref x)))) → va_S A H0 H1 locs1 → W p l e R s m args below meth c H1 locs1 cells slots Q (F0 m (pc + 3) ls rest)) : W p l e R s m args below meth c H locs cells slots Q (F0 m pc ls (.ref x :: .ref a :: rest)) :=
  va_putF (own := R_PS) (ref := "PacketStore") (ty := (.object "PacketStore$Store")) hx hb hT i_PS t_PS t_PS_ok n_PS hown hK hP hD hS q0 he rfl 0 (by decide) (hT _ tb_1_89) (fun _ h => h) rfl hin rfl (by decide +kernel) rfl rfl hl hd kk
theorem gf_PS_39 (hx : p.tables.exec = Jvm.exec) (hb : c.code = cc) (hT : ∀ w ∈ lw_g, w.before args s = true) (hown : s.vm.findClass R_PS = some m.cls) (hK : va_K D classes tys s) (hP : va_P D classes ws H) (q0 : Nat) {fs : List Value} (he : ws[q0]? = some (a, .inr (0, fs))) {v : Value} (hv : fs[1]? = some v) (hd : decode cc pc = .ok (.getfield 39, 3)) (kk : W p l e R s m args below meth c H locs cells slots Q (F0 m (pc + 3) ls (v :: rest))) : W p l e R s m args below meth c H locs cells slots Q (F0 m pc ls (.ref a :: rest)) :=
  va_get (own := R_PS) (ref := "PacketStore") hx hb hT i_PS hown hK hP q0 he rfl 1 (by decide) (hT _ tb_1_90) (fun _ h => h) hv hd kk
theorem pf_PS_39 (hx : p.tables.exec = Jvm.exec) (hb : c.code = cc) (hT : ∀ w ∈ lw_g, w.before args s = true) (hown : s.vm.findClass R_PS = some m.cls) (hK : va_K D classes tys s) (hP : va_P D classes ws H) (hD : va_D A ws) (hS : va_S A H0 H locs) (q0 : Nat) {fs : List Value} {x : Nat} (he : ws[q0]? = some (a, .inr (0, fs))) (hin : meth.name = "<init>") (hl : 1 < fs.length) (hd : decode cc pc = .ok (.putfield 39, 3)) (kk : ∀ (H1 : Heap) (locs1 : List Loc), va_P D classes (ws.set q0 (a, .inr (0, fs.set 1 (.ref x)))) H1 → va_D A (ws.set q0 (a, .inr (0, fs.set 1 (.ref x)))) → va_S A H0 H1 locs1 → W p l e R s m args below meth c H1 locs1 cells slots Q (F0 m (pc + 3) ls rest)) : W p l e R s m args below meth c H locs cells slots Q (F0 m pc ls (.ref x :: .ref a :: rest)) :=
  va_putF (own := R_PS) (ref := "PacketStore") (ty := (.object "PacketStore$Retrieval")) hx hb hT i_PS t_PS t_PS_ok n_PS hown hK hP hD hS q0 he rfl 1 (by decide) (hT _ tb_1_90) (fun _ h => h) rfl hin rfl (by decide +kernel) rfl rfl hl hd kk
theorem gf_PS_9 (hx : p.tables.exec = Jvm.exec) (hb : c.code = cc) (hT : ∀ w ∈ lw_g, w.before args s = true) (hown : s.vm.findClass R_PS = some m.cls) (hK : va_K D classes tys s) (hP : va_P D classes ws H) (q0 : Nat) {fs : List Value} (he : ws[q0]? = some (a, .inr (0, fs))) {v : Value} (hv : fs[2]? = some v) (hd : decode cc pc = .ok (.getfield 9, 3)) (kk : W p l e R s m args below meth c H locs cells slots Q (F0 m (pc + 3) ls (v :: rest))) : W p l e R s m args below meth c H locs cells slots Q (F0 m pc ls (.ref a :: rest)) :=
  va_get (own := R_PS) (ref := "PacketStore") hx hb hT i_PS hown hK hP q0 he rfl 2 (by decide) (hT _ tb_1_91) (fun _ h => h) hv hd kk
theorem pf_PS_9 (hx : p.tables.exec = Jvm.exec) (hb : c.code = cc) (hT : ∀ w ∈ lw_g, w.before args s = true) (hown : s.vm.findClass R_PS = some m.cls) (hK : va_K D classes tys s) (hP : va_P D classes ws H) (hD : va_D A ws) (hS : va_S A H0 H locs) (q0 : Nat) {fs : List Value} {x : Nat} (he : ws[q0]? = some (a, .inr (0, fs))) (hin : meth.name = "<init>") (hl : 2 < fs.length) (hd : decode cc pc = .ok (.putfield 9, 3)) (kk : ∀ (H1 : Heap) (locs1 : List Loc), va_P D classes (ws.set q0 (a, .inr (0, fs.set 2 (.ref x)))) H1 → va_D A (ws.set q0 (a, .inr (0, fs.set 2 (.ref x)))) → va_S A H0 H1 locs1 → W p l e R s m args below meth c H1 locs1 cells slots Q (F0 m (pc + 3) ls rest)) : W p l e R s m args below meth c H locs cells slots Q (F0 m pc ls (.ref x :: .ref a :: rest)) :=
  va_putF (own := R_PS) (ref := "PacketStore") (ty := (.array .byte)) hx hb hT i_PS t_PS t_PS_ok n_PS hown hK hP hD hS q0 he rfl 2 (by decide) (hT _ tb_1_91) (fun _ h => h) rfl hin rfl (by decide +kernel) rfl rfl hl hd kk
theorem gf_PS_13 (hx : p.tables.exec = Jvm.exec) (hb : c.code = cc) (hT : ∀ w ∈ lw_g, w.before args s = true) (hown : s.vm.findClass R_PS = some m.cls) (hK : va_K D classes tys s) (hP : va_P D classes ws H) (q0 : Nat) {fs : List Value} (he : ws[q0]? = some (a, .inr (0, fs))) {v : Value} (hv : fs[3]? = some v) (hd : decode cc pc = .ok (.getfield 13, 3)) (kk : W p l e R s m args below meth c H locs cells slots Q (F0 m (pc + 3) ls (v :: rest))) : W p l e R s m args below meth c H locs cells slots Q (F0 m pc ls (.ref a :: rest)) :=
  va_get (own := R_PS) (ref := "PacketStore") hx hb hT i_PS hown hK hP q0 he rfl 3 (by decide) (hT _ tb_1_92) (fun _ h => h) hv hd kk
theorem pf_PS_13 (hx : p.tables.exec = Jvm.exec) (hb : c.code = cc) (hT : ∀ w ∈ lw_g, w.before args s = true) (hown : s.vm.findClass R_PS = some m.cls) (hK : va_K D classes tys s) (hP : va_P D classes ws H) (hD : va_D A ws) (hS : va_S A H0 H locs) (q0 : Nat) {fs : List Value} {x : Nat} (he : ws[q0]? = some (a, .inr (0, fs))) (hin : meth.name = "<init>") (hl : 3 < fs.length) (hd : decode cc pc = .ok (.putfield 13, 3)) (kk : ∀ (H1 : Heap) (locs1 : List Loc), va_P D classes (ws.set q0 (a, .inr (0, fs.set 3 (.ref x)))) H1 → va_D A (ws.set q0 (a, .inr (0, fs.set 3 (.ref x)))) → va_S A H0 H1 locs1 → W p l e R s m args below meth c H1 locs1 cells slots Q (F0 m (pc + 3) ls rest)) : W p l e R s m args below meth c H locs cells slots Q (F0 m pc ls (.ref x :: .ref a :: rest)) :=
  va_putF (own := R_PS) (ref := "PacketStore") (ty := (.array .byte)) hx hb hT i_PS t_PS t_PS_ok n_PS hown hK hP hD hS q0 he rfl 3 (by decide) (hT _ tb_1_92) (fun _ h => h) rfl hin rfl (by decide +kernel) rfl rfl hl hd kk
theorem gf_PS_43 (hx : p.tables.exec = Jvm.exec) (hb : c.code = cc) (hT : ∀ w ∈ lw_g, w.before args s = true) (hown : s.vm.findClass R_PS = some m.cls) (hK : va_K D classes tys s) (hP : va_P D classes ws H) (q0 : Nat) {fs : List Value} (he : ws[q0]? = some (a, .inr (0, fs))) {v : Value} (hv : fs[4]? = some v) (hd : decode cc pc = .ok (.getfield 43, 3)) (kk : W p l e R s m args below meth c H locs cells slots Q (F0 m (pc + 3) ls (v :: rest))) : W p l e R s m args below meth c H locs cells slots Q (F0 m pc ls (.ref a :: rest)) :=
  va_get (own := R_PS) (ref := "PacketStore") hx hb hT i_PS hown hK hP q0 he rfl 4 (by decide) (hT _ tb_1_93) (fun _ h => h) hv hd kk
theorem pf_PS_43 (hx : p.tables.exec = Jvm.exec) (hb : c.code = cc) (hT : ∀ w ∈ lw_g, w.before args s = true) (hown : s.vm.findClass R_PS = some m.cls) (hK : va_K D classes tys s) (hP : va_P D classes ws H) (hD : va_D A ws) (hS : va_S A H0 H locs) (q0 : Nat) {fs : List Value} {x : Int32} (he : ws[q0]? = some (a, .inr (0, fs))) (hl : 4 < fs.length) (hd : decode cc pc = .ok (.putfield 43, 3)) (kk : ∀ (H1 : Heap) (locs1 : List Loc), va_P D classes (ws.set q0 (a, .inr (0, fs.set 4 (.int x)))) H1 → va_D A (ws.set q0 (a, .inr (0, fs.set 4 (.int x)))) → va_S A H0 H1 locs1 → W p l e R s m args below meth c H1 locs1 cells slots Q (F0 m (pc + 3) ls rest)) : W p l e R s m args below meth c H locs cells slots Q (F0 m pc ls (.int x :: .ref a :: rest)) :=
  va_put (own := R_PS) (ref := "PacketStore") (ty := .int) hx hb hT i_PS t_PS t_PS_ok n_PS hown hK hP hD hS q0 he rfl 4 (by decide) (hT _ tb_1_93) (fun _ h => h) rfl (by decide +kernel) rfl rfl hl hd kk
theorem gf_PS_76 (hx : p.tables.exec = Jvm.exec) (hb : c.code = cc) (hT : ∀ w ∈ lw_g, w.before args s = true) (hown : s.vm.findClass R_PS = some m.cls) (hK : va_K D classes tys s) (hP : va_P D classes ws H) (q0 : Nat) {fs : List Value} (he : ws[q0]? = some (a, .inr (0, fs))) {v : Value} (hv : fs[5]? = some v) (hd : decode cc pc = .ok (.getfield 76, 3)) (kk : W p l e R s m args below meth c H locs cells slots Q (F0 m (pc + 3) ls (v :: rest))) : W p l e R s m args below meth c H locs cells slots Q (F0 m pc ls (.ref a :: rest)) :=
  va_get (own := R_PS) (ref := "PacketStore") hx hb hT i_PS hown hK hP q0 he rfl 5 (by decide) (hT _ tb_1_94) (fun _ h => h) hv hd kk
theorem pf_PS_76 (hx : p.tables.exec = Jvm.exec) (hb : c.code = cc) (hT : ∀ w ∈ lw_g, w.before args s = true) (hown : s.vm.findClass R_PS = some m.cls) (hK : va_K D classes tys s) (hP : va_P D classes ws H) (hD : va_D A ws) (hS : va_S A H0 H locs) (q0 : Nat) {fs : List Value} {x : Int32} (he : ws[q0]? = some (a, .inr (0, fs))) (hl : 5 < fs.length) (hd : decode cc pc = .ok (.putfield 76, 3)) (kk : ∀ (H1 : Heap) (locs1 : List Loc), va_P D classes (ws.set q0 (a, .inr (0, fs.set 5 (.int x)))) H1 → va_D A (ws.set q0 (a, .inr (0, fs.set 5 (.int x)))) → va_S A H0 H1 locs1 → W p l e R s m args below meth c H1 locs1 cells slots Q (F0 m (pc + 3) ls rest)) : W p l e R s m args below meth c H locs cells slots Q (F0 m pc ls (.int x :: .ref a :: rest)) :=
  va_put (own := R_PS) (ref := "PacketStore") (ty := .int) hx hb hT i_PS t_PS t_PS_ok n_PS hown hK hP hD hS q0 he rfl 5 (by decide) (hT _ tb_1_94) (fun _ h => h) rfl (by decide +kernel) rfl rfl hl hd kk
theorem gf_Md_30 (hx : p.tables.exec = Jvm.exec) (hb : c.code = cc) (hT : ∀ w ∈ lw_g, w.before args s = true) (hown : s.vm.findClass R_Md = some m.cls) (hK : va_K D classes tys s) (hP : va_P D classes ws H) (q0 : Nat) {fs : List Value} (he : ws[q0]? = some (a, .inr (3, fs))) {v : Value} (hv : fs[0]? = some v) (hd : decode cc pc = .ok (.getfield 30, 3)) (kk : W p l e R s m args below meth c H locs cells slots Q (F0 m (pc + 3) ls (v :: rest))) : W p l e R s m args below meth c H locs cells slots Q (F0 m pc ls (.ref a :: rest)) :=
  va_get (own := R_Md) (ref := "PacketStoreModel") hx hb hT i_Md hown hK hP q0 he rfl 0 (by decide) (hT _ tb_1_214) (fun _ h => h) hv hd kk
theorem pf_Md_30 (hx : p.tables.exec = Jvm.exec) (hb : c.code = cc) (hT : ∀ w ∈ lw_g, w.before args s = true) (hown : s.vm.findClass R_Md = some m.cls) (hK : va_K D classes tys s) (hP : va_P D classes ws H) (hD : va_D A ws) (hS : va_S A H0 H locs) (q0 : Nat) {fs : List Value} {x : Int32} (he : ws[q0]? = some (a, .inr (3, fs))) (hl : 0 < fs.length) (hd : decode cc pc = .ok (.putfield 30, 3)) (kk : ∀ (H1 : Heap) (locs1 : List Loc), va_P D classes (ws.set q0 (a, .inr (3, fs.set 0 (.int x)))) H1 → va_D A (ws.set q0 (a, .inr (3, fs.set 0 (.int x)))) → va_S A H0 H1 locs1 → W p l e R s m args below meth c H1 locs1 cells slots Q (F0 m (pc + 3) ls rest)) : W p l e R s m args below meth c H locs cells slots Q (F0 m pc ls (.int x :: .ref a :: rest)) :=
  va_put (own := R_Md) (ref := "PacketStoreModel") (ty := .int) hx hb hT i_Md t_Md t_Md_ok n_Md hown hK hP hD hS q0 he rfl 0 (by decide) (hT _ tb_1_214) (fun _ h => h) rfl (by decide +kernel) rfl rfl hl hd kk
theorem gf_Md_26 (hx : p.tables.exec = Jvm.exec) (hb : c.code = cc) (hT : ∀ w ∈ lw_g, w.before args s = true) (hown : s.vm.findClass R_Md = some m.cls) (hK : va_K D classes tys s) (hP : va_P D classes ws H) (q0 : Nat) {fs : List Value} (he : ws[q0]? = some (a, .inr (3, fs))) {v : Value} (hv : fs[1]? = some v) (hd : decode cc pc = .ok (.getfield 26, 3)) (kk : W p l e R s m args below meth c H locs cells slots Q (F0 m (pc + 3) ls (v :: rest))) : W p l e R s m args below meth c H locs cells slots Q (F0 m pc ls (.ref a :: rest)) :=
  va_get (own := R_Md) (ref := "PacketStoreModel") hx hb hT i_Md hown hK hP q0 he rfl 1 (by decide) (hT _ tb_1_215) (fun _ h => h) hv hd kk
theorem pf_Md_26 (hx : p.tables.exec = Jvm.exec) (hb : c.code = cc) (hT : ∀ w ∈ lw_g, w.before args s = true) (hown : s.vm.findClass R_Md = some m.cls) (hK : va_K D classes tys s) (hP : va_P D classes ws H) (hD : va_D A ws) (hS : va_S A H0 H locs) (q0 : Nat) {fs : List Value} {x : Int32} (he : ws[q0]? = some (a, .inr (3, fs))) (hin : meth.name = "<init>") (hl : 1 < fs.length) (hd : decode cc pc = .ok (.putfield 26, 3)) (kk : ∀ (H1 : Heap) (locs1 : List Loc), va_P D classes (ws.set q0 (a, .inr (3, fs.set 1 (.int x)))) H1 → va_D A (ws.set q0 (a, .inr (3, fs.set 1 (.int x)))) → va_S A H0 H1 locs1 → W p l e R s m args below meth c H1 locs1 cells slots Q (F0 m (pc + 3) ls rest)) : W p l e R s m args below meth c H locs cells slots Q (F0 m pc ls (.int x :: .ref a :: rest)) :=
  va_putF (own := R_Md) (ref := "PacketStoreModel") (ty := .int) hx hb hT i_Md t_Md t_Md_ok n_Md hown hK hP hD hS q0 he rfl 1 (by decide) (hT _ tb_1_215) (fun _ h => h) rfl hin rfl (by decide +kernel) rfl rfl hl hd kk
theorem gf_Md_7 (hx : p.tables.exec = Jvm.exec) (hb : c.code = cc) (hT : ∀ w ∈ lw_g, w.before args s = true) (hown : s.vm.findClass R_Md = some m.cls) (hK : va_K D classes tys s) (hP : va_P D classes ws H) (q0 : Nat) {fs : List Value} (he : ws[q0]? = some (a, .inr (3, fs))) {v : Value} (hv : fs[2]? = some v) (hd : decode cc pc = .ok (.getfield 7, 3)) (kk : W p l e R s m args below meth c H locs cells slots Q (F0 m (pc + 3) ls (v :: rest))) : W p l e R s m args below meth c H locs cells slots Q (F0 m pc ls (.ref a :: rest)) :=
  va_get (own := R_Md) (ref := "PacketStoreModel") hx hb hT i_Md hown hK hP q0 he rfl 2 (by decide) (hT _ tb_1_216) (fun _ h => h) hv hd kk
theorem pf_Md_7 (hx : p.tables.exec = Jvm.exec) (hb : c.code = cc) (hT : ∀ w ∈ lw_g, w.before args s = true) (hown : s.vm.findClass R_Md = some m.cls) (hK : va_K D classes tys s) (hP : va_P D classes ws H) (hD : va_D A ws) (hS : va_S A H0 H locs) (q0 : Nat) {fs : List Value} {x : Nat} (he : ws[q0]? = some (a, .inr (3, fs))) (hin : meth.name = "<init>") (hl : 2 < fs.length) (hd : decode cc pc = .ok (.putfield 7, 3)) (kk : ∀ (H1 : Heap) (locs1 : List Loc), va_P D classes (ws.set q0 (a, .inr (3, fs.set 2 (.ref x)))) H1 → va_D A (ws.set q0 (a, .inr (3, fs.set 2 (.ref x)))) → va_S A H0 H1 locs1 → W p l e R s m args below meth c H1 locs1 cells slots Q (F0 m (pc + 3) ls rest)) : W p l e R s m args below meth c H locs cells slots Q (F0 m pc ls (.ref x :: .ref a :: rest)) :=
  va_putF (own := R_Md) (ref := "PacketStoreModel") (ty := (.array .byte)) hx hb hT i_Md t_Md t_Md_ok n_Md hown hK hP hD hS q0 he rfl 2 (by decide) (hT _ tb_1_216) (fun _ h => h) rfl hin rfl (by decide +kernel) rfl rfl hl hd kk
theorem gf_Md_39 (hx : p.tables.exec = Jvm.exec) (hb : c.code = cc) (hT : ∀ w ∈ lw_g, w.before args s = true) (hown : s.vm.findClass R_Md = some m.cls) (hK : va_K D classes tys s) (hP : va_P D classes ws H) (q0 : Nat) {fs : List Value} (he : ws[q0]? = some (a, .inr (3, fs))) {v : Value} (hv : fs[3]? = some v) (hd : decode cc pc = .ok (.getfield 39, 3)) (kk : W p l e R s m args below meth c H locs cells slots Q (F0 m (pc + 3) ls (v :: rest))) : W p l e R s m args below meth c H locs cells slots Q (F0 m pc ls (.ref a :: rest)) :=
  va_get (own := R_Md) (ref := "PacketStoreModel") hx hb hT i_Md hown hK hP q0 he rfl 3 (by decide) (hT _ tb_1_217) (fun _ h => h) hv hd kk
theorem pf_Md_39 (hx : p.tables.exec = Jvm.exec) (hb : c.code = cc) (hT : ∀ w ∈ lw_g, w.before args s = true) (hown : s.vm.findClass R_Md = some m.cls) (hK : va_K D classes tys s) (hP : va_P D classes ws H) (hD : va_D A ws) (hS : va_S A H0 H locs) (q0 : Nat) {fs : List Value} {x : Int32} (he : ws[q0]? = some (a, .inr (3, fs))) (hl : 3 < fs.length) (hd : decode cc pc = .ok (.putfield 39, 3)) (kk : ∀ (H1 : Heap) (locs1 : List Loc), va_P D classes (ws.set q0 (a, .inr (3, fs.set 3 (.int x)))) H1 → va_D A (ws.set q0 (a, .inr (3, fs.set 3 (.int x)))) → va_S A H0 H1 locs1 → W p l e R s m args below meth c H1 locs1 cells slots Q (F0 m (pc + 3) ls rest)) : W p l e R s m args below meth c H locs cells slots Q (F0 m pc ls (.int x :: .ref a :: rest)) :=
  va_put (own := R_Md) (ref := "PacketStoreModel") (ty := .int) hx hb hT i_Md t_Md t_Md_ok n_Md hown hK hP hD hS q0 he rfl 3 (by decide) (hT _ tb_1_217) (fun _ h => h) rfl (by decide +kernel) rfl rfl hl hd kk
theorem gf_Md_13 (hx : p.tables.exec = Jvm.exec) (hb : c.code = cc) (hT : ∀ w ∈ lw_g, w.before args s = true) (hown : s.vm.findClass R_Md = some m.cls) (hK : va_K D classes tys s) (hP : va_P D classes ws H) (q0 : Nat) {fs : List Value} (he : ws[q0]? = some (a, .inr (3, fs))) {v : Value} (hv : fs[4]? = some v) (hd : decode cc pc = .ok (.getfield 13, 3)) (kk : W p l e R s m args below meth c H locs cells slots Q (F0 m (pc + 3) ls (v :: rest))) : W p l e R s m args below meth c H locs cells slots Q (F0 m pc ls (.ref a :: rest)) :=
  va_get (own := R_Md) (ref := "PacketStoreModel") hx hb hT i_Md hown hK hP q0 he rfl 4 (by decide) (hT _ tb_1_218) (fun _ h => h) hv hd kk
theorem pf_Md_13 (hx : p.tables.exec = Jvm.exec) (hb : c.code = cc) (hT : ∀ w ∈ lw_g, w.before args s = true) (hown : s.vm.findClass R_Md = some m.cls) (hK : va_K D classes tys s) (hP : va_P D classes ws H) (hD : va_D A ws) (hS : va_S A H0 H locs) (q0 : Nat) {fs : List Value} {x : Nat} (he : ws[q0]? = some (a, .inr (3, fs))) (hin : meth.name = "<init>") (hl : 4 < fs.length) (hd : decode cc pc = .ok (.putfield 13, 3)) (kk : ∀ (H1 : Heap) (locs1 : List Loc), va_P D classes (ws.set q0 (a, .inr (3, fs.set 4 (.ref x)))) H1 → va_D A (ws.set q0 (a, .inr (3, fs.set 4 (.ref x)))) → va_S A H0 H1 locs1 → W p l e R s m args below meth c H1 locs1 cells slots Q (F0 m (pc + 3) ls rest)) : W p l e R s m args below meth c H locs cells slots Q (F0 m pc ls (.ref x :: .ref a :: rest)) :=
  va_putF (own := R_Md) (ref := "PacketStoreModel") (ty := (.array .byte)) hx hb hT i_Md t_Md t_Md_ok n_Md hown hK hP hD hS q0 he rfl 4 (by decide) (hT _ tb_1_218) (fun _ h => h) rfl hin rfl (by decide +kernel) rfl rfl hl hd kk
theorem gf_Md_71 (hx : p.tables.exec = Jvm.exec) (hb : c.code = cc) (hT : ∀ w ∈ lw_g, w.before args s = true) (hown : s.vm.findClass R_Md = some m.cls) (hK : va_K D classes tys s) (hP : va_P D classes ws H) (q0 : Nat) {fs : List Value} (he : ws[q0]? = some (a, .inr (3, fs))) {v : Value} (hv : fs[5]? = some v) (hd : decode cc pc = .ok (.getfield 71, 3)) (kk : W p l e R s m args below meth c H locs cells slots Q (F0 m (pc + 3) ls (v :: rest))) : W p l e R s m args below meth c H locs cells slots Q (F0 m pc ls (.ref a :: rest)) :=
  va_get (own := R_Md) (ref := "PacketStoreModel") hx hb hT i_Md hown hK hP q0 he rfl 5 (by decide) (hT _ tb_1_219) (fun _ h => h) hv hd kk
theorem pf_Md_71 (hx : p.tables.exec = Jvm.exec) (hb : c.code = cc) (hT : ∀ w ∈ lw_g, w.before args s = true) (hown : s.vm.findClass R_Md = some m.cls) (hK : va_K D classes tys s) (hP : va_P D classes ws H) (hD : va_D A ws) (hS : va_S A H0 H locs) (q0 : Nat) {fs : List Value} {x : Int32} (he : ws[q0]? = some (a, .inr (3, fs))) (hl : 5 < fs.length) (hd : decode cc pc = .ok (.putfield 71, 3)) (kk : ∀ (H1 : Heap) (locs1 : List Loc), va_P D classes (ws.set q0 (a, .inr (3, fs.set 5 (.int x)))) H1 → va_D A (ws.set q0 (a, .inr (3, fs.set 5 (.int x)))) → va_S A H0 H1 locs1 → W p l e R s m args below meth c H1 locs1 cells slots Q (F0 m (pc + 3) ls rest)) : W p l e R s m args below meth c H locs cells slots Q (F0 m pc ls (.int x :: .ref a :: rest)) :=
  va_put (own := R_Md) (ref := "PacketStoreModel") (ty := .int) hx hb hT i_Md t_Md t_Md_ok n_Md hown hK hP hD hS q0 he rfl 5 (by decide) (hT _ tb_1_219) (fun _ h => h) rfl (by decide +kernel) rfl rfl hl hd kk
theorem gf_Md_36 (hx : p.tables.exec = Jvm.exec) (hb : c.code = cc) (hT : ∀ w ∈ lw_g, w.before args s = true) (hown : s.vm.findClass R_Md = some m.cls) (hK : va_K D classes tys s) (hP : va_P D classes ws H) (q0 : Nat) {fs : List Value} (he : ws[q0]? = some (a, .inr (3, fs))) {v : Value} (hv : fs[6]? = some v) (hd : decode cc pc = .ok (.getfield 36, 3)) (kk : W p l e R s m args below meth c H locs cells slots Q (F0 m (pc + 3) ls (v :: rest))) : W p l e R s m args below meth c H locs cells slots Q (F0 m pc ls (.ref a :: rest)) :=
  va_get (own := R_Md) (ref := "PacketStoreModel") hx hb hT i_Md hown hK hP q0 he rfl 6 (by decide) (hT _ tb_1_220) (fun _ h => h) hv hd kk
theorem pf_Md_36 (hx : p.tables.exec = Jvm.exec) (hb : c.code = cc) (hT : ∀ w ∈ lw_g, w.before args s = true) (hown : s.vm.findClass R_Md = some m.cls) (hK : va_K D classes tys s) (hP : va_P D classes ws H) (hD : va_D A ws) (hS : va_S A H0 H locs) (q0 : Nat) {fs : List Value} {x : Int32} (he : ws[q0]? = some (a, .inr (3, fs))) (hl : 6 < fs.length) (hd : decode cc pc = .ok (.putfield 36, 3)) (kk : ∀ (H1 : Heap) (locs1 : List Loc), va_P D classes (ws.set q0 (a, .inr (3, fs.set 6 (.int x)))) H1 → va_D A (ws.set q0 (a, .inr (3, fs.set 6 (.int x)))) → va_S A H0 H1 locs1 → W p l e R s m args below meth c H1 locs1 cells slots Q (F0 m (pc + 3) ls rest)) : W p l e R s m args below meth c H locs cells slots Q (F0 m pc ls (.int x :: .ref a :: rest)) :=
  va_put (own := R_Md) (ref := "PacketStoreModel") (ty := .int) hx hb hT i_Md t_Md t_Md_ok n_Md hown hK hP hD hS q0 he rfl 6 (by decide) (hT _ tb_1_220) (fun _ h => h) rfl (by decide +kernel) rfl rfl hl hd kk
theorem gf_Md_16 (hx : p.tables.exec = Jvm.exec) (hb : c.code = cc) (hT : ∀ w ∈ lw_g, w.before args s = true) (hown : s.vm.findClass R_Md = some m.cls) (hK : va_K D classes tys s) (hP : va_P D classes ws H) (q0 : Nat) {fs : List Value} (he : ws[q0]? = some (a, .inr (3, fs))) {v : Value} (hv : fs[7]? = some v) (hd : decode cc pc = .ok (.getfield 16, 3)) (kk : W p l e R s m args below meth c H locs cells slots Q (F0 m (pc + 3) ls (v :: rest))) : W p l e R s m args below meth c H locs cells slots Q (F0 m pc ls (.ref a :: rest)) :=
  va_get (own := R_Md) (ref := "PacketStoreModel") hx hb hT i_Md hown hK hP q0 he rfl 7 (by decide) (hT _ tb_1_221) (fun _ h => h) hv hd kk
theorem pf_Md_16 (hx : p.tables.exec = Jvm.exec) (hb : c.code = cc) (hT : ∀ w ∈ lw_g, w.before args s = true) (hown : s.vm.findClass R_Md = some m.cls) (hK : va_K D classes tys s) (hP : va_P D classes ws H) (hD : va_D A ws) (hS : va_S A H0 H locs) (q0 : Nat) {fs : List Value} {x : Nat} (he : ws[q0]? = some (a, .inr (3, fs))) (hin : meth.name = "<init>") (hl : 7 < fs.length) (hd : decode cc pc = .ok (.putfield 16, 3)) (kk : ∀ (H1 : Heap) (locs1 : List Loc), va_P D classes (ws.set q0 (a, .inr (3, fs.set 7 (.ref x)))) H1 → va_D A (ws.set q0 (a, .inr (3, fs.set 7 (.ref x)))) → va_S A H0 H1 locs1 → W p l e R s m args below meth c H1 locs1 cells slots Q (F0 m (pc + 3) ls rest)) : W p l e R s m args below meth c H locs cells slots Q (F0 m pc ls (.ref x :: .ref a :: rest)) :=
  va_putF (own := R_Md) (ref := "PacketStoreModel") (ty := (.array .int)) hx hb hT i_Md t_Md t_Md_ok n_Md hown hK hP hD hS q0 he rfl 7 (by decide) (hT _ tb_1_221) (fun _ h => h) rfl hin rfl (by decide +kernel) rfl rfl hl hd kk
theorem gf_Md_20 (hx : p.tables.exec = Jvm.exec) (hb : c.code = cc) (hT : ∀ w ∈ lw_g, w.before args s = true) (hown : s.vm.findClass R_Md = some m.cls) (hK : va_K D classes tys s) (hP : va_P D classes ws H) (q0 : Nat) {fs : List Value} (he : ws[q0]? = some (a, .inr (3, fs))) {v : Value} (hv : fs[8]? = some v) (hd : decode cc pc = .ok (.getfield 20, 3)) (kk : W p l e R s m args below meth c H locs cells slots Q (F0 m (pc + 3) ls (v :: rest))) : W p l e R s m args below meth c H locs cells slots Q (F0 m pc ls (.ref a :: rest)) :=
  va_get (own := R_Md) (ref := "PacketStoreModel") hx hb hT i_Md hown hK hP q0 he rfl 8 (by decide) (hT _ tb_1_222) (fun _ h => h) hv hd kk
theorem pf_Md_20 (hx : p.tables.exec = Jvm.exec) (hb : c.code = cc) (hT : ∀ w ∈ lw_g, w.before args s = true) (hown : s.vm.findClass R_Md = some m.cls) (hK : va_K D classes tys s) (hP : va_P D classes ws H) (hD : va_D A ws) (hS : va_S A H0 H locs) (q0 : Nat) {fs : List Value} {x : Nat} (he : ws[q0]? = some (a, .inr (3, fs))) (hin : meth.name = "<init>") (hl : 8 < fs.length) (hd : decode cc pc = .ok (.putfield 20, 3)) (kk : ∀ (H1 : Heap) (locs1 : List Loc), va_P D classes (ws.set q0 (a, .inr (3, fs.set 8 (.ref x)))) H1 → va_D A (ws.set q0 (a, .inr (3, fs.set 8 (.ref x)))) → va_S A H0 H1 locs1 → W p l e R s m args below meth c H1 locs1 cells slots Q (F0 m (pc + 3) ls rest)) : W p l e R s m args below meth c H locs cells slots Q (F0 m pc ls (.ref x :: .ref a :: rest)) :=
  va_putF (own := R_Md) (ref := "PacketStoreModel") (ty := (.array .int)) hx hb hT i_Md t_Md t_Md_ok n_Md hown hK hP hD hS q0 he rfl 8 (by decide) (hT _ tb_1_222) (fun _ h => h) rfl hin rfl (by decide +kernel) rfl rfl hl hd kk
theorem gf_Md_23 (hx : p.tables.exec = Jvm.exec) (hb : c.code = cc) (hT : ∀ w ∈ lw_g, w.before args s = true) (hown : s.vm.findClass R_Md = some m.cls) (hK : va_K D classes tys s) (hP : va_P D classes ws H) (q0 : Nat) {fs : List Value} (he : ws[q0]? = some (a, .inr (3, fs))) {v : Value} (hv : fs[9]? = some v) (hd : decode cc pc = .ok (.getfield 23, 3)) (kk : W p l e R s m args below meth c H locs cells slots Q (F0 m (pc + 3) ls (v :: rest))) : W p l e R s m args below meth c H locs cells slots Q (F0 m pc ls (.ref a :: rest)) :=
  va_get (own := R_Md) (ref := "PacketStoreModel") hx hb hT i_Md hown hK hP q0 he rfl 9 (by decide) (hT _ tb_1_223) (fun _ h => h) hv hd kk
theorem pf_Md_23 (hx : p.tables.exec = Jvm.exec) (hb : c.code = cc) (hT : ∀ w ∈ lw_g, w.before args s = true) (hown : s.vm.findClass R_Md = some m.cls) (hK : va_K D classes tys s) (hP : va_P D classes ws H) (hD : va_D A ws) (hS : va_S A H0 H locs) (q0 : Nat) {fs : List Value} {x : Nat} (he : ws[q0]? = some (a, .inr (3, fs))) (hin : meth.name = "<init>") (hl : 9 < fs.length) (hd : decode cc pc = .ok (.putfield 23, 3)) (kk : ∀ (H1 : Heap) (locs1 : List Loc), va_P D classes (ws.set q0 (a, .inr (3, fs.set 9 (.ref x)))) H1 → va_D A (ws.set q0 (a, .inr (3, fs.set 9 (.ref x)))) → va_S A H0 H1 locs1 → W p l e R s m args below meth c H1 locs1 cells slots Q (F0 m (pc + 3) ls rest)) : W p l e R s m args below meth c H locs cells slots Q (F0 m pc ls (.ref x :: .ref a :: rest)) :=
  va_putF (own := R_Md) (ref := "PacketStoreModel") (ty := (.array .byte)) hx hb hT i_Md t_Md t_Md_ok n_Md hown hK hP hD hS q0 he rfl 9 (by decide) (hT _ tb_1_223) (fun _ h => h) rfl hin rfl (by decide +kernel) rfl rfl hl hd kk
theorem gf_Md_33 (hx : p.tables.exec = Jvm.exec) (hb : c.code = cc) (hT : ∀ w ∈ lw_g, w.before args s = true) (hown : s.vm.findClass R_Md = some m.cls) (hK : va_K D classes tys s) (hP : va_P D classes ws H) (q0 : Nat) {fs : List Value} (he : ws[q0]? = some (a, .inr (3, fs))) {v : Value} (hv : fs[10]? = some v) (hd : decode cc pc = .ok (.getfield 33, 3)) (kk : W p l e R s m args below meth c H locs cells slots Q (F0 m (pc + 3) ls (v :: rest))) : W p l e R s m args below meth c H locs cells slots Q (F0 m pc ls (.ref a :: rest)) :=
  va_get (own := R_Md) (ref := "PacketStoreModel") hx hb hT i_Md hown hK hP q0 he rfl 10 (by decide) (hT _ tb_1_224) (fun _ h => h) hv hd kk
theorem pf_Md_33 (hx : p.tables.exec = Jvm.exec) (hb : c.code = cc) (hT : ∀ w ∈ lw_g, w.before args s = true) (hown : s.vm.findClass R_Md = some m.cls) (hK : va_K D classes tys s) (hP : va_P D classes ws H) (hD : va_D A ws) (hS : va_S A H0 H locs) (q0 : Nat) {fs : List Value} {x : Int32} (he : ws[q0]? = some (a, .inr (3, fs))) (hl : 10 < fs.length) (hd : decode cc pc = .ok (.putfield 33, 3)) (kk : ∀ (H1 : Heap) (locs1 : List Loc), va_P D classes (ws.set q0 (a, .inr (3, fs.set 10 (.int x)))) H1 → va_D A (ws.set q0 (a, .inr (3, fs.set 10 (.int x)))) → va_S A H0 H1 locs1 → W p l e R s m args below meth c H1 locs1 cells slots Q (F0 m (pc + 3) ls rest)) : W p l e R s m args below meth c H locs cells slots Q (F0 m pc ls (.int x :: .ref a :: rest)) :=
  va_put (own := R_Md) (ref := "PacketStoreModel") (ty := .int) hx hb hT i_Md t_Md t_Md_ok n_Md hown hK hP hD hS q0 he rfl 10 (by decide) (hT _ tb_1_224) (fun _ h => h) rfl (by decide +kernel) rfl rfl hl hd kk
theorem gf_Md_48 (hx : p.tables.exec = Jvm.exec) (hb : c.code = cc) (hT : ∀ w ∈ lw_g, w.before args s = true) (hown : s.vm.findClass R_Md = some m.cls) (hK : va_K D classes tys s) (hP : va_P D classes ws H) (q0 : Nat) {fs : List Value} (he : ws[q0]? = some (a, .inr (3, fs))) {v : Value} (hv : fs[11]? = some v) (hd : decode cc pc = .ok (.getfield 48, 3)) (kk : W p l e R s m args below meth c H locs cells slots Q (F0 m (pc + 3) ls (v :: rest))) : W p l e R s m args below meth c H locs cells slots Q (F0 m pc ls (.ref a :: rest)) :=
  va_get (own := R_Md) (ref := "PacketStoreModel") hx hb hT i_Md hown hK hP q0 he rfl 11 (by decide) (hT _ tb_1_225) (fun _ h => h) hv hd kk
theorem pf_Md_48 (hx : p.tables.exec = Jvm.exec) (hb : c.code = cc) (hT : ∀ w ∈ lw_g, w.before args s = true) (hown : s.vm.findClass R_Md = some m.cls) (hK : va_K D classes tys s) (hP : va_P D classes ws H) (hD : va_D A ws) (hS : va_S A H0 H locs) (q0 : Nat) {fs : List Value} {x : Int32} (he : ws[q0]? = some (a, .inr (3, fs))) (hl : 11 < fs.length) (hd : decode cc pc = .ok (.putfield 48, 3)) (kk : ∀ (H1 : Heap) (locs1 : List Loc), va_P D classes (ws.set q0 (a, .inr (3, fs.set 11 (.int x)))) H1 → va_D A (ws.set q0 (a, .inr (3, fs.set 11 (.int x)))) → va_S A H0 H1 locs1 → W p l e R s m args below meth c H1 locs1 cells slots Q (F0 m (pc + 3) ls rest)) : W p l e R s m args below meth c H locs cells slots Q (F0 m pc ls (.int x :: .ref a :: rest)) :=
  va_put (own := R_Md) (ref := "PacketStoreModel") (ty := .int) hx hb hT i_Md t_Md t_Md_ok n_Md hown hK hP hD hS q0 he rfl 11 (by decide) (hT _ tb_1_225) (fun _ h => h) rfl (by decide +kernel) rfl rfl hl hd kk
theorem gf_Md_45 (hx : p.tables.exec = Jvm.exec) (hb : c.code = cc) (hT : ∀ w ∈ lw_g, w.before args s = true) (hown : s.vm.findClass R_Md = some m.cls) (hK : va_K D classes tys s) (hP : va_P D classes ws H) (q0 : Nat) {fs : List Value} (he : ws[q0]? = some (a, .inr (3, fs))) {v : Value} (hv : fs[12]? = some v) (hd : decode cc pc = .ok (.getfield 45, 3)) (kk : W p l e R s m args below meth c H locs cells slots Q (F0 m (pc + 3) ls (v :: rest))) : W p l e R s m args below meth c H locs cells slots Q (F0 m pc ls (.ref a :: rest)) :=
  va_get (own := R_Md) (ref := "PacketStoreModel") hx hb hT i_Md hown hK hP q0 he rfl 12 (by decide) (hT _ tb_1_226) (fun _ h => h) hv hd kk
theorem pf_Md_45 (hx : p.tables.exec = Jvm.exec) (hb : c.code = cc) (hT : ∀ w ∈ lw_g, w.before args s = true) (hown : s.vm.findClass R_Md = some m.cls) (hK : va_K D classes tys s) (hP : va_P D classes ws H) (hD : va_D A ws) (hS : va_S A H0 H locs) (q0 : Nat) {fs : List Value} {x : Int32} (he : ws[q0]? = some (a, .inr (3, fs))) (hl : 12 < fs.length) (hd : decode cc pc = .ok (.putfield 45, 3)) (kk : ∀ (H1 : Heap) (locs1 : List Loc), va_P D classes (ws.set q0 (a, .inr (3, fs.set 12 (.int x)))) H1 → va_D A (ws.set q0 (a, .inr (3, fs.set 12 (.int x)))) → va_S A H0 H1 locs1 → W p l e R s m args below meth c H1 locs1 cells slots Q (F0 m (pc + 3) ls rest)) : W p l e R s m args below meth c H locs cells slots Q (F0 m pc ls (.int x :: .ref a :: rest)) :=
  va_put (own := R_Md) (ref := "PacketStoreModel") (ty := .int) hx hb hT i_Md t_Md t_Md_ok n_Md hown hK hP hD hS q0 he rfl 12 (by decide) (hT _ tb_1_226) (fun _ h => h) rfl (by decide +kernel) rfl rfl hl hd kk
theorem gf_Md_51 (hx : p.tables.exec = Jvm.exec) (hb : c.code = cc) (hT : ∀ w ∈ lw_g, w.before args s = true) (hown : s.vm.findClass R_Md = some m.cls) (hK : va_K D classes tys s) (hP : va_P D classes ws H) (q0 : Nat) {fs : List Value} (he : ws[q0]? = some (a, .inr (3, fs))) {v : Value} (hv : fs[13]? = some v) (hd : decode cc pc = .ok (.getfield 51, 3)) (kk : W p l e R s m args below meth c H locs cells slots Q (F0 m (pc + 3) ls (v :: rest))) : W p l e R s m args below meth c H locs cells slots Q (F0 m pc ls (.ref a :: rest)) :=
  va_get (own := R_Md) (ref := "PacketStoreModel") hx hb hT i_Md hown hK hP q0 he rfl 13 (by decide) (hT _ tb_1_227) (fun _ h => h) hv hd kk
theorem pf_Md_51 (hx : p.tables.exec = Jvm.exec) (hb : c.code = cc) (hT : ∀ w ∈ lw_g, w.before args s = true) (hown : s.vm.findClass R_Md = some m.cls) (hK : va_K D classes tys s) (hP : va_P D classes ws H) (hD : va_D A ws) (hS : va_S A H0 H locs) (q0 : Nat) {fs : List Value} {x : Int32} (he : ws[q0]? = some (a, .inr (3, fs))) (hl : 13 < fs.length) (hd : decode cc pc = .ok (.putfield 51, 3)) (kk : ∀ (H1 : Heap) (locs1 : List Loc), va_P D classes (ws.set q0 (a, .inr (3, fs.set 13 (.int x)))) H1 → va_D A (ws.set q0 (a, .inr (3, fs.set 13 (.int x)))) → va_S A H0 H1 locs1 → W p l e R s m args below meth c H1 locs1 cells slots Q (F0 m (pc + 3) ls rest)) : W p l e R s m args below meth c H locs cells slots Q (F0 m pc ls (.int x :: .ref a :: rest)) :=
  va_put (own := R_Md) (ref := "PacketStoreModel") (ty := .int) hx hb hT i_Md t_Md t_Md_ok n_Md hown hK hP hD hS q0 he rfl 13 (by decide) (hT _ tb_1_227) (fun _ h => h) rfl (by decide +kernel) rfl rfl hl hd kk
theorem gf_Md_54 (hx : p.tables.exec = Jvm.exec) (hb : c.code = cc) (hT : ∀ w ∈ lw_g, w.before args s = true) (hown : s.vm.findClass R_Md = some m.cls) (hK : va_K D classes tys s) (hP : va_P D classes ws H) (q0 : Nat) {fs : List Value} (he : ws[q0]? = some (a, .inr (3, fs))) {v : Value} (hv : fs[14]? = some v) (hd : decode cc pc = .ok (.getfield 54, 3)) (kk : W p l e R s m args below meth c H locs cells slots Q (F0 m (pc + 3) ls (v :: rest))) : W p l e R s m args below meth c H locs cells slots Q (F0 m pc ls (.ref a :: rest)) :=
  va_get (own := R_Md) (ref := "PacketStoreModel") hx hb hT i_Md hown hK hP q0 he rfl 14 (by decide) (hT _ tb_1_228) (fun _ h => h) hv hd kk
theorem pf_Md_54 (hx : p.tables.exec = Jvm.exec) (hb : c.code = cc) (hT : ∀ w ∈ lw_g, w.before args s = true) (hown : s.vm.findClass R_Md = some m.cls) (hK : va_K D classes tys s) (hP : va_P D classes ws H) (hD : va_D A ws) (hS : va_S A H0 H locs) (q0 : Nat) {fs : List Value} {x : Int32} (he : ws[q0]? = some (a, .inr (3, fs))) (hz : narrow .boolean (.int x) = .int x) (hz2 : fits .boolean (.int x) = true) (hl : 14 < fs.length) (hd : decode cc pc = .ok (.putfield 54, 3)) (kk : ∀ (H1 : Heap) (locs1 : List Loc), va_P D classes (ws.set q0 (a, .inr (3, fs.set 14 (.int x)))) H1 → va_D A (ws.set q0 (a, .inr (3, fs.set 14 (.int x)))) → va_S A H0 H1 locs1 → W p l e R s m args below meth c H1 locs1 cells slots Q (F0 m (pc + 3) ls rest)) : W p l e R s m args below meth c H locs cells slots Q (F0 m pc ls (.int x :: .ref a :: rest)) :=
  va_put (own := R_Md) (ref := "PacketStoreModel") (ty := .boolean) hx hb hT i_Md t_Md t_Md_ok n_Md hown hK hP hD hS q0 he rfl 14 (by decide) (hT _ tb_1_228) (fun _ h => h) rfl (by decide +kernel) hz hz2 hl hd kk
theorem gf_Md_58 (hx : p.tables.exec = Jvm.exec) (hb : c.code = cc) (hT : ∀ w ∈ lw_g, w.before args s = true) (hown : s.vm.findClass R_Md = some m.cls) (hK : va_K D classes tys s) (hP : va_P D classes ws H) (q0 : Nat) {fs : List Value} (he : ws[q0]? = some (a, .inr (3, fs))) {v : Value} (hv : fs[15]? = some v) (hd : decode cc pc = .ok (.getfield 58, 3)) (kk : W p l e R s m args below meth c H locs cells slots Q (F0 m (pc + 3) ls (v :: rest))) : W p l e R s m args below meth c H locs cells slots Q (F0 m pc ls (.ref a :: rest)) :=
  va_get (own := R_Md) (ref := "PacketStoreModel") hx hb hT i_Md hown hK hP q0 he rfl 15 (by decide) (hT _ tb_1_229) (fun _ h => h) hv hd kk
theorem pf_Md_58 (hx : p.tables.exec = Jvm.exec) (hb : c.code = cc) (hT : ∀ w ∈ lw_g, w.before args s = true) (hown : s.vm.findClass R_Md = some m.cls) (hK : va_K D classes tys s) (hP : va_P D classes ws H) (hD : va_D A ws) (hS : va_S A H0 H locs) (q0 : Nat) {fs : List Value} {x : Int32} (he : ws[q0]? = some (a, .inr (3, fs))) (hl : 15 < fs.length) (hd : decode cc pc = .ok (.putfield 58, 3)) (kk : ∀ (H1 : Heap) (locs1 : List Loc), va_P D classes (ws.set q0 (a, .inr (3, fs.set 15 (.int x)))) H1 → va_D A (ws.set q0 (a, .inr (3, fs.set 15 (.int x)))) → va_S A H0 H1 locs1 → W p l e R s m args below meth c H1 locs1 cells slots Q (F0 m (pc + 3) ls rest)) : W p l e R s m args below meth c H locs cells slots Q (F0 m pc ls (.int x :: .ref a :: rest)) :=
  va_put (own := R_Md) (ref := "PacketStoreModel") (ty := .int) hx hb hT i_Md t_Md t_Md_ok n_Md hown hK hP hD hS q0 he rfl 15 (by decide) (hT _ tb_1_229) (fun _ h => h) rfl (by decide +kernel) rfl rfl hl hd kk
theorem gf_Md_61 (hx : p.tables.exec = Jvm.exec) (hb : c.code = cc) (hT : ∀ w ∈ lw_g, w.before args s = true) (hown : s.vm.findClass R_Md = some m.cls) (hK : va_K D classes tys s) (hP : va_P D classes ws H) (q0 : Nat) {fs : List Value} (he : ws[q0]? = some (a, .inr (3, fs))) {v : Value} (hv : fs[16]? = some v) (hd : decode cc pc = .ok (.getfield 61, 3)) (kk : W p l e R s m args below meth c H locs cells slots Q (F0 m (pc + 3) ls (v :: rest))) : W p l e R s m args below meth c H locs cells slots Q (F0 m pc ls (.ref a :: rest)) :=
  va_get (own := R_Md) (ref := "PacketStoreModel") hx hb hT i_Md hown hK hP q0 he rfl 16 (by decide) (hT _ tb_1_230) (fun _ h => h) hv hd kk
theorem pf_Md_61 (hx : p.tables.exec = Jvm.exec) (hb : c.code = cc) (hT : ∀ w ∈ lw_g, w.before args s = true) (hown : s.vm.findClass R_Md = some m.cls) (hK : va_K D classes tys s) (hP : va_P D classes ws H) (hD : va_D A ws) (hS : va_S A H0 H locs) (q0 : Nat) {fs : List Value} {x : Int32} (he : ws[q0]? = some (a, .inr (3, fs))) (hl : 16 < fs.length) (hd : decode cc pc = .ok (.putfield 61, 3)) (kk : ∀ (H1 : Heap) (locs1 : List Loc), va_P D classes (ws.set q0 (a, .inr (3, fs.set 16 (.int x)))) H1 → va_D A (ws.set q0 (a, .inr (3, fs.set 16 (.int x)))) → va_S A H0 H1 locs1 → W p l e R s m args below meth c H1 locs1 cells slots Q (F0 m (pc + 3) ls rest)) : W p l e R s m args below meth c H locs cells slots Q (F0 m pc ls (.int x :: .ref a :: rest)) :=
  va_put (own := R_Md) (ref := "PacketStoreModel") (ty := .int) hx hb hT i_Md t_Md t_Md_ok n_Md hown hK hP hD hS q0 he rfl 16 (by decide) (hT _ tb_1_230) (fun _ h => h) rfl (by decide +kernel) rfl rfl hl hd kk
theorem gf_Md_64 (hx : p.tables.exec = Jvm.exec) (hb : c.code = cc) (hT : ∀ w ∈ lw_g, w.before args s = true) (hown : s.vm.findClass R_Md = some m.cls) (hK : va_K D classes tys s) (hP : va_P D classes ws H) (q0 : Nat) {fs : List Value} (he : ws[q0]? = some (a, .inr (3, fs))) {v : Value} (hv : fs[17]? = some v) (hd : decode cc pc = .ok (.getfield 64, 3)) (kk : W p l e R s m args below meth c H locs cells slots Q (F0 m (pc + 3) ls (v :: rest))) : W p l e R s m args below meth c H locs cells slots Q (F0 m pc ls (.ref a :: rest)) :=
  va_get (own := R_Md) (ref := "PacketStoreModel") hx hb hT i_Md hown hK hP q0 he rfl 17 (by decide) (hT _ tb_1_231) (fun _ h => h) hv hd kk
theorem pf_Md_64 (hx : p.tables.exec = Jvm.exec) (hb : c.code = cc) (hT : ∀ w ∈ lw_g, w.before args s = true) (hown : s.vm.findClass R_Md = some m.cls) (hK : va_K D classes tys s) (hP : va_P D classes ws H) (hD : va_D A ws) (hS : va_S A H0 H locs) (q0 : Nat) {fs : List Value} {x : Int32} (he : ws[q0]? = some (a, .inr (3, fs))) (hl : 17 < fs.length) (hd : decode cc pc = .ok (.putfield 64, 3)) (kk : ∀ (H1 : Heap) (locs1 : List Loc), va_P D classes (ws.set q0 (a, .inr (3, fs.set 17 (.int x)))) H1 → va_D A (ws.set q0 (a, .inr (3, fs.set 17 (.int x)))) → va_S A H0 H1 locs1 → W p l e R s m args below meth c H1 locs1 cells slots Q (F0 m (pc + 3) ls rest)) : W p l e R s m args below meth c H locs cells slots Q (F0 m pc ls (.int x :: .ref a :: rest)) :=
  va_put (own := R_Md) (ref := "PacketStoreModel") (ty := .int) hx hb hT i_Md t_Md t_Md_ok n_Md hown hK hP hD hS q0 he rfl 17 (by decide) (hT _ tb_1_231) (fun _ h => h) rfl (by decide +kernel) rfl rfl hl hd kk
end LY2
section LY3
variable {R : Room} {s : State} {args : Array Value} {rm : Room}
theorem cs_law_15 (hT : ∀ w ∈ lw_g, w.before args s = true) (hR : rm.frames + 1 ≤ R.frames ∧ 8 + (2 + 11) + rm.locals ≤ R.locals) : CallB R s args R_law 15 y_PS_init b_PS_init 2 none (wc y_PS_init b_PS_init 2 none) rm rm.cells rm.slots 1 ∧ (y_PS_init).name = "<init>" ∧ (Cond.instanceMethod y_PS_init).before args s = true :=
  ⟨my_callB 1 hT tb_1_9 tb_1_1 tb_1_11 (by decide +kernel) hR, rfl, hT _ tb_1_10⟩
theorem cs_PS_27 (hT : ∀ w ∈ lw_g, w.before args s = true) (hR : rm.frames + 1 ≤ R.frames ∧ 8 + (2 + 11) + rm.locals ≤ R.locals) : CallB R s args R_PS 27 y_St_init b_St_init 2 none (wc y_St_init b_St_init 2 none) rm rm.cells rm.slots 1 ∧ (y_St_init).name = "<init>" ∧ (Cond.instanceMethod y_St_init).before args s = true :=
  ⟨my_callB 1 hT tb_1_23 tb_1_2 tb_1_25 (by decide +kernel) hR, rfl, hT _ tb_1_24⟩
theorem cs_PS_36 (hT : ∀ w ∈ lw_g, w.before args s = true) (hR : rm.frames + 1 ≤ R.frames ∧ 8 + (2 + 11) + rm.locals ≤ R.locals) : CallB R s args R_PS 36 y_Rt_init b_Rt_init 2 none (wc y_Rt_init b_Rt_init 2 none) rm rm.cells rm.slots 1 ∧ (y_Rt_init).name = "<init>" ∧ (Cond.instanceMethod y_Rt_init).before args s = true :=
  ⟨my_callB 1 hT tb_1_67 tb_1_4 tb_1_69 (by decide +kernel) hR, rfl, hT _ tb_1_68⟩
theorem cs_law_21 (hT : ∀ w ∈ lw_g, w.before args s = true) (hR : rm.frames + 1 ≤ R.frames ∧ 8 + (2 + 11) + rm.locals ≤ R.locals) : CallW R s args R_law R_PS 21 y_PS_put b_PS_put 2 (some .int) (wc y_PS_put b_PS_put 2 (some .int)) rm rm.cells rm.slots 1 :=
  ⟨my_callB 1 hT tb_1_108 tb_1_1 tb_1_111 (by decide +kernel) hR, hT _ tb_1_109, hT _ tb_1_110⟩
theorem cs_law_26 (hT : ∀ w ∈ lw_g, w.before args s = true) (hR : rm.frames + 1 ≤ R.frames ∧ 8 + (3 + 11) + rm.locals ≤ R.locals) : CallW R s args R_law R_PS 26 y_PS_keep b_PS_keep 3 (some .int) (wc y_PS_keep b_PS_keep 3 (some .int)) rm rm.cells rm.slots 1 :=
  ⟨my_callB 1 hT tb_1_112 tb_1_1 tb_1_115 (by decide +kernel) hR, hT _ tb_1_113, hT _ tb_1_114⟩
theorem cs_PS_50 (hT : ∀ w ∈ lw_g, w.before args s = true) (hR : rm.frames + 1 ≤ R.frames ∧ 8 + (8 + 11) + rm.locals ≤ R.locals) : CallW R s args R_PS R_St 50 y_St_keep b_St_keep 8 (some .int) (wc y_St_keep b_St_keep 8 (some .int)) rm rm.cells rm.slots 3 :=
  ⟨my_callB 3 hT tb_1_116 tb_1_2 tb_1_119 (by decide +kernel) hR, hT _ tb_1_117, hT _ tb_1_118⟩
theorem cs_St_41 (hT : ∀ w ∈ lw_g, w.before args s = true) (hR : rm.frames + 1 ≤ R.frames ∧ 8 + (2 + 11) + rm.locals ≤ R.locals) : CallW R s args R_St R_St 41 y_St_drop b_St_drop 2 none (wc y_St_drop b_St_drop 2 none) rm rm.cells rm.slots 0 :=
  ⟨my_callB 0 hT tb_1_120 tb_1_2 tb_1_123 (by decide +kernel) hR, hT _ tb_1_122, hT _ ts_drop⟩
theorem cs_St_32 (hT : ∀ w ∈ lw_g, w.before args s = true) (hR : rm.frames + 1 ≤ R.frames ∧ 8 + (2 + 11) + rm.locals ≤ R.locals) : CallW R s args R_St R_St 32 y_St_size b_St_size 2 (some .int) (wc y_St_size b_St_size 2 (some .int)) rm rm.cells rm.slots 1 :=
  ⟨my_callB 1 hT tb_1_124 tb_1_2 tb_1_127 (by decide +kernel) hR, hT _ tb_1_125, hT _ tb_1_126⟩
theorem cs_St_21 (hT : ∀ w ∈ lw_g, w.before args s = true) (hR : rm.frames + 1 ≤ R.frames ∧ 8 + (2 + 11) + rm.locals ≤ R.locals) : CallW R s args R_St R_St 21 y_St_row b_St_row 2 (some .int) (wc y_St_row b_St_row 2 (some .int)) rm rm.cells rm.slots 1 :=
  ⟨my_callB 1 hT tb_1_128 tb_1_2 tb_1_131 (by decide +kernel) hR, hT _ tb_1_130, hT _ ts_row⟩
theorem cs_St_59 (hT : ∀ w ∈ lw_g, w.before args s = true) (hR : rm.frames + 1 ≤ R.frames ∧ 8 + (1 + 11) + rm.locals ≤ R.locals) : CallW R s args R_St R_St 59 y_St_behind b_St_behind 1 (some .int) (wc y_St_behind b_St_behind 1 (some .int)) rm rm.cells rm.slots 0 :=
  ⟨my_callB 0 hT tb_1_136 tb_1_2 tb_1_139 (by decide +kernel) hR, hT _ tb_1_137, hT _ tb_1_138⟩
theorem cs_law_30 (hT : ∀ w ∈ lw_g, w.before args s = true) (hR : rm.frames + 1 ≤ R.frames ∧ 8 + (2 + 11) + rm.locals ≤ R.locals) : CallW R s args R_law R_PS 30 y_PS_delete b_PS_delete 2 (some .int) (wc y_PS_delete b_PS_delete 2 (some .int)) rm rm.cells rm.slots 1 :=
  ⟨my_callB 1 hT tb_1_140 tb_1_1 tb_1_143 (by decide +kernel) hR, hT _ tb_1_141, hT _ tb_1_142⟩
theorem cs_PS_54 (hT : ∀ w ∈ lw_g, w.before args s = true) (hR : rm.frames + 1 ≤ R.frames ∧ 8 + (3 + 11) + rm.locals ≤ R.locals) : CallW R s args R_PS R_St 54 y_St_delete b_St_delete 3 (some .int) (wc y_St_delete b_St_delete 3 (some .int)) rm rm.cells rm.slots 1 :=
  ⟨my_callB 1 hT tb_1_144 tb_1_2 tb_1_147 (by decide +kernel) hR, hT _ tb_1_145, hT _ tb_1_146⟩
theorem cs_St_63 (hT : ∀ w ∈ lw_g, w.before args s = true) (hR : rm.frames + 1 ≤ R.frames ∧ 8 + (2 + 11) + rm.locals ≤ R.locals) : CallW R s args R_St R_St 63 y_St_time b_St_time 2 (some .int) (wc y_St_time b_St_time 2 (some .int)) rm rm.cells rm.slots 1 :=
  ⟨my_callB 1 hT tb_1_148 tb_1_2 tb_1_151 (by decide +kernel) hR, hT _ tb_1_149, hT _ tb_1_150⟩
theorem cs_law_34 (hT : ∀ w ∈ lw_g, w.before args s = true) (hR : rm.frames + 1 ≤ R.frames ∧ 8 + (3 + 11) + rm.locals ≤ R.locals) : CallW R s args R_law R_PS 34 y_PS_begin b_PS_begin 3 (some .boolean) (wc y_PS_begin b_PS_begin 3 (some .boolean)) rm rm.cells rm.slots 2 :=
  ⟨my_callB 2 hT tb_1_152 tb_1_1 tb_1_155 (by decide +kernel) hR, hT _ tb_1_153, hT _ tb_1_154⟩
theorem cs_PS_62 (hT : ∀ w ∈ lw_g, w.before args s = true) (hR : rm.frames + 1 ≤ R.frames ∧ 8 + (3 + 11) + rm.locals ≤ R.locals) : CallW R s args R_PS R_Rt 62 y_Rt_begin b_Rt_begin 3 none (wc y_Rt_begin b_Rt_begin 3 none) rm rm.cells rm.slots 2 :=
  ⟨my_callB 2 hT tb_1_156 tb_1_4 tb_1_159 (by decide +kernel) hR, hT _ tb_1_157, hT _ tb_1_158⟩
theorem cs_law_39 (hT : ∀ w ∈ lw_g, w.before args s = true) (hR : rm.frames + 1 ≤ R.frames ∧ 8 + (2 + 11) + rm.locals ≤ R.locals) : CallW R s args R_law R_PS 39 y_PS_stop b_PS_stop 2 (some .boolean) (wc y_PS_stop b_PS_stop 2 (some .boolean)) rm rm.cells rm.slots 0 :=
  ⟨my_callB 0 hT tb_1_160 tb_1_1 tb_1_163 (by decide +kernel) hR, hT _ tb_1_161, hT _ tb_1_162⟩
theorem cs_law_44 (hT : ∀ w ∈ lw_g, w.before args s = true) (hR : rm.frames + 1 ≤ R.frames ∧ 8 + (3 + 11) + rm.locals ≤ R.locals) : CallW R s args R_law R_PS 44 y_PS_next b_PS_next 3 (some .int) (wc y_PS_next b_PS_next 3 (some .int)) rm rm.cells rm.slots 1 :=
  ⟨my_callB 1 hT tb_1_164 tb_1_1 tb_1_167 (by decide +kernel) hR, hT _ tb_1_165, hT _ tb_1_166⟩
theorem cs_PS_66 (hT : ∀ w ∈ lw_g, w.before args s = true) (hR : rm.frames + 1 ≤ R.frames ∧ 8 + (1 + 11) + rm.locals ≤ R.locals) : CallW R s args R_PS R_Rt 66 y_Rt_find b_Rt_find 1 (some .int) (wc y_Rt_find b_Rt_find 1 (some .int)) rm rm.cells rm.slots 0 :=
  ⟨my_callB 0 hT tb_1_168 tb_1_4 tb_1_171 (by decide +kernel) hR, hT _ tb_1_169, hT _ tb_1_170⟩
theorem cs_Rt_34 (hT : ∀ w ∈ lw_g, w.before args s = true) (hR : rm.frames + 1 ≤ R.frames ∧ 8 + (1 + 11) + rm.locals ≤ R.locals) : CallW R s args R_Rt R_St 34 y_St_behind b_St_behind 1 (some .int) (wc y_St_behind b_St_behind 1 (some .int)) rm rm.cells rm.slots 0 :=
  ⟨my_callB 0 hT tb_1_172 tb_1_2 tb_1_139 (by decide +kernel) hR, hT _ tb_1_137, hT _ tb_1_138⟩
theorem cs_Rt_38 (hT : ∀ w ∈ lw_g, w.before args s = true) (hR : rm.frames + 1 ≤ R.frames ∧ 8 + (2 + 11) + rm.locals ≤ R.locals) : CallW R s args R_Rt R_St 38 y_St_time b_St_time 2 (some .int) (wc y_St_time b_St_time 2 (some .int)) rm rm.cells rm.slots 1 :=
  ⟨my_callB 1 hT tb_1_173 tb_1_2 tb_1_151 (by decide +kernel) hR, hT _ tb_1_149, hT _ tb_1_150⟩
theorem cs_PS_70 (hT : ∀ w ∈ lw_g, w.before args s = true) (hR : rm.frames + 1 ≤ R.frames ∧ 8 + (2 + 11) + rm.locals ≤ R.locals) : CallW R s args R_PS R_St 70 y_St_size b_St_size 2 (some .int) (wc y_St_size b_St_size 2 (some .int)) rm rm.cells rm.slots 1 :=
  ⟨my_callB 1 hT tb_1_174 tb_1_2 tb_1_127 (by decide +kernel) hR, hT _ tb_1_125, hT _ tb_1_126⟩
theorem cs_PS_72 (hT : ∀ w ∈ lw_g, w.before args s = true) (hR : rm.frames + 1 ≤ R.frames ∧ 8 + (6 + 11) + rm.locals ≤ R.locals) : CallW R s args R_PS R_St 72 y_St_copy b_St_copy 6 none (wc y_St_copy b_St_copy 6 none) rm rm.cells rm.slots 2 :=
  ⟨my_callB 2 hT tb_1_175 tb_1_2 tb_1_178 (by decide +kernel) hR, hT _ tb_1_176, hT _ tb_1_177⟩
theorem cs_St_69 (hT : ∀ w ∈ lw_g, w.before args s = true) (hR : rm.frames + 1 ≤ R.frames ∧ 8 + (4 + 11) + rm.locals ≤ R.locals) : CallW R s args R_St R_St 69 y_St_place b_St_place 4 (some .int) (wc y_St_place b_St_place 4 (some .int)) rm rm.cells rm.slots 1 :=
  ⟨my_callB 1 hT tb_1_179 tb_1_2 tb_1_182 (by decide +kernel) hR, hT _ tb_1_181, hT _ ts_place⟩
theorem cs_law_48 (hT : ∀ w ∈ lw_g, w.before args s = true) (hR : rm.frames + 1 ≤ R.frames ∧ 8 + (2 + 11) + rm.locals ≤ R.locals) : CallW R s args R_law R_PS 48 y_PS_out b_PS_out 2 (some .int) (wc y_PS_out b_PS_out 2 (some .int)) rm rm.cells rm.slots 1 :=
  ⟨my_callB 1 hT tb_1_183 tb_1_1 tb_1_186 (by decide +kernel) hR, hT _ tb_1_184, hT _ tb_1_185⟩
theorem cs_law_52 (hT : ∀ w ∈ lw_g, w.before args s = true) (hR : rm.frames + 1 ≤ R.frames ∧ 8 + (2 + 11) + rm.locals ≤ R.locals) : CallW R s args R_law R_PS 52 y_PS_count b_PS_count 2 (some .int) (wc y_PS_count b_PS_count 2 (some .int)) rm rm.cells rm.slots 1 :=
  ⟨my_callB 1 hT tb_1_187 tb_1_1 tb_1_190 (by decide +kernel) hR, hT _ tb_1_188, hT _ tb_1_189⟩
theorem cs_PS_88 (hT : ∀ w ∈ lw_g, w.before args s = true) (hR : rm.frames + 1 ≤ R.frames ∧ 8 + (1 + 11) + rm.locals ≤ R.locals) : CallW R s args R_PS R_St 88 y_St_behind b_St_behind 1 (some .int) (wc y_St_behind b_St_behind 1 (some .int)) rm rm.cells rm.slots 0 :=
  ⟨my_callB 0 hT tb_1_191 tb_1_2 tb_1_139 (by decide +kernel) hR, hT _ tb_1_137, hT _ tb_1_138⟩
theorem cs_law_56 (hT : ∀ w ∈ lw_g, w.before args s = true) (hR : rm.frames + 1 ≤ R.frames ∧ 8 + (3 + 11) + rm.locals ≤ R.locals) : CallW R s args R_law R_PS 56 y_PS_about b_PS_about 3 (some .int) (wc y_PS_about b_PS_about 3 (some .int)) rm rm.cells rm.slots 2 :=
  ⟨my_callB 2 hT tb_1_192 tb_1_1 tb_1_195 (by decide +kernel) hR, hT _ tb_1_193, hT _ tb_1_194⟩
theorem cs_PS_100 (hT : ∀ w ∈ lw_g, w.before args s = true) (hR : rm.frames + 1 ≤ R.frames ∧ 8 + (2 + 11) + rm.locals ≤ R.locals) : CallW R s args R_PS R_St 100 y_St_time b_St_time 2 (some .int) (wc y_St_time b_St_time 2 (some .int)) rm rm.cells rm.slots 1 :=
  ⟨my_callB 1 hT tb_1_196 tb_1_2 tb_1_151 (by decide +kernel) hR, hT _ tb_1_149, hT _ tb_1_150⟩
theorem cs_law_61 (hT : ∀ w ∈ lw_g, w.before args s = true) (hR : rm.frames + 1 ≤ R.frames ∧ 8 + (3 + 11) + rm.locals ≤ R.locals) : CallW R s args R_law R_PS 61 y_PS_byteAt b_PS_byteAt 3 (some .int) (wc y_PS_byteAt b_PS_byteAt 3 (some .int)) rm rm.cells rm.slots 2 :=
  ⟨my_callB 2 hT tb_1_197 tb_1_1 tb_1_200 (by decide +kernel) hR, hT _ tb_1_198, hT _ tb_1_199⟩
theorem cs_PS_103 (hT : ∀ w ∈ lw_g, w.before args s = true) (hR : rm.frames + 1 ≤ R.frames ∧ 8 + (3 + 11) + rm.locals ≤ R.locals) : CallW R s args R_PS R_St 103 y_St_byteAt b_St_byteAt 3 (some .int) (wc y_St_byteAt b_St_byteAt 3 (some .int)) rm rm.cells rm.slots 2 :=
  ⟨my_callB 2 hT tb_1_201 tb_1_2 tb_1_204 (by decide +kernel) hR, hT _ tb_1_202, hT _ tb_1_203⟩
theorem cs_law_9 (hT : ∀ w ∈ lw_g, w.before args s = true) (hR : rm.frames + 1 ≤ R.frames ∧ 8 + (2 + 11) + rm.locals ≤ R.locals) : CallB R s args R_law 9 y_law_cell b_law_cell 2 (some .int) (wc y_law_cell b_law_cell 2 (some .int)) rm rm.cells rm.slots 2 ∧ (Cond.static y_law_cell).before args s = true :=
  ⟨my_callB 2 hT tb_1_205 tb_1_0 tb_1_207 (by decide +kernel) hR, hT _ tb_1_206⟩
theorem cs_law_20 (hT : ∀ w ∈ lw_g, w.before args s = true) (hR : rm.frames + 1 ≤ R.frames ∧ 8 + (2 + 11) + rm.locals ≤ R.locals) : CallB R s args R_law 20 y_Md_init b_Md_init 2 none (wc y_Md_init b_Md_init 2 none) rm rm.cells rm.slots 1 ∧ (y_Md_init).name = "<init>" ∧ (Cond.instanceMethod y_Md_init).before args s = true :=
  ⟨my_callB 1 hT tb_1_210 tb_1_5 tb_1_212 (by decide +kernel) hR, rfl, hT _ tb_1_211⟩
theorem cs_law_25 (hT : ∀ w ∈ lw_g, w.before args s = true) (hR : rm.frames + 1 ≤ R.frames ∧ 8 + (2 + 11) + rm.locals ≤ R.locals) : CallW R s args R_law R_Md 25 y_Md_put b_Md_put 2 (some .int) (wc y_Md_put b_Md_put 2 (some .int)) rm rm.cells rm.slots 1 :=
  ⟨my_callB 1 hT tb_2_29 tb_1_5 tb_2_32 (by decide +kernel) hR, hT _ tb_2_30, hT _ tb_2_31⟩
theorem cs_law_29 (hT : ∀ w ∈ lw_g, w.before args s = true) (hR : rm.frames + 1 ≤ R.frames ∧ 8 + (5 + 11) + rm.locals ≤ R.locals) : CallW R s args R_law R_Md 29 y_Md_keep b_Md_keep 5 (some .int) (wc y_Md_keep b_Md_keep 5 (some .int)) rm rm.cells rm.slots 1 :=
  ⟨my_callB 1 hT tb_2_33 tb_1_5 tb_2_36 (by decide +kernel) hR, hT _ tb_2_34, hT _ tb_2_35⟩
theorem cs_Md_42 (hT : ∀ w ∈ lw_g, w.before args s = true) (hR : rm.frames + 1 ≤ R.frames ∧ 8 + (3 + 11) + rm.locals ≤ R.locals) : CallW R s args R_Md R_Md 42 y_Md_goes b_Md_goes 3 none (wc y_Md_goes b_Md_goes 3 none) rm rm.cells rm.slots 0 :=
  ⟨my_callB 0 hT tb_2_37 tb_1_5 tb_2_40 (by decide +kernel) hR, hT _ tb_2_39, hT _ ts_goes⟩
theorem cs_law_33 (hT : ∀ w ∈ lw_g, w.before args s = true) (hR : rm.frames + 1 ≤ R.frames ∧ 8 + (3 + 11) + rm.locals ≤ R.locals) : CallW R s args R_law R_Md 33 y_Md_delete b_Md_delete 3 (some .int) (wc y_Md_delete b_Md_delete 3 (some .int)) rm rm.cells rm.slots 1 :=
  ⟨my_callB 1 hT tb_2_41 tb_1_5 tb_2_44 (by decide +kernel) hR, hT _ tb_2_42, hT _ tb_2_43⟩
theorem cs_law_38 (hT : ∀ w ∈ lw_g, w.before args s = true) (hR : rm.frames + 1 ≤ R.frames ∧ 8 + (3 + 11) + rm.locals ≤ R.locals) : CallW R s args R_law R_Md 38 y_Md_begin b_Md_begin 3 (some .boolean) (wc y_Md_begin b_Md_begin 3 (some .boolean)) rm rm.cells rm.slots 2 :=
  ⟨my_callB 2 hT tb_2_45 tb_1_5 tb_2_48 (by decide +kernel) hR, hT _ tb_2_46, hT _ tb_2_47⟩
theorem cs_law_43 (hT : ∀ w ∈ lw_g, w.before args s = true) (hR : rm.frames + 1 ≤ R.frames ∧ 8 + (2 + 11) + rm.locals ≤ R.locals) : CallW R s args R_law R_Md 43 y_Md_stop b_Md_stop 2 (some .boolean) (wc y_Md_stop b_Md_stop 2 (some .boolean)) rm rm.cells rm.slots 0 :=
  ⟨my_callB 0 hT tb_2_49 tb_1_5 tb_2_52 (by decide +kernel) hR, hT _ tb_2_50, hT _ tb_2_51⟩
theorem cs_law_47 (hT : ∀ w ∈ lw_g, w.before args s = true) (hR : rm.frames + 1 ≤ R.frames ∧ 8 + (5 + 11) + rm.locals ≤ R.locals) : CallW R s args R_law R_Md 47 y_Md_next b_Md_next 5 (some .int) (wc y_Md_next b_Md_next 5 (some .int)) rm rm.cells rm.slots 1 :=
  ⟨my_callB 1 hT tb_2_53 tb_1_5 tb_2_56 (by decide +kernel) hR, hT _ tb_2_54, hT _ tb_2_55⟩
theorem cs_Md_67 (hT : ∀ w ∈ lw_g, w.before args s = true) (hR : rm.frames + 1 ≤ R.frames ∧ 8 + (4 + 11) + rm.locals ≤ R.locals) : CallW R s args R_Md R_Md 67 y_Md_start b_Md_start 4 (some .int) (wc y_Md_start b_Md_start 4 (some .int)) rm rm.cells rm.slots 1 :=
  ⟨my_callB 1 hT tb_2_57 tb_1_5 tb_2_60 (by decide +kernel) hR, hT _ tb_2_59, hT _ ts_start⟩
theorem cs_law_51 (hT : ∀ w ∈ lw_g, w.before args s = true) (hR : rm.frames + 1 ≤ R.frames ∧ 8 + (2 + 11) + rm.locals ≤ R.locals) : CallW R s args R_law R_Md 51 y_Md_out b_Md_out 2 (some .int) (wc y_Md_out b_Md_out 2 (some .int)) rm rm.cells rm.slots 1 :=
  ⟨my_callB 1 hT tb_2_61 tb_1_5 tb_2_64 (by decide +kernel) hR, hT _ tb_2_62, hT _ tb_2_63⟩
theorem cs_law_55 (hT : ∀ w ∈ lw_g, w.before args s = true) (hR : rm.frames + 1 ≤ R.frames ∧ 8 + (2 + 11) + rm.locals ≤ R.locals) : CallW R s args R_law R_Md 55 y_Md_count b_Md_count 2 (some .int) (wc y_Md_count b_Md_count 2 (some .int)) rm rm.cells rm.slots 1 :=
  ⟨my_callB 1 hT tb_2_65 tb_1_5 tb_2_68 (by decide +kernel) hR, hT _ tb_2_66, hT _ tb_2_67⟩
theorem cs_law_60 (hT : ∀ w ∈ lw_g, w.before args s = true) (hR : rm.frames + 1 ≤ R.frames ∧ 8 + (3 + 11) + rm.locals ≤ R.locals) : CallW R s args R_law R_Md 60 y_Md_about b_Md_about 3 (some .int) (wc y_Md_about b_Md_about 3 (some .int)) rm rm.cells rm.slots 2 :=
  ⟨my_callB 2 hT tb_2_69 tb_1_5 tb_2_72 (by decide +kernel) hR, hT _ tb_2_70, hT _ tb_2_71⟩
theorem cs_law_64 (hT : ∀ w ∈ lw_g, w.before args s = true) (hR : rm.frames + 1 ≤ R.frames ∧ 8 + (3 + 11) + rm.locals ≤ R.locals) : CallW R s args R_law R_Md 64 y_Md_byteAt b_Md_byteAt 3 (some .int) (wc y_Md_byteAt b_Md_byteAt 3 (some .int)) rm rm.cells rm.slots 2 :=
  ⟨my_callB 2 hT tb_2_73 tb_1_5 tb_2_76 (by decide +kernel) hR, hT _ tb_2_74, hT _ tb_2_75⟩
end LY3
end
section
/-! ===== the mathematical value: numbers as packets came; no machine here ===== -/
/-- R: room; o: number of the oldest; c: how many have come; B i: how many bytes came before packet i -/
def Hs (R o c : Nat) (B : Nat → Nat) : Prop := 64 ≤ R ∧ R ≤ 16384 ∧ o ≤ c ∧ c ≤ 1000 ∧ B c ≤ 1000000 ∧ B c ≤ B o + R ∧ ∀ i, i < c → B i < B (i + 1) ∧ B (i + 1) ≤ B i + 512
theorem hs_mono {R o c : Nat} {B : Nat → Nat} (h : Hs R o c B) : ∀ (j i : Nat), i ≤ j → j ≤ c → B i + (j - i) ≤ B j
  | 0, i, h1, _ => by
    have q : i = 0 := by omega
    rw [q]; omega
  | j + 1, i, h1, h2 => by
    rcases Nat.lt_or_ge i (j + 1) with q | q
    · have a := hs_mono h j i (by omega) (by omega)
      have b := (h.2.2.2.2.2.2 j (by omega)).1
      omega
    · have q2 : i = j + 1 := by omega
      rw [q2]; omega
theorem md_inj {R a x y : Nat} (h1 : a ≤ x) (h2 : x < a + R) (h3 : a ≤ y) (h4 : y < a + R) (h : x % R = y % R) : x = y := by
  have e1 := Nat.div_add_mod x R
  have e2 := Nat.div_add_mod y R
  rcases Nat.lt_trichotomy (x / R) (y / R) with q | q | q
  · have k : R * (x / R + 1) ≤ R * (y / R) := Nat.mul_le_mul_left R q
    rw [Nat.mul_add, Nat.mul_one] at k
    omega
  · rw [q] at e1
    omega
  · have k : R * (y / R + 1) ≤ R * (x / R) := Nat.mul_le_mul_left R q
    rw [Nat.mul_add, Nat.mul_one] at k
    omega
theorem md_add {R b j : Nat} (h0 : 0 < R) (hj : j ≤ R) : (b % R + j < R → (b + j) % R = b % R + j) ∧ (R ≤ b % R + j → (b + j) % R = b % R + j - R) := by
  have e : (b + j) % R = (b % R + j) % R := (Nat.mod_add_mod b R j).symm
  have h1 := Nat.mod_lt b h0
  refine ⟨fun h => ?_, fun h => ?_⟩
  · rw [e, Nat.mod_eq_of_lt h]
  · rw [e, Nat.mod_eq_sub_mod h, Nat.mod_eq_of_lt (by omega)]
def RgT (R o c : Nat) (T tf : Nat → Int32) : Prop := ∀ i, o ≤ i → i < c → tf (i % R) = T i
def RgZ (R o c : Nat) (B : Nat → Nat) (sf : Nat → Int32) : Prop := ∀ i, o ≤ i → i < c → sf (i % R) = nI (B (i + 1) - B i)
def RgS (R o c : Nat) (B : Nat → Nat) (S bf : Nat → Int32) : Prop := ∀ x, B o ≤ x → x < B c → bf (x % R) = S x
/-- the ring holds the history -/
def StR (R o c : Nat) (T : Nat → Int32) (B : Nat → Nat) (S bf tf sf : Nat → Int32) : Prop := Hs R o c B ∧ RgT R o c T tf ∧ RgZ R o c B sf ∧ RgS R o c B S bf ∧ by8 bf
/-- the plain form holds the history -/
def MdR (R o c : Nat) (T : Nat → Int32) (B : Nat → Nat) (S mt mz mb : Nat → Int32) : Prop := Hs R o c B ∧ (∀ k, o + k < c → mt k = T (o + k)) ∧ (∀ k, o + k < c → mz k = nI (B (o + k + 1) - B (o + k))) ∧ (∀ j, B o + j < B c → mb j = S (B o + j)) ∧ by8 mb
theorem hs_drop {R o c : Nat} {B : Nat → Nat} (h : Hs R o c B) (ho : o < c) : Hs R (o + 1) c B := by
  obtain ⟨a1, a2, a3, a4, a5, a6, a7⟩ := h
  have b := a7 o ho
  exact ⟨a1, a2, by omega, a4, a5, by omega, a7⟩
theorem str_drop {R o c : Nat} {T : Nat → Int32} {B : Nat → Nat} {S bf tf sf : Nat → Int32} (h : StR R o c T B S bf tf sf) (ho : o < c) : StR R (o + 1) c T B S bf tf sf := by
  obtain ⟨h1, h2, h3, h4, h5⟩ := h
  have b := h1.2.2.2.2.2.2 o ho
  exact ⟨hs_drop h1 ho, fun i p q => h2 i (by omega) q, fun i p q => h3 i (by omega) q, fun x p q => h4 x (by omega) q, h5⟩
theorem mdr_drop {R o c : Nat} {T : Nat → Int32} {B : Nat → Nat} {S mt mz mb mt' mz' mb' : Nat → Int32} (h : MdR R o c T B S mt mz mb) (ho : o < c) (k1 : ∀ k, o + 1 + k < c → mt' k = mt (k + 1)) (k2 : ∀ k, o + 1 + k < c → mz' k = mz (k + 1)) (k3 : ∀ j, B (o + 1) + j < B c → mb' j = mb (j + (B (o + 1) - B o))) (k4 : by8 mb') : MdR R (o + 1) c T B S mt' mz' mb' := by
  obtain ⟨h1, h2, h3, h4, h5⟩ := h
  have b := h1.2.2.2.2.2.2 o ho
  refine ⟨hs_drop h1 ho, fun k q => ?_, fun k q => ?_, fun j q => ?_, k4⟩
  · rw [k1 k q, h2 (k + 1) (by omega), show o + (k + 1) = o + 1 + k by omega]
  · rw [k2 k q, h3 (k + 1) (by omega), show o + (k + 1) = o + 1 + k by omega]
  · rw [k3 j q, h4 (j + (B (o + 1) - B o)) (by omega), show B o + (j + (B (o + 1) - B o)) = B (o + 1) + j by omega]
def updB (B : Nat → Nat) (k v : Nat) : Nat → Nat := fun j => if j = k then v else B j
def apS (S : Nat → Int32) (b n : Nat) (f : Nat → Int32) : Nat → Int32 := fun x => if b ≤ x ∧ x < b + n then f (x - b) else S x
theorem updB_s {B : Nat → Nat} {k v : Nat} : updB B k v k = v := if_pos rfl
theorem updB_n {B : Nat → Nat} {k v j : Nat} (h : j ≠ k) : updB B k v j = B j := if_neg h
theorem hs_keep {R o c n : Nat} {B : Nat → Nat} (h : Hs R o c B) (hn : 1 ≤ n) (hn2 : n ≤ 512) (hr : B c - B o + n ≤ R) (hc : c < 1000) (hB : B c + n ≤ 1000000) : Hs R o (c + 1) (updB B (c + 1) (B c + n)) := by
  obtain ⟨a1, a2, a3, a4, a5, a6, a7⟩ := id h
  have m := hs_mono h c o a3 (Nat.le_refl c)
  have e1 : ∀ i, i ≤ c → updB B (c + 1) (B c + n) i = B i := fun i hi => updB_n (by omega)
  refine ⟨a1, a2, by omega, by omega, by rw [updB_s]; exact hB, by rw [updB_s, e1 o a3]; omega, fun i hi => ?_⟩
  rcases Nat.lt_or_ge i c with q | q
  · rw [e1 i (by omega), e1 (i + 1) (by omega)]
    exact a7 i q
  · have q2 : i = c := by omega
    rw [q2, updB_s, e1 c (Nat.le_refl c)]
    omega
theorem rgs_keep {R o c n : Nat} {B : Nat → Nat} {S bf xf : Nat → Int32} (h : Hs R o c B) (h4 : RgS R o c B S bf) (hr : B c - B o + n ≤ R) (x : Nat) (hx1 : B o ≤ x) (hx2 : x < B c + n) :
    va_cpy xf (va_cpy xf bf 0 (B c % R) (min n (R - B c % R))) (min n (R - B c % R)) 0 (n - min n (R - B c % R)) (x % R) = apS S (B c) n xf x := by
  have hR : 0 < R := by have := h.1; omega
  have hm := hs_mono h c o h.2.2.1 (Nat.le_refl c)
  have hat : B c % R < R := Nat.mod_lt _ hR
  have hxR : x % R < R := Nat.mod_lt _ hR
  generalize hp : min n (R - B c % R) = pt
  have p3 : pt ≤ n ∧ pt ≤ R - B c % R ∧ (pt = n ∨ pt = R - B c % R) := by omega
  clear hp
  unfold va_cpy apS
  by_cases hx : B c ≤ x ∧ x < B c + n
  · rw [if_pos hx]
    obtain ⟨j, rfl⟩ : ∃ j, x = B c + j := ⟨x - B c, by omega⟩
    have md := md_add (R := R) (b := B c) (j := j) hR (by omega)
    rcases Nat.lt_or_ge (B c % R + j) R with q | q
    · rw [md.1 q, if_neg (by omega), if_pos (by omega)]
      exact congrArg xf (by omega)
    · rw [md.2 q, if_pos (by omega)]
      exact congrArg xf (by omega)
  · rw [if_neg hx]
    have hxc : x < B c := by omega
    have key : ∀ j, j < n → x % R ≠ (B c + j) % R := fun j hj q => by
      have k := md_inj (R := R) (a := B o) hx1 (by omega) (show B o ≤ B c + j by omega) (by omega) q
      omega
    rw [if_neg, if_neg, h4 x hx1 hxc]
    · rintro ⟨u, v⟩
      have k := key (x % R - B c % R) (by omega)
      rw [(md_add (R := R) (b := B c) (j := x % R - B c % R) hR (by omega)).1 (by omega)] at k
      omega
    · rintro ⟨u, v⟩
      have k := key (pt + x % R) (by omega)
      rw [(md_add (R := R) (b := B c) (j := pt + x % R) hR (by omega)).2 (by omega)] at k
      omega
theorem str_keep {R o c n : Nat} {T : Nat → Int32} {B : Nat → Nat} {S bf tf sf xf : Nat → Int32} {t : Int32} (h : StR R o c T B S bf tf sf) (hn : 1 ≤ n) (hn2 : n ≤ 512) (hr : B c - B o + n ≤ R) (hc : c < 1000) (hB : B c + n ≤ 1000000) (hxf : by8 xf) :
    StR R o (c + 1) (upd T c t) (updB B (c + 1) (B c + n)) (apS S (B c) n xf) (va_cpy xf (va_cpy xf bf 0 (B c % R) (min n (R - B c % R))) (min n (R - B c % R)) 0 (n - min n (R - B c % R))) (upd tf (c % R) t) (upd sf (c % R) (nI n)) := by
  obtain ⟨h1, h2, h3, h4, h5⟩ := h
  have hm := hs_mono h1 c o h1.2.2.1 (Nat.le_refl c)
  have hoc := h1.2.2.1
  have e1 : ∀ i, i ≤ c → updB B (c + 1) (B c + n) i = B i := fun i hi => updB_n (by omega)
  have ne : ∀ i, o ≤ i → i < c → i % R ≠ c % R := fun i p q k => by
    have := md_inj (R := R) (a := o) p (by omega) hoc (by omega) k
    omega
  refine ⟨hs_keep h1 hn hn2 hr hc hB, fun i p q => ?_, fun i p q => ?_, fun x p q => ?_, by8_cpy hxf (by8_cpy hxf h5)⟩
  · rcases Nat.lt_or_ge i c with z | z
    · rw [pk_un (ne i p z), pk_un (by omega), h2 i p z]
    · have q2 : i = c := by omega
      rw [q2, pk_us, pk_us]
  · rcases Nat.lt_or_ge i c with z | z
    · rw [pk_un (ne i p z), e1 i (by omega), e1 (i + 1) (by omega), h3 i p z]
    · have q2 : i = c := by omega
      rw [q2, pk_us, updB_s, e1 c (Nat.le_refl c)]
      exact congrArg nI (by omega)
  · rw [e1 o hoc] at p
    rw [updB_s] at q
    exact rgs_keep h1 h4 hr x p q
theorem mdr_keep {R o c n : Nat} {T : Nat → Int32} {B : Nat → Nat} {S mt mz mb mb' xf : Nat → Int32} {t : Int32} (h : MdR R o c T B S mt mz mb) (hn : 1 ≤ n) (hn2 : n ≤ 512) (hr : B c - B o + n ≤ R) (hc : c < 1000) (hB : B c + n ≤ 1000000) (k1 : ∀ j, j < B c - B o → mb' j = mb j) (k2 : ∀ j, j < n → mb' (B c - B o + j) = xf j) (k3 : by8 mb') :
    MdR R o (c + 1) (upd T c t) (updB B (c + 1) (B c + n)) (apS S (B c) n xf) (upd mt (c - o) t) (upd mz (c - o) (nI n)) mb' := by
  obtain ⟨h1, h2, h3, h4, h5⟩ := h
  have hoc := h1.2.2.1
  have hm := hs_mono h1 c o hoc (Nat.le_refl c)
  have e1 : ∀ i, i ≤ c → updB B (c + 1) (B c + n) i = B i := fun i hi => updB_n (by omega)
  refine ⟨hs_keep h1 hn hn2 hr hc hB, fun k q => ?_, fun k q => ?_, fun j q => ?_, k3⟩
  · rcases Nat.lt_or_ge (o + k) c with z | z
    · rw [pk_un (by omega), pk_un (by omega), h2 k z]
    · have q2 : k = c - o := by omega
      rw [q2, pk_us, show o + (c - o) = c by omega, pk_us]
  · rcases Nat.lt_or_ge (o + k) c with z | z
    · rw [pk_un (by omega), e1 (o + k) (by omega), e1 (o + k + 1) (by omega), h3 k z]
    · have q2 : k = c - o := by omega
      rw [q2, pk_us, show o + (c - o) = c by omega, updB_s, e1 c (Nat.le_refl c)]
      exact congrArg nI (by omega)
  · rw [e1 o hoc, updB_s] at q
    rw [e1 o hoc]
    unfold apS
    rcases Nat.lt_or_ge (B o + j) (B c) with z | z
    · rw [if_neg (by omega), k1 j (by omega), h4 j z]
    · rw [if_pos (by omega)]
      have := k2 (j - (B c - B o)) (by omega)
      rw [show B c - B o + (j - (B c - B o)) = j by omega] at this
      rw [this]
      exact congrArg xf (by omega)
/-- what a copy of packet i out of the ring brings -/
theorem str_copy {R o c : Nat} {T : Nat → Int32} {B : Nat → Nat} {S bf tf sf : Nat → Int32} (h : StR R o c T B S bf tf sf) {i : Nat} (hi : o ≤ i) (hic : i < c) (g : Nat → Int32) (j : Nat) (hj : j < B (i + 1) - B i) :
    va_cpy bf (va_cpy bf g (B i % R) 0 (min (B (i + 1) - B i) (R - B i % R))) 0 (min (B (i + 1) - B i) (R - B i % R)) (B (i + 1) - B i - min (B (i + 1) - B i) (R - B i % R)) j = S (B i + j) := by
  obtain ⟨h1, h2, h3, h4, h5⟩ := h
  have hR : 0 < R := by have := h1.1; omega
  have m1 := hs_mono h1 i o hi (by omega)
  have m2 := hs_mono h1 c (i + 1) (by omega) (Nat.le_refl c)
  have a6 := h1.2.2.2.2.2.1
  have hat : B i % R < R := Nat.mod_lt _ hR
  generalize hz : B (i + 1) - B i = z at hj ⊢
  generalize hp : min z (R - B i % R) = pt
  have p3 : pt ≤ z ∧ pt ≤ R - B i % R ∧ (pt = z ∨ pt = R - B i % R) := by omega
  clear hp
  have md := md_add (R := R) (b := B i) (j := j) hR (by omega)
  have hS := h4 (B i + j) (by omega) (by omega)
  rw [← hS]
  unfold va_cpy
  rcases Nat.lt_or_ge j pt with q | q
  · rw [if_neg (by omega), if_pos (by omega), md.1 (by omega)]
    exact congrArg bf (by omega)
  · rw [if_pos (by omega), md.2 (by omega)]
    exact congrArg bf (by omega)
/-! ===== what the calls answer ===== -/
def KeepTo (R c : Nat) (B : Nat → Nat) (n o o' : Nat) : Prop := o ≤ o' ∧ o' ≤ c ∧ B c - B o' + n ≤ R ∧ ∀ i, o ≤ i → i < o' → R < B c - B i + n
theorem keepTo_one {R c n o a b : Nat} {B : Nat → Nat} (h1 : KeepTo R c B n o a) (h2 : KeepTo R c B n o b) : a = b := by
  obtain ⟨a1, a2, a3, a4⟩ := h1
  obtain ⟨b1, b2, b3, b4⟩ := h2
  rcases Nat.lt_trichotomy a b with q | q | q
  · have := b4 a a1 q
    omega
  · exact q
  · have := a4 b b1 q
    omega
def DelTo (c : Nat) (T : Nat → Int32) (t : Int32) (o o' : Nat) : Prop := o ≤ o' ∧ o' ≤ c ∧ (∀ i, o ≤ i → i < o' → T i ≤ t) ∧ (o' < c → ¬ T o' ≤ t)
theorem delTo_one {c o a b : Nat} {T : Nat → Int32} {t : Int32} (h1 : DelTo c T t o a) (h2 : DelTo c T t o b) : a = b := by
  obtain ⟨a1, a2, a3, a4⟩ := h1
  obtain ⟨b1, b2, b3, b4⟩ := h2
  rcases Nat.lt_trichotomy a b with q | q | q
  · exact absurd (b3 a a1 q) (a4 (by omega))
  · exact q
  · exact absurd (a3 b b1 q) (b4 (by omega))
def FindTo (c : Nat) (T : Nat → Int32) (fr to : Int32) (k n : Nat) : Prop := k ≤ n ∧ n ≤ c ∧ (∀ i, k ≤ i → i < n → T i < fr ∨ to < T i) ∧ (n < c → ¬ T n < fr ∧ ¬ to < T n)
theorem findTo_one {c k a b : Nat} {T : Nat → Int32} {fr to : Int32} (h1 : FindTo c T fr to k a) (h2 : FindTo c T fr to k b) : a = b := by
  obtain ⟨a1, a2, a3, a4⟩ := h1
  obtain ⟨b1, b2, b3, b4⟩ := h2
  rcases Nat.lt_trichotomy a b with q | q | q
  · have k1 := b3 a a1 q
    have k2 := a4 (by omega)
    rcases k1 with k1 | k1
    · exact absurd k1 k2.1
    · exact absurd k1 k2.2
  · exact q
  · have k1 := a3 b b1 q
    have k2 := b4 (by omega)
    rcases k1 with k1 | k1
    · exact absurd k1 k2.1
    · exact absurd k1 k2.2
/-- next(most): r the answer, g' n' m' f' the flag, the place, the length and the bytes behind it -/
def NxS (o c : Nat) (T : Nat → Int32) (B : Nat → Nat) (S : Nat → Int32) (most g fr to : Int32) (nx on : Nat) (f : Nat → Int32) (r g' : Int32) (nx' on' : Nat) (f' : Nat → Int32) : Prop :=
  (g = 0 ∧ r = -1 ∧ g' = 0 ∧ nx' = nx ∧ on' = on ∧ ∀ j, j < on → f' j = f j) ∨
  (g ≠ 0 ∧ ∃ n, FindTo c T fr to (max nx o) n ∧
    ((n = c ∧ r = -1 ∧ g' = 0 ∧ nx' = c ∧ on' = on ∧ ∀ j, j < on → f' j = f j) ∨
     (n < c ∧ most < nI (B (n + 1) - B n) ∧ r = -2 ∧ g' = g ∧ nx' = n ∧ on' = on ∧ ∀ j, j < on → f' j = f j) ∨
     (n < c ∧ ¬ most < nI (B (n + 1) - B n) ∧ r = nI (B (n + 1) - B n) ∧ g' = g ∧ nx' = n + 1 ∧ on' = B (n + 1) - B n ∧ ∀ j, j < B (n + 1) - B n → f' j = S (B n + j))))
theorem nxS_one {o c : Nat} {T : Nat → Int32} {B : Nat → Nat} {S : Nat → Int32} {most g fr to : Int32} {nx on : Nat} {f h : Nat → Int32} {r1 r2 g1 g2 : Int32} {n1 n2 m1 m2 : Nat} {f1 f2 : Nat → Int32} (hf : ∀ j, j < on → f j = h j) (h1 : NxS o c T B S most g fr to nx on f r1 g1 n1 m1 f1) (h2 : NxS o c T B S most g fr to nx on h r2 g2 n2 m2 f2) :
    r1 = r2 ∧ g1 = g2 ∧ n1 = n2 ∧ m1 = m2 ∧ ∀ j, j < m1 → f1 j = f2 j := by
  rcases h1 with ⟨a0, a1, a2, a3, a4, a5⟩ | ⟨a0, a, af, ha⟩
  · rcases h2 with ⟨b0, b1, b2, b3, b4, b5⟩ | ⟨b0, -⟩
    · refine ⟨by rw [a1, b1], by rw [a2, b2], by rw [a3, b3], by rw [a4, b4], fun j hj => ?_⟩
      rw [a4] at hj
      rw [a5 j hj, b5 j hj, hf j hj]
    · exact absurd a0 b0
  · rcases h2 with ⟨b0, -⟩ | ⟨b0, b, bf, hb⟩
    · exact absurd b0 a0
    · have e := findTo_one af bf
      subst e
      rcases ha with ⟨a1, a2, a3, a4, a5, a6⟩ | ⟨a1, a7, a2, a3, a4, a5, a6⟩ | ⟨a1, a7, a2, a3, a4, a5, a6⟩ <;> rcases hb with ⟨b1, b2, b3, b4, b5, b6⟩ | ⟨b1, b7, b2, b3, b4, b5, b6⟩ | ⟨b1, b7, b2, b3, b4, b5, b6⟩
      · refine ⟨by rw [a2, b2], by rw [a3, b3], by rw [a4, b4], by rw [a5, b5], fun j hj => ?_⟩
        rw [a5] at hj
        rw [a6 j hj, b6 j hj, hf j hj]
      · omega
      · omega
      · omega
      · refine ⟨by rw [a2, b2], by rw [a3, b3], by rw [a4, b4], by rw [a5, b5], fun j hj => ?_⟩
        rw [a5] at hj
        rw [a6 j hj, b6 j hj, hf j hj]
      · exact absurd a7 b7
      · omega
      · exact absurd b7 a7
      · refine ⟨by rw [a2, b2], by rw [a3, b3], by rw [a4, b4], by rw [a5, b5], fun j hj => ?_⟩
        rw [a5] at hj
        rw [a6 j hj, b6 j hj]
def outF (on : Nat) (f : Nat → Int32) (j : Int32) : Int32 := if j < 0 ∨ nI on ≤ j then -1 else f j.toNatClampNeg &&& 255
def cntF (R o c : Nat) (B : Nat → Nat) (dr de on : Nat) (g w : Int32) : Int32 := if w = 0 then nI (c - o) else if w = 1 then nI (B c - B o) else if w = 2 then nI c else if w = 3 then nI dr else if w = 4 then nI de else if w = 5 then (if g = 0 then 0 else 1) else if w = 6 then nI on else if w = 7 then nI R else -1
def aboF (o c : Nat) (T : Nat → Int32) (B : Nat → Nat) (k w : Int32) : Int32 := if k < 0 ∨ nI (c - o) ≤ k then -1 else if w = 0 then T (o + k.toNatClampNeg) else if w = 1 then nI (B (o + k.toNatClampNeg + 1) - B (o + k.toNatClampNeg)) else -1
def bytF (o c : Nat) (B : Nat → Nat) (S : Nat → Int32) (k j : Int32) : Int32 := if k < 0 ∨ nI (c - o) ≤ k then -1 else if j < 0 ∨ nI (B (o + k.toNatClampNeg + 1) - B (o + k.toNatClampNeg)) ≤ j then -1 else S (B (o + k.toNatClampNeg) + j.toNatClampNeg) &&& 255
theorem sh16 : ∀ n, n < 513 → (nI n).toInt16.toInt32 = nI n := by decide +kernel
end
section
/-! ===== PacketStore$Store: a world of four cells: the object, its bytes, times, sizes ===== -/
abbrev vSt (st ba ta sa : Nat) (cB cI cS : ClassId) (R ol mn fi us dr de : Nat) (bf tf sf : Nat → Int32) : va_W := [(st, .inr (1, [.ref ba, .ref ta, .ref sa, .int (nI ol), .int (nI mn), .int (nI fi), .int (nI us), .int (nI dr), .int (nI de)])), (ba, .inl (cB, R, .inl bf)), (ta, .inl (cI, R, .inl tf)), (sa, .inl (cS, R, .inl sf))]
abbrev vS5 (st ba ta sa xa : Nat) (cB cI cS cX : ClassId) (R ol mn fi us dr de : Nat) (bf tf sf xf : Nat → Int32) : va_W := [(st, .inr (1, [.ref ba, .ref ta, .ref sa, .int (nI ol), .int (nI mn), .int (nI fi), .int (nI us), .int (nI dr), .int (nI de)])), (ba, .inl (cB, R, .inl bf)), (ta, .inl (cI, R, .inl tf)), (sa, .inl (cS, R, .inl sf)), (xa, .inl (cX, 512, .inl xf))]
abbrev yS5 (cB cI cS cX : ClassId) : List (ClassId × FieldType) := [(cB, .byte), (cI, .int), (cS, .short), (cX, .byte)]
abbrev ySt (cB cI cS : ClassId) : List (ClassId × FieldType) := [(cB, .byte), (cI, .int), (cS, .short)]
set_option maxHeartbeats 4000000 in
set_option maxRecDepth 100000 in
/-- row(k) = k % R -/
theorem c_St_row (l : Launch) (D : va_G) (st ba ta sa : Nat) (cB cI cS : ClassId) (R ol mn fi us dr de : Nat) (bf tf sf : Nat → Int32) (k : Nat) (hk : k < 2 ^ 31) (h0 : 0 < R) (hR : R < 2 ^ 31) : Met l y_St_row (wc y_St_row b_St_row 2 (some .int)) ({ frames := 0, cells := 0, slots := 0, locals := 0 }) (va_Pc [.ref st, .int (nI k)] (roB D (vSt st ba ta sa cB cI cS R ol mn fi us dr de bf tf sf) (ySt cB cI cS))) (vp_Si (fun r => r = nI (k % R))) 0 0 (fun _ => False) := by
  refine met_start (by decide) (Nat.le_of_ble_eq_true rfl) ?_
  intro p e s m below meth cd hx hb hr hT hown hlk hml hnm hB ls hl
  obtain ⟨hP, hK⟩ := hB
  have hown : s.vm.findClass R_St = some m.cls := hown
  have hP : va_P D classes [(st, .inr (1, [.ref ba, .ref ta, .ref sa, .int (nI ol), .int (nI mn), .int (nI fi), .int (nI us), .int (nI dr), .int (nI de)])), (ba, .inl (cB, R, .inl bf)), (ta, .inl (cI, R, .inl tf)), (sa, .inl (cS, R, .inl sf))] s.heap := hP
  have hK : va_K D classes [(cB, .byte), (cI, .int), (cS, .short)] s := hK
  have hl : lv_has ls 2 [(0, .ref st), (1, .int (nI k))] := hl
  refine lv_iload_n hx hb d_St_row_0 rfl (lv_at hl 1 rfl) ?_
  refine lv_aload_n hx hb d_St_row_1 rfl (lv_at hl 0 rfl) ?_
  refine gf_St_13 hx hb hT hown hK hP 0 rfl rfl d_St_row_2 ?_
  refine nv_alen hx hb hK hP 2 1 rfl rfl d_St_row_5 ?_
  refine nv_irem hx hb hk h0 hR d_St_row_6 ?_
  exact ro_iret hx hb hr hlk d_St_row_7 rfl
set_option maxHeartbeats 4000000 in
set_option maxRecDepth 100000 in
/-- size(k) -/
theorem c_St_size (l : Launch) (D : va_G) (st ba ta sa : Nat) (cB cI cS : ClassId) (R ol mn fi us dr de : Nat) (bf tf sf : Nat → Int32) (k : Nat) (hk : k < 2 ^ 31) (h0 : 0 < R) (hR : R < 2 ^ 31) : Met l y_St_size (wc y_St_size b_St_size 2 (some .int)) ({ frames := 1, cells := 0, slots := 0, locals := 21 }) (va_Pc [.ref st, .int (nI k)] (roB D (vSt st ba ta sa cB cI cS R ol mn fi us dr de bf tf sf) (ySt cB cI cS))) (vp_Si (fun r => r = sf (k % R))) 0 0 (fun _ => False) := by
  refine met_start (by decide) (Nat.le_of_ble_eq_true rfl) ?_
  intro p e s m below meth cd hx hb hr hT hown hlk hml hnm hB ls hl
  obtain ⟨hP, hK⟩ := hB
  have hown : s.vm.findClass R_St = some m.cls := hown
  have hP : va_P D classes [(st, .inr (1, [.ref ba, .ref ta, .ref sa, .int (nI ol), .int (nI mn), .int (nI fi), .int (nI us), .int (nI dr), .int (nI de)])), (ba, .inl (cB, R, .inl bf)), (ta, .inl (cI, R, .inl tf)), (sa, .inl (cS, R, .inl sf))] s.heap := hP
  have hK : va_K D classes [(cB, .byte), (cI, .int), (cS, .short)] s := hK
  have hl : lv_has ls 2 [(0, .ref st), (1, .int (nI k))] := hl
  refine lv_aload_n hx hb d_St_size_0 rfl (lv_at hl 0 rfl) ?_
  refine gf_St_17 hx hb hT hown hK hP 0 rfl rfl d_St_size_1 ?_
  refine lv_aload_n hx hb d_St_size_4 rfl (lv_at hl 0 rfl) ?_
  refine lv_iload_n hx hb d_St_size_5 rfl (lv_at hl 1 rfl) ?_
  refine ro_calli (ci := 1) (As := [.int (nI k)]) (rest := [.ref sa]) hx hb hml hT hown (c_St_row l D st ba ta sa cB cI cS R ol mn fi us dr de bf tf sf k hk h0 hR) (cs_St_21 hT ⟨(Nat.le_of_ble_eq_true rfl), (Nat.le_of_ble_eq_true rfl)⟩) (hK.sub [0, 1, 2] rfl) (hP.sub [0, 1, 2, 3] rfl) 0 rfl rfl rfl hl.1 rfl (Nat.le_of_ble_eq_true rfl) d_St_size_6 ⟨(Nat.le_of_ble_eq_true rfl), (Nat.le_of_ble_eq_true rfl)⟩ (fun r_6 er_6 => ?_)
  subst er_6
  refine nv_sald hx hb hK hP 3 2 rfl rfl (Nat.mod_lt _ h0) hR d_St_size_9 ?_
  exact ro_iret hx hb hr hlk d_St_size_10 rfl
set_option maxHeartbeats 4000000 in
set_option maxRecDepth 100000 in
/-- time(k) -/
theorem c_St_time (l : Launch) (D : va_G) (st ba ta sa : Nat) (cB cI cS : ClassId) (R ol mn fi us dr de : Nat) (bf tf sf : Nat → Int32) (k : Nat) (hk : k < 2 ^ 31) (h0 : 0 < R) (hR : R < 2 ^ 31) : Met l y_St_time (wc y_St_time b_St_time 2 (some .int)) ({ frames := 1, cells := 0, slots := 0, locals := 21 }) (va_Pc [.ref st, .int (nI k)] (roB D (vSt st ba ta sa cB cI cS R ol mn fi us dr de bf tf sf) (ySt cB cI cS))) (vp_Si (fun r => r = tf (k % R))) 0 0 (fun _ => False) := by
  refine met_start (by decide) (Nat.le_of_ble_eq_true rfl) ?_
  intro p e s m below meth cd hx hb hr hT hown hlk hml hnm hB ls hl
  obtain ⟨hP, hK⟩ := hB
  have hown : s.vm.findClass R_St = some m.cls := hown
  have hP : va_P D classes [(st, .inr (1, [.ref ba, .ref ta, .ref sa, .int (nI ol), .int (nI mn), .int (nI fi), .int (nI us), .int (nI dr), .int (nI de)])), (ba, .inl (cB, R, .inl bf)), (ta, .inl (cI, R, .inl tf)), (sa, .inl (cS, R, .inl sf))] s.heap := hP
  have hK : va_K D classes [(cB, .byte), (cI, .int), (cS, .short)] s := hK
  have hl : lv_has ls 2 [(0, .ref st), (1, .int (nI k))] := hl
  refine lv_aload_n hx hb d_St_time_0 rfl (lv_at hl 0 rfl) ?_
  refine gf_St_13 hx hb hT hown hK hP 0 rfl rfl d_St_time_1 ?_
  refine lv_aload_n hx hb d_St_time_4 rfl (lv_at hl 0 rfl) ?_
  refine lv_iload_n hx hb d_St_time_5 rfl (lv_at hl 1 rfl) ?_
  refine ro_calli (ci := 1) (As := [.int (nI k)]) (rest := [.ref ta]) hx hb hml hT hown (c_St_row l D st ba ta sa cB cI cS R ol mn fi us dr de bf tf sf k hk h0 hR) (cs_St_21 hT ⟨(Nat.le_of_ble_eq_true rfl), (Nat.le_of_ble_eq_true rfl)⟩) (hK.sub [0, 1, 2] rfl) (hP.sub [0, 1, 2, 3] rfl) 0 rfl rfl rfl hl.1 rfl (Nat.le_of_ble_eq_true rfl) d_St_time_6 ⟨(Nat.le_of_ble_eq_true rfl), (Nat.le_of_ble_eq_true rfl)⟩ (fun r_6 er_6 => ?_)
  subst er_6
  refine nv_iald hx hb hK hP 2 1 rfl rfl (Nat.mod_lt _ h0) hR d_St_time_9 ?_
  exact ro_iret hx hb hr hlk d_St_time_10 rfl
set_option maxHeartbeats 4000000 in
set_option maxRecDepth 100000 in
/-- behind() -/
theorem c_St_behind (l : Launch) (D : va_G) (st ba ta sa : Nat) (cB cI cS : ClassId) (R ol mn fi us dr de : Nat) (bf tf sf : Nat → Int32) : Met l y_St_behind (wc y_St_behind b_St_behind 1 (some .int)) ({ frames := 0, cells := 0, slots := 0, locals := 0 }) (va_Pc [.ref st] (roB D (vSt st ba ta sa cB cI cS R ol mn fi us dr de bf tf sf) (ySt cB cI cS))) (vp_Si (fun r => r = nI (ol + mn))) 0 0 (fun _ => False) := by
  refine met_start (by decide) (Nat.le_of_ble_eq_true rfl) ?_
  intro p e s m below meth cd hx hb hr hT hown hlk hml hnm hB ls hl
  obtain ⟨hP, hK⟩ := hB
  have hown : s.vm.findClass R_St = some m.cls := hown
  have hP : va_P D classes [(st, .inr (1, [.ref ba, .ref ta, .ref sa, .int (nI ol), .int (nI mn), .int (nI fi), .int (nI us), .int (nI dr), .int (nI de)])), (ba, .inl (cB, R, .inl bf)), (ta, .inl (cI, R, .inl tf)), (sa, .inl (cS, R, .inl sf))] s.heap := hP
  have hK : va_K D classes [(cB, .byte), (cI, .int), (cS, .short)] s := hK
  have hl : lv_has ls 1 [(0, .ref st)] := hl
  refine lv_aload_n hx hb d_St_behind_0 rfl (lv_at hl 0 rfl) ?_
  refine gf_St_25 hx hb hT hown hK hP 0 rfl rfl d_St_behind_1 ?_
  refine lv_aload_n hx hb d_St_behind_4 rfl (lv_at hl 0 rfl) ?_
  refine gf_St_29 hx hb hT hown hK hP 0 rfl rfl d_St_behind_5 ?_
  refine nv_iadd hx hb d_St_behind_8 ?_
  exact ro_iret hx hb hr hlk d_St_behind_9 rfl
set_option maxHeartbeats 4000000 in
set_option maxRecDepth 100000 in
/-- drop(): the oldest one is gone -/
theorem c_St_drop (l : Launch) (D : va_G) (st ba ta sa : Nat) (cB cI cS : ClassId) (R o c : Nat) (T : Nat → Int32) (B : Nat → Nat) (S : Nat → Int32) (dr de : Nat) (bf tf sf : Nat → Int32) (sz : Nat) (h : StR R o c T B S bf tf sf) (ho : o < c) : Met l y_St_drop (wc y_St_drop b_St_drop 2 none) ({ frames := 2, cells := 0, slots := 0, locals := 42 }) (va_Pc [.ref st] (rwB D (vSt st ba ta sa cB cI cS R o (c - o) (B o % R) (B c - B o) dr de bf tf sf) (ySt cB cI cS) sz)) (QV (fun (u : Unit) => True) D (fun u => (ySt cB cI cS)) (fun u => (vSt st ba ta sa cB cI cS R (o + 1) (c - (o + 1)) (B (o + 1) % R) (B c - B (o + 1)) dr de bf tf sf)) (va_A (vSt st ba ta sa cB cI cS R o (c - o) (B o % R) (B c - B o) dr de bf tf sf) sz)) 0 0 (va_A (vSt st ba ta sa cB cI cS R o (c - o) (B o % R) (B c - B o) dr de bf tf sf) sz) := by
  refine rw_startV (by decide) (Nat.le_of_ble_eq_true rfl) ?_
  intro p e s m below meth cd A hx hb hr hT hown hlk hml hnm hA hP hK hD hS ls hl
  have hown : s.vm.findClass R_St = some m.cls := hown
  have hP : va_P D classes [(st, .inr (1, [.ref ba, .ref ta, .ref sa, .int (nI o), .int (nI (c - o)), .int (nI (B o % R)), .int (nI (B c - B o)), .int (nI dr), .int (nI de)])), (ba, .inl (cB, R, .inl bf)), (ta, .inl (cI, R, .inl tf)), (sa, .inl (cS, R, .inl sf))] s.heap := hP
  have hD : va_D A [(st, .inr (1, [.ref ba, .ref ta, .ref sa, .int (nI o), .int (nI (c - o)), .int (nI (B o % R)), .int (nI (B c - B o)), .int (nI dr), .int (nI de)])), (ba, .inl (cB, R, .inl bf)), (ta, .inl (cI, R, .inl tf)), (sa, .inl (cS, R, .inl sf))] := hD
  have hK : va_K D classes [(cB, .byte), (cI, .int), (cS, .short)] s := hK
  have hl : lv_has ls 2 [(0, .ref st)] := hl
  obtain ⟨hs, hgT, hgZ, hgS, h8⟩ := id h
  obtain ⟨a1, a2, a3, a4, a5, a6, a7⟩ := id hs
  have hR0 : 0 < R := by omega
  have hR1 : R < 2 ^ 31 := by omega
  have hm := hs_mono hs
  have hoc := hm c o a3 (Nat.le_refl c)
  have b0 := a7 o ho
  have z0 := hgZ o (Nat.le_refl o) ho
  have m1 := hm c (o + 1) (by omega) (Nat.le_refl c)
  have m0 := Nat.mod_lt (B o) hR0
  refine lv_aload_n hx hb d_St_drop_0 rfl (lv_at hl 0 rfl) ?_
  refine lv_aload_n hx hb d_St_drop_1 rfl (lv_at hl 0 rfl) ?_
  refine gf_St_25 hx hb hT hown hK hP 0 rfl rfl d_St_drop_2 ?_
  refine ro_calli (ci := 1) (As := [.int (nI o)]) (rest := []) hx hb hml hT hown (c_St_size l D st ba ta sa cB cI cS R o (c - o) (B o % R) (B c - B o) dr de bf tf sf o (by omega) hR0 hR1) (cs_St_32 hT ⟨(Nat.le_of_ble_eq_true rfl), (Nat.le_of_ble_eq_true rfl)⟩) (hK.sub [0, 1, 2] rfl) (hP.sub [0, 1, 2, 3] rfl) 0 rfl rfl rfl hl.1 rfl (Nat.le_of_ble_eq_true rfl) d_St_drop_5 ⟨(Nat.le_of_ble_eq_true rfl), (Nat.le_of_ble_eq_true rfl)⟩ (fun r_5 er_5 => ?_)
  subst er_5
  refine nv_asI (y := B (o + 1) - B o) z0 ?_
  refine lv_istore_n (lv' := [(1, .int (nI (B (o + 1) - B o))), (0, .ref st)]) hx hb d_St_drop_8 rfl hl (by decide) rfl (fun ls hl => ?_)
  refine lv_aload_n hx hb d_St_drop_9 rfl (lv_at hl 1 rfl) ?_
  refine lv_aload_n hx hb d_St_drop_10 rfl (lv_at hl 1 rfl) ?_
  refine gf_St_35 hx hb hT hown hK hP 0 rfl rfl d_St_drop_11 ?_
  refine lv_iload_n hx hb d_St_drop_14 rfl (lv_at hl 0 rfl) ?_
  refine nv_iadd hx hb d_St_drop_15 ?_
  refine lv_aload_n hx hb d_St_drop_16 rfl (lv_at hl 1 rfl) ?_
  refine gf_St_7 hx hb hT hown hK hP 0 rfl rfl d_St_drop_17 ?_
  refine nv_alen hx hb hK hP 1 0 rfl rfl d_St_drop_20 ?_
  refine nv_irem hx hb (by omega) (by omega) (by omega) d_St_drop_21 ?_
  refine nv_as (y := B (o + 1) % R) (by rw [Nat.mod_add_mod, show B o + (B (o + 1) - B o) = B (o + 1) by omega]) ?_
  refine pf_St_35 hx hb hT hown hK hP hD hS 0 rfl (Nat.le_of_ble_eq_true rfl) d_St_drop_22 (fun H locs hP hD hS => ?_)
  have hP : va_P D classes [(st, .inr (1, [.ref ba, .ref ta, .ref sa, .int (nI o), .int (nI (c - o)), .int (nI (B (o + 1) % R)), .int (nI (B c - B o)), .int (nI dr), .int (nI de)])), (ba, .inl (cB, R, .inl bf)), (ta, .inl (cI, R, .inl tf)), (sa, .inl (cS, R, .inl sf))] H := hP
  have hD : va_D A [(st, .inr (1, [.ref ba, .ref ta, .ref sa, .int (nI o), .int (nI (c - o)), .int (nI (B (o + 1) % R)), .int (nI (B c - B o)), .int (nI dr), .int (nI de)])), (ba, .inl (cB, R, .inl bf)), (ta, .inl (cI, R, .inl tf)), (sa, .inl (cS, R, .inl sf))] := hD
  refine lv_aload_n hx hb d_St_drop_25 rfl (lv_at hl 1 rfl) ?_
  refine lv_dup hx hb d_St_drop_26 rfl ?_
  refine gf_St_38 hx hb hT hown hK hP 0 rfl rfl d_St_drop_27 ?_
  refine lv_iload_n hx hb d_St_drop_30 rfl (lv_at hl 0 rfl) ?_
  refine nv_isub hx hb (by omega) d_St_drop_31 ?_
  refine nv_as (y := B c - B (o + 1)) (by omega) ?_
  refine pf_St_38 hx hb hT hown hK hP hD hS 0 rfl (Nat.le_of_ble_eq_true rfl) d_St_drop_32 (fun H locs hP hD hS => ?_)
  have hP : va_P D classes [(st, .inr (1, [.ref ba, .ref ta, .ref sa, .int (nI o), .int (nI (c - o)), .int (nI (B (o + 1) % R)), .int (nI (B c - B (o + 1))), .int (nI dr), .int (nI de)])), (ba, .inl (cB, R, .inl bf)), (ta, .inl (cI, R, .inl tf)), (sa, .inl (cS, R, .inl sf))] H := hP
  have hD : va_D A [(st, .inr (1, [.ref ba, .ref ta, .ref sa, .int (nI o), .int (nI (c - o)), .int (nI (B (o + 1) % R)), .int (nI (B c - B (o + 1))), .int (nI dr), .int (nI de)])), (ba, .inl (cB, R, .inl bf)), (ta, .inl (cI, R, .inl tf)), (sa, .inl (cS, R, .inl sf))] := hD
  refine lv_aload_n hx hb d_St_drop_35 rfl (lv_at hl 1 rfl) ?_
  refine lv_dup hx hb d_St_drop_36 rfl ?_
  refine gf_St_25 hx hb hT hown hK hP 0 rfl rfl d_St_drop_37 ?_
  refine lv_iconst (v := nI 1) hx hb d_St_drop_40 (by decide +kernel) ?_
  refine nv_iadd hx hb d_St_drop_41 ?_
  refine pf_St_25 hx hb hT hown hK hP hD hS 0 rfl (Nat.le_of_ble_eq_true rfl) d_St_drop_42 (fun H locs hP hD hS => ?_)
  have hP : va_P D classes [(st, .inr (1, [.ref ba, .ref ta, .ref sa, .int (nI (o + 1)), .int (nI (c - o)), .int (nI (B (o + 1) % R)), .int (nI (B c - B (o + 1))), .int (nI dr), .int (nI de)])), (ba, .inl (cB, R, .inl bf)), (ta, .inl (cI, R, .inl tf)), (sa, .inl (cS, R, .inl sf))] H := hP
  have hD : va_D A [(st, .inr (1, [.ref ba, .ref ta, .ref sa, .int (nI (o + 1)), .int (nI (c - o)), .int (nI (B (o + 1) % R)), .int (nI (B c - B (o + 1))), .int (nI dr), .int (nI de)])), (ba, .inl (cB, R, .inl bf)), (ta, .inl (cI, R, .inl tf)), (sa, .inl (cS, R, .inl sf))] := hD
  refine lv_aload_n hx hb d_St_drop_45 rfl (lv_at hl 1 rfl) ?_
  refine lv_dup hx hb d_St_drop_46 rfl ?_
  refine gf_St_29 hx hb hT hown hK hP 0 rfl rfl d_St_drop_47 ?_
  refine lv_iconst (v := nI 1) hx hb d_St_drop_50 (by decide +kernel) ?_
  refine nv_isub hx hb (by omega) d_St_drop_51 ?_
  refine nv_as (y := c - (o + 1)) (by omega) ?_
  refine pf_St_29 hx hb hT hown hK hP hD hS 0 rfl (Nat.le_of_ble_eq_true rfl) d_St_drop_52 (fun H locs hP hD hS => ?_)
  have hP : va_P D classes [(st, .inr (1, [.ref ba, .ref ta, .ref sa, .int (nI (o + 1)), .int (nI (c - (o + 1))), .int (nI (B (o + 1) % R)), .int (nI (B c - B (o + 1))), .int (nI dr), .int (nI de)])), (ba, .inl (cB, R, .inl bf)), (ta, .inl (cI, R, .inl tf)), (sa, .inl (cS, R, .inl sf))] H := hP
  have hD : va_D A [(st, .inr (1, [.ref ba, .ref ta, .ref sa, .int (nI (o + 1)), .int (nI (c - (o + 1))), .int (nI (B (o + 1) % R)), .int (nI (B c - B (o + 1))), .int (nI dr), .int (nI de)])), (ba, .inl (cB, R, .inl bf)), (ta, .inl (cI, R, .inl tf)), (sa, .inl (cS, R, .inl sf))] := hD
  exact rw_vret () hx hb hr hlk hK hP hD hS d_St_drop_55 trivial
set_option maxHeartbeats 4000000 in
set_option maxRecDepth 100000 in
/-- place(i) -/
theorem c_St_place (l : Launch) (D : va_G) (st ba ta sa : Nat) (cB cI cS : ClassId) (R o c : Nat) (T : Nat → Int32) (B : Nat → Nat) (S : Nat → Int32) (dr de : Nat) (bf tf sf : Nat → Int32) (h : StR R o c T B S bf tf sf) (i : Nat) (hi : o ≤ i) (hic : i ≤ c) : Met l y_St_place (wc y_St_place b_St_place 4 (some .int)) ({ frames := 2, cells := 0, slots := 0, locals := 42 }) (va_Pc [.ref st, .int (nI i)] (roB D (vSt st ba ta sa cB cI cS R o (c - o) (B o % R) (B c - B o) dr de bf tf sf) (ySt cB cI cS))) (vp_Si (fun r => r = nI (B i % R))) 0 0 (fun _ => False) := by
  refine met_start (by decide) (Nat.le_of_ble_eq_true rfl) ?_
  intro p e s m below meth cd hx hb hr hT hown hlk hml hnm hB ls hl
  obtain ⟨hP, hK⟩ := hB
  have hown : s.vm.findClass R_St = some m.cls := hown
  have hP : va_P D classes [(st, .inr (1, [.ref ba, .ref ta, .ref sa, .int (nI o), .int (nI (c - o)), .int (nI (B o % R)), .int (nI (B c - B o)), .int (nI dr), .int (nI de)])), (ba, .inl (cB, R, .inl bf)), (ta, .inl (cI, R, .inl tf)), (sa, .inl (cS, R, .inl sf))] s.heap := hP
  have hK : va_K D classes [(cB, .byte), (cI, .int), (cS, .short)] s := hK
  have hl : lv_has ls 4 [(0, .ref st), (1, .int (nI i))] := hl
  obtain ⟨hs, hgT, hgZ, hgS, h8⟩ := id h
  obtain ⟨a1, a2, a3, a4, a5, a6, a7⟩ := id hs
  have hR0 : 0 < R := by omega
  have hR1 : R < 2 ^ 31 := by omega
  have hm := hs_mono hs
  have hoc := hm c o a3 (Nat.le_refl c)
  have m0 := Nat.mod_lt (B o) hR0
  refine lv_aload_n hx hb d_St_place_0 rfl (lv_at hl 0 rfl) ?_
  refine gf_St_35 hx hb hT hown hK hP 0 rfl rfl d_St_place_1 ?_
  refine lv_istore_n (lv' := [(2, .int (nI (B o % R))), (0, .ref st), (1, .int (nI i))]) hx hb d_St_place_4 rfl hl (by decide) rfl (fun ls hl => ?_)
  refine lv_aload_n hx hb d_St_place_5 rfl (lv_at hl 1 rfl) ?_
  refine gf_St_25 hx hb hT hown hK hP 0 rfl rfl d_St_place_6 ?_
  refine lv_istore_n (lv' := [(3, .int (nI o)), (2, .int (nI (B o % R))), (0, .ref st), (1, .int (nI i))]) hx hb d_St_place_9 rfl hl (by decide) rfl (fun ls hl => ?_)
  refine lp_ind (α := Nat) (fun n k H locs ls => o ≤ k ∧ k ≤ i ∧ i < k + n ∧ H = s.heap ∧ locs = [] ∧ lv_has ls 4 [(3, .int (nI k)), (2, .int (nI (B o % R + (B k - B o)))), (0, .ref st), (1, .int (nI i))]) ?_ (fun k H locs ls hq => by obtain ⟨k1, k2, k3, -⟩ := hq; omega) (i + 1) o _ _ _ ⟨Nat.le_refl o, hi, by omega, rfl, rfl, by rw [show B o % R + (B o - B o) = B o % R by omega]; exact hl⟩
  intro n ih k H locs ls hq
  obtain ⟨k1, k2, k3, rfl, rfl, hl⟩ := hq
  have mk := hm k o k1 (by omega)
  have mk2 := hm c k (by omega) (Nat.le_refl c)
  refine lv_iload_n hx hb d_St_place_10 rfl (lv_at hl 0 rfl) ?_
  refine lv_iload_n hx hb d_St_place_11 rfl (lv_at hl 3 rfl) ?_
  refine nv_icmp_ge (tgt := 29) hx hb (by omega) (by omega) d_St_place_12 (by decide) (fun c_12 => ?_) (fun c_12 => ?_)
  · refine lv_iload_n hx hb d_St_place_29 rfl (lv_at hl 1 rfl) ?_
    refine lv_aload_n hx hb d_St_place_30 rfl (lv_at hl 2 rfl) ?_
    refine gf_St_7 hx hb hT hown hK hP 0 rfl rfl d_St_place_31 ?_
    refine nv_alen hx hb hK hP 1 0 rfl rfl d_St_place_34 ?_
    refine nv_irem hx hb (by omega) (by omega) (by omega) d_St_place_35 ?_
    refine nv_as (y := B i % R) (by rw [Nat.mod_add_mod, show k = i by omega, show B o + (B i - B o) = B i by have := hm i o hi hic; omega]) ?_
    exact ro_iret hx hb hr hlk d_St_place_36 rfl
  · have z0 := hgZ k k1 (by omega)
    have b0 := a7 k (by omega)
    refine lv_iload_n hx hb d_St_place_15 rfl (lv_at hl 1 rfl) ?_
    refine lv_aload_n hx hb d_St_place_16 rfl (lv_at hl 2 rfl) ?_
    refine lv_iload_n hx hb d_St_place_17 rfl (lv_at hl 0 rfl) ?_
    refine ro_calli (ci := 1) (As := [.int (nI k)]) (rest := [.int (nI (B o % R + (B k - B o)))]) hx hb hml hT hown (c_St_size l D st ba ta sa cB cI cS R o (c - o) (B o % R) (B c - B o) dr de bf tf sf k (by omega) hR0 hR1) (cs_St_32 hT ⟨(Nat.le_of_ble_eq_true rfl), (Nat.le_of_ble_eq_true rfl)⟩) (hK.sub [0, 1, 2] rfl) (hP.sub [0, 1, 2, 3] rfl) 0 rfl rfl rfl hl.1 rfl (Nat.le_of_ble_eq_true rfl) d_St_place_18 ⟨(Nat.le_of_ble_eq_true rfl), (Nat.le_of_ble_eq_true rfl)⟩ (fun r_18 er_18 => ?_)
    subst er_18
    refine nv_asI (y := B (k + 1) - B k) z0 ?_
    refine nv_iadd hx hb d_St_place_21 ?_
    refine nv_as (y := B o % R + (B (k + 1) - B o)) (by omega) ?_
    refine lv_istore_n (lv' := [(2, .int (nI (B o % R + (B (k + 1) - B o)))), (3, .int (nI k)), (0, .ref st), (1, .int (nI i))]) hx hb d_St_place_22 rfl hl (by decide) rfl (fun ls hl => ?_)
    refine nv_iinc (lv' := [(3, .int (nI (k + 1))), (2, .int (nI (B o % R + (B (k + 1) - B o)))), (0, .ref st), (1, .int (nI i))]) hx hb d_St_place_23 hl (k := 1) rfl (by decide) rfl (fun ls hl => ?_)
    refine lv_goto (tgt := 10) hx hb d_St_place_26 (by decide) ?_
    exact ih (k + 1) _ _ _ ⟨by omega, by omega, by omega, rfl, rfl, lv_sub hl [0, 1, 2, 3] rfl⟩
set_option maxHeartbeats 4000000 in
set_option maxRecDepth 100000 in
/-- byteAt(i, j) -/
theorem c_St_byteAt (l : Launch) (D : va_G) (st ba ta sa : Nat) (cB cI cS : ClassId) (R o c : Nat) (T : Nat → Int32) (B : Nat → Nat) (S : Nat → Int32) (dr de : Nat) (bf tf sf : Nat → Int32) (h : StR R o c T B S bf tf sf) (i j : Nat) (hi : o ≤ i) (hic : i < c) (hj : j < B (i + 1) - B i) : Met l y_St_byteAt (wc y_St_byteAt b_St_byteAt 3 (some .int)) ({ frames := 3, cells := 0, slots := 0, locals := 65 }) (va_Pc [.ref st, .int (nI i), .int (nI j)] (roB D (vSt st ba ta sa cB cI cS R o (c - o) (B o % R) (B c - B o) dr de bf tf sf) (ySt cB cI cS))) (vp_Si (fun r => r = S (B i + j) &&& 255)) 0 0 (fun _ => False) := by
  refine met_start (by decide) (Nat.le_of_ble_eq_true rfl) ?_
  intro p e s m below meth cd hx hb hr hT hown hlk hml hnm hB ls hl
  obtain ⟨hP, hK⟩ := hB
  have hown : s.vm.findClass R_St = some m.cls := hown
  have hP : va_P D classes [(st, .inr (1, [.ref ba, .ref ta, .ref sa, .int (nI o), .int (nI (c - o)), .int (nI (B o % R)), .int (nI (B c - B o)), .int (nI dr), .int (nI de)])), (ba, .inl (cB, R, .inl bf)), (ta, .inl (cI, R, .inl tf)), (sa, .inl (cS, R, .inl sf))] s.heap := hP
  have hK : va_K D classes [(cB, .byte), (cI, .int), (cS, .short)] s := hK
  have hl : lv_has ls 3 [(0, .ref st), (1, .int (nI i)), (2, .int (nI j))] := hl
  obtain ⟨hs, hgT, hgZ, hgS, h8⟩ := id h
  obtain ⟨a1, a2, a3, a4, a5, a6, a7⟩ := id hs
  have hR0 : 0 < R := by omega
  have hR1 : R < 2 ^ 31 := by omega
  have hm := hs_mono hs
  have hoc := hm c o a3 (Nat.le_refl c)
  have m1 := hm i o hi (by omega)
  have m2 := hm c (i + 1) (by omega) (Nat.le_refl c)
  have m0 := Nat.mod_lt (B i) hR0
  have b0 := a7 i hic
  have hv := hgS (B i + j) (by omega) (by omega)
  refine lv_aload_n hx hb d_St_byteAt_0 rfl (lv_at hl 0 rfl) ?_
  refine gf_St_7 hx hb hT hown hK hP 0 rfl rfl d_St_byteAt_1 ?_
  refine lv_aload_n hx hb d_St_byteAt_4 rfl (lv_at hl 0 rfl) ?_
  refine lv_iload_n hx hb d_St_byteAt_5 rfl (lv_at hl 1 rfl) ?_
  refine ro_calli (ci := 1) (As := [.int (nI i)]) (rest := [.ref ba]) hx hb hml hT hown (c_St_place l D st ba ta sa cB cI cS R o c T B S dr de bf tf sf h i hi (by omega)) (cs_St_69 hT ⟨(Nat.le_of_ble_eq_true rfl), (Nat.le_of_ble_eq_true rfl)⟩) (hK.sub [0, 1, 2] rfl) (hP.sub [0, 1, 2, 3] rfl) 0 rfl rfl rfl hl.1 rfl (Nat.le_of_ble_eq_true rfl) d_St_byteAt_6 ⟨(Nat.le_of_ble_eq_true rfl), (Nat.le_of_ble_eq_true rfl)⟩ (fun r_6 er_6 => ?_)
  subst er_6
  refine lv_iload_n hx hb d_St_byteAt_9 rfl (lv_at hl 2 rfl) ?_
  refine nv_iadd hx hb d_St_byteAt_10 ?_
  refine lv_aload_n hx hb d_St_byteAt_11 rfl (lv_at hl 0 rfl) ?_
  refine gf_St_7 hx hb hT hown hK hP 0 rfl rfl d_St_byteAt_12 ?_
  refine nv_alen hx hb hK hP 1 0 rfl rfl d_St_byteAt_15 ?_
  refine nv_irem hx hb (by omega) (by omega) (by omega) d_St_byteAt_16 ?_
  refine nv_as (y := (B i + j) % R) (Nat.mod_add_mod (B i) R j) ?_
  refine nv_bald hx hb hK hP 1 0 rfl rfl (Nat.mod_lt _ hR0) hR1 d_St_byteAt_17 ?_
  refine nv_asX (y := S (B i + j)) hv ?_
  refine lv_sipush (v := nI 255) hx hb d_St_byteAt_18 (by decide +kernel) ?_
  refine lv_iand hx hb d_St_byteAt_21 ?_
  exact ro_iret hx hb hr hlk d_St_byteAt_22 rfl
set_option maxHeartbeats 4000000 in
set_option maxRecDepth 100000 in
/-- delete(t) -/
theorem c_St_delete (l : Launch) (D : va_G) (st ba ta sa : Nat) (cB cI cS : ClassId) (R o c : Nat) (T : Nat → Int32) (B : Nat → Nat) (S : Nat → Int32) (dr de : Nat) (bf tf sf : Nat → Int32) (sz : Nat) (t : Int32) (h : StR R o c T B S bf tf sf) : Met l y_St_delete (wc y_St_delete b_St_delete 3 (some .int)) ({ frames := 3, cells := 0, slots := 0, locals := 63 }) (va_Pc [.ref st, .int t] (rwB D (vSt st ba ta sa cB cI cS R o (c - o) (B o % R) (B c - B o) dr de bf tf sf) (ySt cB cI cS) sz)) (QI (fun (r : Int32) (u : Nat) => r = nI (u - o) ∧ DelTo c T t o u ∧ StR R u c T B S bf tf sf) D (fun u => (ySt cB cI cS)) (fun u => (vSt st ba ta sa cB cI cS R u (c - u) (B u % R) (B c - B u) dr (de + (u - o)) bf tf sf)) (va_A (vSt st ba ta sa cB cI cS R o (c - o) (B o % R) (B c - B o) dr de bf tf sf) sz)) 0 0 (va_A (vSt st ba ta sa cB cI cS R o (c - o) (B o % R) (B c - B o) dr de bf tf sf) sz) := by
  refine rw_startI (by decide) (Nat.le_of_ble_eq_true rfl) ?_
  intro p e s m below meth cd A hx hb hr hT hown hlk hml hnm hA hP hK hD hS ls hl
  have hown : s.vm.findClass R_St = some m.cls := hown
  have hP : va_P D classes [(st, .inr (1, [.ref ba, .ref ta, .ref sa, .int (nI o), .int (nI (c - o)), .int (nI (B o % R)), .int (nI (B c - B o)), .int (nI dr), .int (nI de)])), (ba, .inl (cB, R, .inl bf)), (ta, .inl (cI, R, .inl tf)), (sa, .inl (cS, R, .inl sf))] s.heap := hP
  have hD : va_D A [(st, .inr (1, [.ref ba, .ref ta, .ref sa, .int (nI o), .int (nI (c - o)), .int (nI (B o % R)), .int (nI (B c - B o)), .int (nI dr), .int (nI de)])), (ba, .inl (cB, R, .inl bf)), (ta, .inl (cI, R, .inl tf)), (sa, .inl (cS, R, .inl sf))] := hD
  have hK : va_K D classes [(cB, .byte), (cI, .int), (cS, .short)] s := hK
  have hl : lv_has ls 3 [(0, .ref st), (1, .int t)] := hl
  obtain ⟨hs, hgT, hgZ, hgS, h8⟩ := id h
  obtain ⟨a1, a2, a3, a4, a5, a6, a7⟩ := id hs
  have hR0 : 0 < R := by omega
  have hR1 : R < 2 ^ 31 := by omega
  have hm := hs_mono hs
  have hoc := hm c o a3 (Nat.le_refl c)
  refine lv_aload_n hx hb d_St_delete_0 rfl (lv_at hl 0 rfl) ?_
  refine gf_St_29 hx hb hT hown hK hP 0 rfl rfl d_St_delete_1 ?_
  refine lv_istore_n (lv' := [(2, .int (nI (c - o))), (0, .ref st), (1, .int t)]) hx hb d_St_delete_4 rfl hl (by decide) rfl (fun ls hl => ?_)
  refine lp_ind (α := Nat) (fun n k H locs ls => o ≤ k ∧ k ≤ c ∧ c < k + n ∧ (∀ i, o ≤ i → i < k → T i ≤ t) ∧ StR R k c T B S bf tf sf ∧ va_P D classes [(st, .inr (1, [.ref ba, .ref ta, .ref sa, .int (nI k), .int (nI (c - k)), .int (nI (B k % R)), .int (nI (B c - B k)), .int (nI dr), .int (nI de)])), (ba, .inl (cB, R, .inl bf)), (ta, .inl (cI, R, .inl tf)), (sa, .inl (cS, R, .inl sf))] H ∧ va_D A [(st, .inr (1, [.ref ba, .ref ta, .ref sa, .int (nI k), .int (nI (c - k)), .int (nI (B k % R)), .int (nI (B c - B k)), .int (nI dr), .int (nI de)])), (ba, .inl (cB, R, .inl bf)), (ta, .inl (cI, R, .inl tf)), (sa, .inl (cS, R, .inl sf))] ∧ va_S A s.heap H locs ∧ lv_has ls 3 [(2, .int (nI (c - o))), (0, .ref st), (1, .int t)]) ?_ (fun k H locs ls hq => by obtain ⟨k1, k2, k3, -⟩ := hq; omega) (c + 1) o _ _ _ ⟨Nat.le_refl o, a3, by omega, fun i p q => by omega, h, hP, hD, hS, hl⟩
  intro n ih k H locs ls hq
  obtain ⟨k1, k2, k3, k4, h, hP, hD, hS, hl⟩ := hq
  obtain ⟨hs, hgT, hgZ, hgS, h8⟩ := id h
  refine lv_aload_n hx hb d_St_delete_5 rfl (lv_at hl 1 rfl) ?_
  refine gf_St_29 hx hb hT hown hK hP 0 rfl rfl d_St_delete_6 ?_
  refine nv_if_le (tgt := 31) hx hb (by omega) d_St_delete_9 (by decide) (fun c_9 => ?_) (fun c_9 => ?_)
  · refine lv_aload_n hx hb d_St_delete_31 rfl (lv_at hl 1 rfl) ?_
    refine lv_dup hx hb d_St_delete_32 rfl ?_
    refine gf_St_66 hx hb hT hown hK hP 0 rfl rfl d_St_delete_33 ?_
    refine lv_iload_n hx hb d_St_delete_36 rfl (lv_at hl 0 rfl) ?_
    refine lv_aload_n hx hb d_St_delete_37 rfl (lv_at hl 1 rfl) ?_
    refine gf_St_29 hx hb hT hown hK hP 0 rfl rfl d_St_delete_38 ?_
    refine nv_isub hx hb (by omega) d_St_delete_41 ?_
    refine nv_as (y := k - o) (by omega) ?_
    refine nv_iadd hx hb d_St_delete_42 ?_
    refine pf_St_66 hx hb hT hown hK hP hD hS 0 rfl (Nat.le_of_ble_eq_true rfl) d_St_delete_43 (fun H locs hP hD hS => ?_)
    have hP : va_P D classes [(st, .inr (1, [.ref ba, .ref ta, .ref sa, .int (nI k), .int (nI (c - k)), .int (nI (B k % R)), .int (nI (B c - B k)), .int (nI dr), .int (nI (de + (k - o)))])), (ba, .inl (cB, R, .inl bf)), (ta, .inl (cI, R, .inl tf)), (sa, .inl (cS, R, .inl sf))] H := hP
    have hD : va_D A [(st, .inr (1, [.ref ba, .ref ta, .ref sa, .int (nI k), .int (nI (c - k)), .int (nI (B k % R)), .int (nI (B c - B k)), .int (nI dr), .int (nI (de + (k - o)))])), (ba, .inl (cB, R, .inl bf)), (ta, .inl (cI, R, .inl tf)), (sa, .inl (cS, R, .inl sf))] := hD
    refine lv_iload_n hx hb d_St_delete_46 rfl (lv_at hl 0 rfl) ?_
    refine lv_aload_n hx hb d_St_delete_47 rfl (lv_at hl 1 rfl) ?_
    refine gf_St_29 hx hb hT hown hK hP 0 rfl rfl d_St_delete_48 ?_
    refine nv_isub hx hb (by omega) d_St_delete_51 ?_
    refine nv_as (y := k - o) (by omega) ?_
    exact rw_iret k hx hb hr hlk hK hP hD hS d_St_delete_52 ⟨rfl, ⟨k1, k2, k4, fun q => by omega⟩, h⟩
  · have w0 := hgT k (Nat.le_refl k) (by omega)
    refine lv_aload_n hx hb d_St_delete_12 rfl (lv_at hl 1 rfl) ?_
    refine lv_aload_n hx hb d_St_delete_13 rfl (lv_at hl 1 rfl) ?_
    refine gf_St_25 hx hb hT hown hK hP 0 rfl rfl d_St_delete_14 ?_
    refine ro_calli (ci := 1) (As := [.int (nI k)]) (rest := []) hx hb hml hT hown (c_St_time l D st ba ta sa cB cI cS R k (c - k) (B k % R) (B c - B k) dr de bf tf sf k (by omega) hR0 hR1) (cs_St_63 hT ⟨(Nat.le_of_ble_eq_true rfl), (Nat.le_of_ble_eq_true rfl)⟩) (hK.sub [0, 1, 2] rfl) (hP.sub [0, 1, 2, 3] rfl) 0 rfl rfl rfl hl.1 rfl (Nat.le_of_ble_eq_true rfl) d_St_delete_17 ⟨(Nat.le_of_ble_eq_true rfl), (Nat.le_of_ble_eq_true rfl)⟩ (fun r_17 er_17 => ?_)
    subst er_17
    refine nv_asX (y := T k) w0 ?_
    refine lv_iload_n hx hb d_St_delete_20 rfl (lv_at hl 2 rfl) ?_
    refine lv_icmp_gt (tgt := 31) hx hb d_St_delete_21 (by decide) (fun c_21 => ?_) (fun c_21 => ?_)
    · refine lv_aload_n hx hb d_St_delete_31 rfl (lv_at hl 1 rfl) ?_
      refine lv_dup hx hb d_St_delete_32 rfl ?_
      refine gf_St_66 hx hb hT hown hK hP 0 rfl rfl d_St_delete_33 ?_
      refine lv_iload_n hx hb d_St_delete_36 rfl (lv_at hl 0 rfl) ?_
      refine lv_aload_n hx hb d_St_delete_37 rfl (lv_at hl 1 rfl) ?_
      refine gf_St_29 hx hb hT hown hK hP 0 rfl rfl d_St_delete_38 ?_
      refine nv_isub hx hb (by omega) d_St_delete_41 ?_
      refine nv_as (y := k - o) (by omega) ?_
      refine nv_iadd hx hb d_St_delete_42 ?_
      refine pf_St_66 hx hb hT hown hK hP hD hS 0 rfl (Nat.le_of_ble_eq_true rfl) d_St_delete_43 (fun H locs hP hD hS => ?_)
      have hP : va_P D classes [(st, .inr (1, [.ref ba, .ref ta, .ref sa, .int (nI k), .int (nI (c - k)), .int (nI (B k % R)), .int (nI (B c - B k)), .int (nI dr), .int (nI (de + (k - o)))])), (ba, .inl (cB, R, .inl bf)), (ta, .inl (cI, R, .inl tf)), (sa, .inl (cS, R, .inl sf))] H := hP
      have hD : va_D A [(st, .inr (1, [.ref ba, .ref ta, .ref sa, .int (nI k), .int (nI (c - k)), .int (nI (B k % R)), .int (nI (B c - B k)), .int (nI dr), .int (nI (de + (k - o)))])), (ba, .inl (cB, R, .inl bf)), (ta, .inl (cI, R, .inl tf)), (sa, .inl (cS, R, .inl sf))] := hD
      refine lv_iload_n hx hb d_St_delete_46 rfl (lv_at hl 0 rfl) ?_
      refine lv_aload_n hx hb d_St_delete_47 rfl (lv_at hl 1 rfl) ?_
      refine gf_St_29 hx hb hT hown hK hP 0 rfl rfl d_St_delete_48 ?_
      refine nv_isub hx hb (by omega) d_St_delete_51 ?_
      refine nv_as (y := k - o) (by omega) ?_
      exact rw_iret k hx hb hr hlk hK hP hD hS d_St_delete_52 ⟨rfl, ⟨k1, k2, k4, fun _ => Int32.not_le.mpr c_21⟩, h⟩
    · refine lv_aload_n hx hb d_St_delete_24 rfl (lv_at hl 1 rfl) ?_
      refine rw_callv (ci := 1) (As := []) (rest := []) (wr := []) hx hb hml hT hown (c_St_drop l D st ba ta sa cB cI cS R k c T B S dr de bf tf sf H.size h (by omega)) (cs_St_41 hT ⟨(Nat.le_of_ble_eq_true rfl), (Nat.le_of_ble_eq_true rfl)⟩) (hK.sub [0, 1, 2] rfl) hP hD hS hA [0, 1, 2, 3] [] rfl rfl (by decide) (by decide) (by decide) 0 rfl rfl rfl hl.1 rfl (Nat.le_of_ble_eq_true rfl) d_St_delete_25 ⟨(Nat.le_of_ble_eq_true rfl), (Nat.le_of_ble_eq_true rfl)⟩ (fun u H locs hw hKn hP hD hS => ?_)
      have hP : va_P D classes [(st, .inr (1, [.ref ba, .ref ta, .ref sa, .int (nI (k + 1)), .int (nI (c - (k + 1))), .int (nI (B (k + 1) % R)), .int (nI (B c - B (k + 1))), .int (nI dr), .int (nI de)])), (ba, .inl (cB, R, .inl bf)), (ta, .inl (cI, R, .inl tf)), (sa, .inl (cS, R, .inl sf))] H := hP.sub [0, 1, 2, 3] rfl
      have hD : va_D A [(st, .inr (1, [.ref ba, .ref ta, .ref sa, .int (nI (k + 1)), .int (nI (c - (k + 1))), .int (nI (B (k + 1) % R)), .int (nI (B c - B (k + 1))), .int (nI dr), .int (nI de)])), (ba, .inl (cB, R, .inl bf)), (ta, .inl (cI, R, .inl tf)), (sa, .inl (cS, R, .inl sf))] := hD.sub [0, 1, 2, 3] (by decide) rfl
      refine lv_goto (tgt := 5) hx hb d_St_delete_28 (by decide) ?_
      exact ih (k + 1) _ _ _ ⟨by omega, by omega, by omega, fun i p q => by
          rcases Nat.lt_or_ge i k with z | z
          · exact k4 i p z
          · rw [show i = k by omega]; exact Int32.not_lt.mp c_21, str_drop h (by omega), hP, hD, hS, hl⟩
set_option maxHeartbeats 4000000 in
set_option maxRecDepth 100000 in
/-- keep(packet, n, t) -/
theorem c_St_keep (l : Launch) (D : va_G) (st ba ta sa xa : Nat) (cB cI cS cX : ClassId) (R o c : Nat) (T : Nat → Int32) (B : Nat → Nat) (S : Nat → Int32) (dr de : Nat) (bf tf sf : Nat → Int32) (xf : Nat → Int32) (sz : Nat) (n : Nat) (t : Int32) (h : StR R o c T B S bf tf sf) (hn : 1 ≤ n) (hn2 : n ≤ 512) (hnR : n ≤ R) (hcc : c < 1000) (hB : B c + n ≤ 1000000) (hxf : by8 xf) : Met l y_St_keep (wc y_St_keep b_St_keep 8 (some .int)) ({ frames := 3, cells := 0, slots := 0, locals := 63 }) (va_Pc [.ref st, .ref xa, .int (nI n), .int t] (rwB D (vS5 st ba ta sa xa cB cI cS cX R o (c - o) (B o % R) (B c - B o) dr de bf tf sf xf) (yS5 cB cI cS cX) sz)) (QI (fun (r : Int32) (u : Nat × (Nat → Int32) × (Nat → Int32) × (Nat → Int32)) => r = nI (u.1 - o) ∧ KeepTo R c B n o u.1 ∧ StR R u.1 (c + 1) (upd T c t) (updB B (c + 1) (B c + n)) (apS S (B c) n xf) u.2.1 u.2.2.1 u.2.2.2) D (fun u => (yS5 cB cI cS cX)) (fun u => (vS5 st ba ta sa xa cB cI cS cX R (u.1) ((c + 1) - (u.1)) ((updB B (c + 1) (B c + n)) (u.1) % R) ((updB B (c + 1) (B c + n)) (c + 1) - (updB B (c + 1) (B c + n)) (u.1)) (dr + (u.1 - o)) de (u.2.1) (u.2.2.1) (u.2.2.2) xf)) (va_A (vS5 st ba ta sa xa cB cI cS cX R o (c - o) (B o % R) (B c - B o) dr de bf tf sf xf) sz)) 0 0 (va_A (vS5 st ba ta sa xa cB cI cS cX R o (c - o) (B o % R) (B c - B o) dr de bf tf sf xf) sz) := by
  refine rw_startI (by decide) (Nat.le_of_ble_eq_true rfl) ?_
  intro p e s m below meth cd A hx hb hr hT hown hlk hml hnm hA hP hK hD hS ls hl
  have hown : s.vm.findClass R_St = some m.cls := hown
  have hP : va_P D classes [(st, .inr (1, [.ref ba, .ref ta, .ref sa, .int (nI o), .int (nI (c - o)), .int (nI (B o % R)), .int (nI (B c - B o)), .int (nI dr), .int (nI de)])), (ba, .inl (cB, R, .inl bf)), (ta, .inl (cI, R, .inl tf)), (sa, .inl (cS, R, .inl sf)), (xa, .inl (cX, 512, .inl xf))] s.heap := hP
  have hD : va_D A [(st, .inr (1, [.ref ba, .ref ta, .ref sa, .int (nI o), .int (nI (c - o)), .int (nI (B o % R)), .int (nI (B c - B o)), .int (nI dr), .int (nI de)])), (ba, .inl (cB, R, .inl bf)), (ta, .inl (cI, R, .inl tf)), (sa, .inl (cS, R, .inl sf)), (xa, .inl (cX, 512, .inl xf))] := hD
  have hK : va_K D classes [(cB, .byte), (cI, .int), (cS, .short), (cX, .byte)] s := hK
  have hl : lv_has ls 8 [(0, .ref st), (1, .ref xa), (2, .int (nI n)), (3, .int t)] := hl
  obtain ⟨hs, hgT, hgZ, hgS, h8⟩ := id h
  obtain ⟨a1, a2, a3, a4, a5, a6, a7⟩ := id hs
  have hR0 : 0 < R := by omega
  have hR1 : R < 2 ^ 31 := by omega
  have hm := hs_mono hs
  have hoc := hm c o a3 (Nat.le_refl c)
  refine lv_aload_n hx hb d_St_keep_0 rfl (lv_at hl 0 rfl) ?_
  refine gf_St_29 hx hb hT hown hK hP 0 rfl rfl d_St_keep_1 ?_
  refine lv_istore (lv' := [(4, .int (nI (c - o))), (0, .ref st), (1, .ref xa), (2, .int (nI n)), (3, .int t)]) hx hb d_St_keep_4 hl (by decide) rfl (fun ls hl => ?_)
  refine lp_ind (α := Nat) (fun m k H locs ls => o ≤ k ∧ k ≤ c ∧ c < k + m ∧ (∀ i, o ≤ i → i < k → R < B c - B i + n) ∧ StR R k c T B S bf tf sf ∧ va_P D classes [(st, .inr (1, [.ref ba, .ref ta, .ref sa, .int (nI k), .int (nI (c - k)), .int (nI (B k % R)), .int (nI (B c - B k)), .int (nI dr), .int (nI de)])), (ba, .inl (cB, R, .inl bf)), (ta, .inl (cI, R, .inl tf)), (sa, .inl (cS, R, .inl sf)), (xa, .inl (cX, 512, .inl xf))] H ∧ va_D A [(st, .inr (1, [.ref ba, .ref ta, .ref sa, .int (nI k), .int (nI (c - k)), .int (nI (B k % R)), .int (nI (B c - B k)), .int (nI dr), .int (nI de)])), (ba, .inl (cB, R, .inl bf)), (ta, .inl (cI, R, .inl tf)), (sa, .inl (cS, R, .inl sf)), (xa, .inl (cX, 512, .inl xf))] ∧ va_S A s.heap H locs ∧ lv_has ls 8 [(4, .int (nI (c - o))), (0, .ref st), (1, .ref xa), (2, .int (nI n)), (3, .int t)]) ?_ (fun k H locs ls hq => by obtain ⟨k1, k2, k3, -⟩ := hq; omega) (c + 1) o _ _ _ ⟨Nat.le_refl o, a3, by omega, fun i p q => by omega, h, hP, hD, hS, hl⟩
  intro m1 ih k H locs ls hq
  obtain ⟨k1, k2, k3, k4, h, hP, hD, hS, hl⟩ := hq
  obtain ⟨hs, hgT, hgZ, hgS, h8⟩ := id h
  have mk := hs_mono hs c k k2 (Nat.le_refl c)
  have mr := hs.2.2.2.2.2.1
  have m0 := Nat.mod_lt (B k) hR0
  have mc := Nat.mod_lt (B c) hR0
  refine lv_aload_n hx hb d_St_keep_6 rfl (lv_at hl 1 rfl) ?_
  refine gf_St_38 hx hb hT hown hK hP 0 rfl rfl d_St_keep_7 ?_
  refine lv_iload_n hx hb d_St_keep_10 rfl (lv_at hl 3 rfl) ?_
  refine nv_iadd hx hb d_St_keep_11 ?_
  refine lv_aload_n hx hb d_St_keep_12 rfl (lv_at hl 1 rfl) ?_
  refine gf_St_7 hx hb hT hown hK hP 0 rfl rfl d_St_keep_13 ?_
  refine nv_alen hx hb hK hP 1 0 rfl rfl d_St_keep_16 ?_
  refine nv_icmp_le (tgt := 27) hx hb (by omega) (by omega) d_St_keep_17 (by decide) (fun c_17 => ?_) (fun c_17 => ?_)
  · have hmn : min n (R - B c % R) ≤ n ∧ min n (R - B c % R) ≤ R - B c % R := by omega
    refine lv_iload hx hb d_St_keep_27 (lv_at hl 0 rfl) ?_
    refine lv_aload_n hx hb d_St_keep_29 rfl (lv_at hl 1 rfl) ?_
    refine gf_St_29 hx hb hT hown hK hP 0 rfl rfl d_St_keep_30 ?_
    refine nv_isub hx hb (by omega) d_St_keep_33 ?_
    refine nv_as (y := k - o) (by omega) ?_
    refine lv_istore (lv' := [(5, .int (nI (k - o))), (4, .int (nI (c - o))), (0, .ref st), (1, .ref xa), (2, .int (nI n)), (3, .int t)]) hx hb d_St_keep_34 hl (by decide) rfl (fun ls hl => ?_)
    refine lv_aload_n hx hb d_St_keep_36 rfl (lv_at hl 2 rfl) ?_
    refine lv_dup hx hb d_St_keep_37 rfl ?_
    refine gf_St_44 hx hb hT hown hK hP 0 rfl rfl d_St_keep_38 ?_
    refine lv_iload hx hb d_St_keep_41 (lv_at hl 0 rfl) ?_
    refine nv_iadd hx hb d_St_keep_43 ?_
    refine pf_St_44 hx hb hT hown hK hP hD hS 0 rfl (Nat.le_of_ble_eq_true rfl) d_St_keep_44 (fun H locs hP hD hS => ?_)
    have hP : va_P D classes [(st, .inr (1, [.ref ba, .ref ta, .ref sa, .int (nI k), .int (nI (c - k)), .int (nI (B k % R)), .int (nI (B c - B k)), .int (nI (dr + (k - o))), .int (nI de)])), (ba, .inl (cB, R, .inl bf)), (ta, .inl (cI, R, .inl tf)), (sa, .inl (cS, R, .inl sf)), (xa, .inl (cX, 512, .inl xf))] H := hP
    have hD : va_D A [(st, .inr (1, [.ref ba, .ref ta, .ref sa, .int (nI k), .int (nI (c - k)), .int (nI (B k % R)), .int (nI (B c - B k)), .int (nI (dr + (k - o))), .int (nI de)])), (ba, .inl (cB, R, .inl bf)), (ta, .inl (cI, R, .inl tf)), (sa, .inl (cS, R, .inl sf)), (xa, .inl (cX, 512, .inl xf))] := hD
    refine lv_aload_n hx hb d_St_keep_47 rfl (lv_at hl 2 rfl) ?_
    refine gf_St_35 hx hb hT hown hK hP 0 rfl rfl d_St_keep_48 ?_
    refine lv_aload_n hx hb d_St_keep_51 rfl (lv_at hl 2 rfl) ?_
    refine gf_St_38 hx hb hT hown hK hP 0 rfl rfl d_St_keep_52 ?_
    refine nv_iadd hx hb d_St_keep_55 ?_
    refine lv_aload_n hx hb d_St_keep_56 rfl (lv_at hl 2 rfl) ?_
    refine gf_St_7 hx hb hT hown hK hP 0 rfl rfl d_St_keep_57 ?_
    refine nv_alen hx hb hK hP 1 0 rfl rfl d_St_keep_60 ?_
    refine nv_irem hx hb (by omega) (by omega) (by omega) d_St_keep_61 ?_
    refine nv_as (y := B c % R) (by rw [Nat.mod_add_mod, show B k + (B c - B k) = B c by omega]) ?_
    refine lv_istore (lv' := [(6, .int (nI (B c % R))), (5, .int (nI (k - o))), (4, .int (nI (c - o))), (0, .ref st), (1, .ref xa), (2, .int (nI n)), (3, .int t)]) hx hb d_St_keep_62 hl (by decide) rfl (fun ls hl => ?_)
    refine lv_iload_n hx hb d_St_keep_64 rfl (lv_at hl 5 rfl) ?_
    refine lv_aload_n hx hb d_St_keep_65 rfl (lv_at hl 3 rfl) ?_
    refine gf_St_7 hx hb hT hown hK hP 0 rfl rfl d_St_keep_66 ?_
    refine nv_alen hx hb hK hP 1 0 rfl rfl d_St_keep_69 ?_
    refine lv_iload hx hb d_St_keep_70 (lv_at hl 0 rfl) ?_
    refine nv_isub hx hb (by omega) d_St_keep_72 ?_
    refine nv_mmin hx hb (hml.trans hl.1.symm) hT hown tb_1_132 (by omega) (by omega) (Nat.le_of_ble_eq_true rfl) (Nat.le_of_ble_eq_true rfl) (Nat.le_of_ble_eq_true rfl) (Nat.le_of_ble_eq_true rfl) d_St_keep_73 ?_
    refine lv_istore (lv' := [(7, .int (nI (min n (R - (B c % R))))), (6, .int (nI (B c % R))), (5, .int (nI (k - o))), (4, .int (nI (c - o))), (0, .ref st), (1, .ref xa), (2, .int (nI n)), (3, .int t)]) hx hb d_St_keep_76 hl (by decide) rfl (fun ls hl => ?_)
    refine lv_aload_n hx hb d_St_keep_78 rfl (lv_at hl 5 rfl) ?_
    refine lv_iconst (v := nI 0) hx hb d_St_keep_79 (by decide +kernel) ?_
    refine lv_aload_n hx hb d_St_keep_80 rfl (lv_at hl 4 rfl) ?_
    refine gf_St_7 hx hb hT hown hK hP 0 rfl rfl d_St_keep_81 ?_
    refine lv_iload hx hb d_St_keep_84 (lv_at hl 1 rfl) ?_
    refine lv_iload hx hb d_St_keep_86 (lv_at hl 0 rfl) ?_
    refine nv_copy hx hb (hml.trans hl.1.symm) hT hown hK hP hD hS 4 1 3 0 rfl rfl rfl rfl (by omega) (by omega) (by omega) (by omega) hxf (Nat.le_of_ble_eq_true rfl) (Nat.le_of_ble_eq_true rfl) d_St_keep_88 (fun H locs hP hD hS => ?_)
    have hP : va_P D classes [(st, .inr (1, [.ref ba, .ref ta, .ref sa, .int (nI k), .int (nI (c - k)), .int (nI (B k % R)), .int (nI (B c - B k)), .int (nI (dr + (k - o))), .int (nI de)])), (ba, .inl (cB, R, .inl (va_cpy xf bf 0 (B c % R) (min n (R - (B c % R)))))), (ta, .inl (cI, R, .inl tf)), (sa, .inl (cS, R, .inl sf)), (xa, .inl (cX, 512, .inl xf))] H := hP
    have hD : va_D A [(st, .inr (1, [.ref ba, .ref ta, .ref sa, .int (nI k), .int (nI (c - k)), .int (nI (B k % R)), .int (nI (B c - B k)), .int (nI (dr + (k - o))), .int (nI de)])), (ba, .inl (cB, R, .inl (va_cpy xf bf 0 (B c % R) (min n (R - (B c % R)))))), (ta, .inl (cI, R, .inl tf)), (sa, .inl (cS, R, .inl sf)), (xa, .inl (cX, 512, .inl xf))] := hD
    refine lv_aload_n hx hb d_St_keep_91 rfl (lv_at hl 5 rfl) ?_
    refine lv_iload hx hb d_St_keep_92 (lv_at hl 0 rfl) ?_
    refine lv_aload_n hx hb d_St_keep_94 rfl (lv_at hl 4 rfl) ?_
    refine gf_St_7 hx hb hT hown hK hP 0 rfl rfl d_St_keep_95 ?_
    refine lv_iconst (v := nI 0) hx hb d_St_keep_98 (by decide +kernel) ?_
    refine lv_iload_n hx hb d_St_keep_99 rfl (lv_at hl 6 rfl) ?_
    refine lv_iload hx hb d_St_keep_100 (lv_at hl 0 rfl) ?_
    refine nv_isub hx hb (by omega) d_St_keep_102 ?_
    refine nv_copy hx hb (hml.trans hl.1.symm) hT hown hK hP hD hS 4 1 3 0 rfl rfl rfl rfl (by omega) (by omega) (by omega) (by omega) hxf (Nat.le_of_ble_eq_true rfl) (Nat.le_of_ble_eq_true rfl) d_St_keep_103 (fun H locs hP hD hS => ?_)
    have hP : va_P D classes [(st, .inr (1, [.ref ba, .ref ta, .ref sa, .int (nI k), .int (nI (c - k)), .int (nI (B k % R)), .int (nI (B c - B k)), .int (nI (dr + (k - o))), .int (nI de)])), (ba, .inl (cB, R, .inl (va_cpy xf (va_cpy xf bf 0 (B c % R) (min n (R - (B c % R)))) (min n (R - (B c % R))) 0 (n - (min n (R - (B c % R))))))), (ta, .inl (cI, R, .inl tf)), (sa, .inl (cS, R, .inl sf)), (xa, .inl (cX, 512, .inl xf))] H := hP
    have hD : va_D A [(st, .inr (1, [.ref ba, .ref ta, .ref sa, .int (nI k), .int (nI (c - k)), .int (nI (B k % R)), .int (nI (B c - B k)), .int (nI (dr + (k - o))), .int (nI de)])), (ba, .inl (cB, R, .inl (va_cpy xf (va_cpy xf bf 0 (B c % R) (min n (R - (B c % R)))) (min n (R - (B c % R))) 0 (n - (min n (R - (B c % R))))))), (ta, .inl (cI, R, .inl tf)), (sa, .inl (cS, R, .inl sf)), (xa, .inl (cX, 512, .inl xf))] := hD
    refine lv_aload_n hx hb d_St_keep_106 rfl (lv_at hl 4 rfl) ?_
    refine gf_St_13 hx hb hT hown hK hP 0 rfl rfl d_St_keep_107 ?_
    refine lv_aload_n hx hb d_St_keep_110 rfl (lv_at hl 4 rfl) ?_
    refine lv_aload_n hx hb d_St_keep_111 rfl (lv_at hl 4 rfl) ?_
    refine ro_calli (ci := 1) (As := []) (rest := [.ref st, .ref ta]) hx hb hml hT hown (c_St_behind l D st ba ta sa cB cI cS R k (c - k) (B k % R) (B c - B k) (dr + (k - o)) de (va_cpy xf (va_cpy xf bf 0 (B c % R) (min n (R - (B c % R)))) (min n (R - (B c % R))) 0 (n - (min n (R - (B c % R))))) tf sf) (cs_St_59 hT ⟨(Nat.le_of_ble_eq_true rfl), (Nat.le_of_ble_eq_true rfl)⟩) (hK.sub [0, 1, 2] rfl) (hP.sub [0, 1, 2, 3] rfl) 0 rfl rfl rfl hl.1 rfl (Nat.le_of_ble_eq_true rfl) d_St_keep_112 ⟨(Nat.le_of_ble_eq_true rfl), (Nat.le_of_ble_eq_true rfl)⟩ (fun r_112 er_112 => ?_)
    subst er_112
    refine nv_as (y := c) (by omega) ?_
    refine ro_calli (ci := 1) (As := [.int (nI c)]) (rest := [.ref ta]) hx hb hml hT hown (c_St_row l D st ba ta sa cB cI cS R k (c - k) (B k % R) (B c - B k) (dr + (k - o)) de (va_cpy xf (va_cpy xf bf 0 (B c % R) (min n (R - (B c % R)))) (min n (R - (B c % R))) 0 (n - (min n (R - (B c % R))))) tf sf c (by omega) hR0 hR1) (cs_St_21 hT ⟨(Nat.le_of_ble_eq_true rfl), (Nat.le_of_ble_eq_true rfl)⟩) (hK.sub [0, 1, 2] rfl) (hP.sub [0, 1, 2, 3] rfl) 0 rfl rfl rfl hl.1 rfl (Nat.le_of_ble_eq_true rfl) d_St_keep_115 ⟨(Nat.le_of_ble_eq_true rfl), (Nat.le_of_ble_eq_true rfl)⟩ (fun r_115 er_115 => ?_)
    subst er_115
    refine lv_iload_n hx hb d_St_keep_118 rfl (lv_at hl 7 rfl) ?_
    refine nv_iast hx hb hK hP hD hS 2 1 rfl rfl (Nat.mod_lt _ hR0) hR1 d_St_keep_119 (fun H locs hP hD hS => ?_)
    have hP : va_P D classes [(st, .inr (1, [.ref ba, .ref ta, .ref sa, .int (nI k), .int (nI (c - k)), .int (nI (B k % R)), .int (nI (B c - B k)), .int (nI (dr + (k - o))), .int (nI de)])), (ba, .inl (cB, R, .inl (va_cpy xf (va_cpy xf bf 0 (B c % R) (min n (R - (B c % R)))) (min n (R - (B c % R))) 0 (n - (min n (R - (B c % R))))))), (ta, .inl (cI, R, .inl (upd tf (c % R) t))), (sa, .inl (cS, R, .inl sf)), (xa, .inl (cX, 512, .inl xf))] H := hP
    have hD : va_D A [(st, .inr (1, [.ref ba, .ref ta, .ref sa, .int (nI k), .int (nI (c - k)), .int (nI (B k % R)), .int (nI (B c - B k)), .int (nI (dr + (k - o))), .int (nI de)])), (ba, .inl (cB, R, .inl (va_cpy xf (va_cpy xf bf 0 (B c % R) (min n (R - (B c % R)))) (min n (R - (B c % R))) 0 (n - (min n (R - (B c % R))))))), (ta, .inl (cI, R, .inl (upd tf (c % R) t))), (sa, .inl (cS, R, .inl sf)), (xa, .inl (cX, 512, .inl xf))] := hD
    refine lv_aload_n hx hb d_St_keep_120 rfl (lv_at hl 4 rfl) ?_
    refine gf_St_17 hx hb hT hown hK hP 0 rfl rfl d_St_keep_121 ?_
    refine lv_aload_n hx hb d_St_keep_124 rfl (lv_at hl 4 rfl) ?_
    refine lv_aload_n hx hb d_St_keep_125 rfl (lv_at hl 4 rfl) ?_
    refine ro_calli (ci := 1) (As := []) (rest := [.ref st, .ref sa]) hx hb hml hT hown (c_St_behind l D st ba ta sa cB cI cS R k (c - k) (B k % R) (B c - B k) (dr + (k - o)) de (va_cpy xf (va_cpy xf bf 0 (B c % R) (min n (R - (B c % R)))) (min n (R - (B c % R))) 0 (n - (min n (R - (B c % R))))) (upd tf (c % R) t) sf) (cs_St_59 hT ⟨(Nat.le_of_ble_eq_true rfl), (Nat.le_of_ble_eq_true rfl)⟩) (hK.sub [0, 1, 2] rfl) (hP.sub [0, 1, 2, 3] rfl) 0 rfl rfl rfl hl.1 rfl (Nat.le_of_ble_eq_true rfl) d_St_keep_126 ⟨(Nat.le_of_ble_eq_true rfl), (Nat.le_of_ble_eq_true rfl)⟩ (fun r_126 er_126 => ?_)
    subst er_126
    refine nv_as (y := c) (by omega) ?_
    refine ro_calli (ci := 1) (As := [.int (nI c)]) (rest := [.ref sa]) hx hb hml hT hown (c_St_row l D st ba ta sa cB cI cS R k (c - k) (B k % R) (B c - B k) (dr + (k - o)) de (va_cpy xf (va_cpy xf bf 0 (B c % R) (min n (R - (B c % R)))) (min n (R - (B c % R))) 0 (n - (min n (R - (B c % R))))) (upd tf (c % R) t) sf c (by omega) hR0 hR1) (cs_St_21 hT ⟨(Nat.le_of_ble_eq_true rfl), (Nat.le_of_ble_eq_true rfl)⟩) (hK.sub [0, 1, 2] rfl) (hP.sub [0, 1, 2, 3] rfl) 0 rfl rfl rfl hl.1 rfl (Nat.le_of_ble_eq_true rfl) d_St_keep_129 ⟨(Nat.le_of_ble_eq_true rfl), (Nat.le_of_ble_eq_true rfl)⟩ (fun r_129 er_129 => ?_)
    subst er_129
    refine lv_iload_n hx hb d_St_keep_132 rfl (lv_at hl 6 rfl) ?_
    refine lv_i2s hx hb d_St_keep_133 rfl ?_
    refine nv_asI (y := n) (sh16 n (by omega)) ?_
    refine nv_sast hx hb hK hP hD hS 3 2 rfl rfl (Nat.mod_lt _ hR0) hR1 (by rw [vp_nar_short]; exact sh16 n (by omega)) d_St_keep_134 (fun H locs hP hD hS => ?_)
    have hP : va_P D classes [(st, .inr (1, [.ref ba, .ref ta, .ref sa, .int (nI k), .int (nI (c - k)), .int (nI (B k % R)), .int (nI (B c - B k)), .int (nI (dr + (k - o))), .int (nI de)])), (ba, .inl (cB, R, .inl (va_cpy xf (va_cpy xf bf 0 (B c % R) (min n (R - (B c % R)))) (min n (R - (B c % R))) 0 (n - (min n (R - (B c % R))))))), (ta, .inl (cI, R, .inl (upd tf (c % R) t))), (sa, .inl (cS, R, .inl (upd sf (c % R) (nI n)))), (xa, .inl (cX, 512, .inl xf))] H := hP
    have hD : va_D A [(st, .inr (1, [.ref ba, .ref ta, .ref sa, .int (nI k), .int (nI (c - k)), .int (nI (B k % R)), .int (nI (B c - B k)), .int (nI (dr + (k - o))), .int (nI de)])), (ba, .inl (cB, R, .inl (va_cpy xf (va_cpy xf bf 0 (B c % R) (min n (R - (B c % R)))) (min n (R - (B c % R))) 0 (n - (min n (R - (B c % R))))))), (ta, .inl (cI, R, .inl (upd tf (c % R) t))), (sa, .inl (cS, R, .inl (upd sf (c % R) (nI n)))), (xa, .inl (cX, 512, .inl xf))] := hD
    refine lv_aload_n hx hb d_St_keep_135 rfl (lv_at hl 4 rfl) ?_
    refine lv_dup hx hb d_St_keep_136 rfl ?_
    refine gf_St_38 hx hb hT hown hK hP 0 rfl rfl d_St_keep_137 ?_
    refine lv_iload_n hx hb d_St_keep_140 rfl (lv_at hl 6 rfl) ?_
    refine nv_iadd hx hb d_St_keep_141 ?_
    refine nv_as (y := (updB B (c + 1) (B c + n)) (c + 1) - (updB B (c + 1) (B c + n)) k) (by rw [updB_s, updB_n (show k ≠ c + 1 by omega)]; omega) ?_
    refine pf_St_38 hx hb hT hown hK hP hD hS 0 rfl (Nat.le_of_ble_eq_true rfl) d_St_keep_142 (fun H locs hP hD hS => ?_)
    have hP : va_P D classes [(st, .inr (1, [.ref ba, .ref ta, .ref sa, .int (nI k), .int (nI (c - k)), .int (nI (B k % R)), .int (nI ((updB B (c + 1) (B c + n)) (c + 1) - (updB B (c + 1) (B c + n)) k)), .int (nI (dr + (k - o))), .int (nI de)])), (ba, .inl (cB, R, .inl (va_cpy xf (va_cpy xf bf 0 (B c % R) (min n (R - (B c % R)))) (min n (R - (B c % R))) 0 (n - (min n (R - (B c % R))))))), (ta, .inl (cI, R, .inl (upd tf (c % R) t))), (sa, .inl (cS, R, .inl (upd sf (c % R) (nI n)))), (xa, .inl (cX, 512, .inl xf))] H := hP
    have hD : va_D A [(st, .inr (1, [.ref ba, .ref ta, .ref sa, .int (nI k), .int (nI (c - k)), .int (nI (B k % R)), .int (nI ((updB B (c + 1) (B c + n)) (c + 1) - (updB B (c + 1) (B c + n)) k)), .int (nI (dr + (k - o))), .int (nI de)])), (ba, .inl (cB, R, .inl (va_cpy xf (va_cpy xf bf 0 (B c % R) (min n (R - (B c % R)))) (min n (R - (B c % R))) 0 (n - (min n (R - (B c % R))))))), (ta, .inl (cI, R, .inl (upd tf (c % R) t))), (sa, .inl (cS, R, .inl (upd sf (c % R) (nI n)))), (xa, .inl (cX, 512, .inl xf))] := hD
    refine lv_aload_n hx hb d_St_keep_145 rfl (lv_at hl 4 rfl) ?_
    refine lv_dup hx hb d_St_keep_146 rfl ?_
    refine gf_St_29 hx hb hT hown hK hP 0 rfl rfl d_St_keep_147 ?_
    refine lv_iconst (v := nI 1) hx hb d_St_keep_150 (by decide +kernel) ?_
    refine nv_iadd hx hb d_St_keep_151 ?_
    refine nv_as (y := c + 1 - k) (by omega) ?_
    refine pf_St_29 hx hb hT hown hK hP hD hS 0 rfl (Nat.le_of_ble_eq_true rfl) d_St_keep_152 (fun H locs hP hD hS => ?_)
    have hP : va_P D classes [(st, .inr (1, [.ref ba, .ref ta, .ref sa, .int (nI k), .int (nI (c + 1 - k)), .int (nI (B k % R)), .int (nI ((updB B (c + 1) (B c + n)) (c + 1) - (updB B (c + 1) (B c + n)) k)), .int (nI (dr + (k - o))), .int (nI de)])), (ba, .inl (cB, R, .inl (va_cpy xf (va_cpy xf bf 0 (B c % R) (min n (R - (B c % R)))) (min n (R - (B c % R))) 0 (n - (min n (R - (B c % R))))))), (ta, .inl (cI, R, .inl (upd tf (c % R) t))), (sa, .inl (cS, R, .inl (upd sf (c % R) (nI n)))), (xa, .inl (cX, 512, .inl xf))] H := hP
    have hD : va_D A [(st, .inr (1, [.ref ba, .ref ta, .ref sa, .int (nI k), .int (nI (c + 1 - k)), .int (nI (B k % R)), .int (nI ((updB B (c + 1) (B c + n)) (c + 1) - (updB B (c + 1) (B c + n)) k)), .int (nI (dr + (k - o))), .int (nI de)])), (ba, .inl (cB, R, .inl (va_cpy xf (va_cpy xf bf 0 (B c % R) (min n (R - (B c % R)))) (min n (R - (B c % R))) 0 (n - (min n (R - (B c % R))))))), (ta, .inl (cI, R, .inl (upd tf (c % R) t))), (sa, .inl (cS, R, .inl (upd sf (c % R) (nI n)))), (xa, .inl (cX, 512, .inl xf))] := hD
    refine lv_iload hx hb d_St_keep_155 (lv_at hl 2 rfl) ?_
    rw [show B k % R = (updB B (c + 1) (B c + n)) k % R by rw [updB_n (show k ≠ c + 1 by omega)]] at hP hD
    exact rw_iret (k, (va_cpy xf (va_cpy xf bf 0 (B c % R) (min n (R - (B c % R)))) (min n (R - (B c % R))) 0 (n - (min n (R - (B c % R))))), (upd tf (c % R) t), (upd sf (c % R) (nI n))) hx hb hr hlk hK hP hD hS d_St_keep_157 ⟨rfl, ⟨k1, k2, c_17, k4⟩, str_keep h hn hn2 c_17 hcc hB hxf⟩
  · have kc : k < c := by
      rcases Nat.lt_or_ge k c with z | z
      · exact z
      · rw [show k = c by omega] at c_17; omega
    refine lv_aload_n hx hb d_St_keep_20 rfl (lv_at hl 1 rfl) ?_
    refine rw_callv (ci := 1) (As := []) (rest := []) (wr := [(xa, .inl (cX, 512, .inl xf))]) hx hb hml hT hown (c_St_drop l D st ba ta sa cB cI cS R k c T B S dr de bf tf sf H.size h kc) (cs_St_41 hT ⟨(Nat.le_of_ble_eq_true rfl), (Nat.le_of_ble_eq_true rfl)⟩) (hK.sub [0, 1, 2] rfl) hP hD hS hA [0, 1, 2, 3] [4] rfl rfl (by decide) (by decide) (by decide) 0 rfl rfl rfl hl.1 rfl (Nat.le_of_ble_eq_true rfl) d_St_keep_21 ⟨(Nat.le_of_ble_eq_true rfl), (Nat.le_of_ble_eq_true rfl)⟩ (fun u H locs hw hKn hP hD hS => ?_)
    have hP : va_P D classes [(st, .inr (1, [.ref ba, .ref ta, .ref sa, .int (nI (k + 1)), .int (nI (c - (k + 1))), .int (nI (B (k + 1) % R)), .int (nI (B c - B (k + 1))), .int (nI dr), .int (nI de)])), (ba, .inl (cB, R, .inl bf)), (ta, .inl (cI, R, .inl tf)), (sa, .inl (cS, R, .inl sf)), (xa, .inl (cX, 512, .inl xf))] H := hP.sub [1, 2, 3, 4, 0] rfl
    have hD : va_D A [(st, .inr (1, [.ref ba, .ref ta, .ref sa, .int (nI (k + 1)), .int (nI (c - (k + 1))), .int (nI (B (k + 1) % R)), .int (nI (B c - B (k + 1))), .int (nI dr), .int (nI de)])), (ba, .inl (cB, R, .inl bf)), (ta, .inl (cI, R, .inl tf)), (sa, .inl (cS, R, .inl sf)), (xa, .inl (cX, 512, .inl xf))] := hD.sub [1, 2, 3, 4, 0] (by decide) rfl
    refine lv_goto (tgt := 6) hx hb d_St_keep_24 (by decide) ?_
    exact ih (k + 1) _ _ _ ⟨by omega, by omega, by omega, fun i p q => by
        rcases Nat.lt_or_ge i k with z | z
        · exact k4 i p z
        · rw [show i = k by omega]; exact c_17, str_drop h kc, hP, hD, hS, hl⟩
set_option maxHeartbeats 4000000 in
set_option maxRecDepth 100000 in
/-- copy(i, row) -/
theorem c_St_copy (l : Launch) (D : va_G) (st ba ta sa xa : Nat) (cB cI cS cX : ClassId) (R o c : Nat) (T : Nat → Int32) (B : Nat → Nat) (S : Nat → Int32) (dr de : Nat) (bf tf sf : Nat → Int32) (xf : Nat → Int32) (sz : Nat) (i : Nat) (h : StR R o c T B S bf tf sf) (hi : o ≤ i) (hic : i < c) : Met l y_St_copy (wc y_St_copy b_St_copy 6 none) ({ frames := 3, cells := 0, slots := 0, locals := 65 }) (va_Pc [.ref st, .int (nI i), .ref xa] (rwB D (vS5 st ba ta sa xa cB cI cS cX R o (c - o) (B o % R) (B c - B o) dr de bf tf sf xf) (yS5 cB cI cS cX) sz)) (QV (fun (u : Nat → Int32) => ∀ j, j < B (i + 1) - B i → u j = S (B i + j)) D (fun u => (yS5 cB cI cS cX)) (fun u => (vS5 st ba ta sa xa cB cI cS cX R o (c - o) (B o % R) (B c - B o) dr de bf tf sf u)) (va_A (vS5 st ba ta sa xa cB cI cS cX R o (c - o) (B o % R) (B c - B o) dr de bf tf sf xf) sz)) 0 0 (va_A (vS5 st ba ta sa xa cB cI cS cX R o (c - o) (B o % R) (B c - B o) dr de bf tf sf xf) sz) := by
  refine rw_startV (by decide) (Nat.le_of_ble_eq_true rfl) ?_
  intro p e s m below meth cd A hx hb hr hT hown hlk hml hnm hA hP hK hD hS ls hl
  have hown : s.vm.findClass R_St = some m.cls := hown
  have hP : va_P D classes [(st, .inr (1, [.ref ba, .ref ta, .ref sa, .int (nI o), .int (nI (c - o)), .int (nI (B o % R)), .int (nI (B c - B o)), .int (nI dr), .int (nI de)])), (ba, .inl (cB, R, .inl bf)), (ta, .inl (cI, R, .inl tf)), (sa, .inl (cS, R, .inl sf)), (xa, .inl (cX, 512, .inl xf))] s.heap := hP
  have hD : va_D A [(st, .inr (1, [.ref ba, .ref ta, .ref sa, .int (nI o), .int (nI (c - o)), .int (nI (B o % R)), .int (nI (B c - B o)), .int (nI dr), .int (nI de)])), (ba, .inl (cB, R, .inl bf)), (ta, .inl (cI, R, .inl tf)), (sa, .inl (cS, R, .inl sf)), (xa, .inl (cX, 512, .inl xf))] := hD
  have hK : va_K D classes [(cB, .byte), (cI, .int), (cS, .short), (cX, .byte)] s := hK
  have hl : lv_has ls 6 [(0, .ref st), (1, .int (nI i)), (2, .ref xa)] := hl
  obtain ⟨hs, hgT, hgZ, hgS, h8⟩ := id h
  obtain ⟨a1, a2, a3, a4, a5, a6, a7⟩ := id hs
  have hR0 : 0 < R := by omega
  have hR1 : R < 2 ^ 31 := by omega
  have hm := hs_mono hs
  have hoc := hm c o a3 (Nat.le_refl c)
  have b0 := a7 i hic
  have z0 := hgZ i hi hic
  have m0 := Nat.mod_lt (B i) hR0
  have m1 := hm i o hi (by omega)
  have m2 := hm c (i + 1) (by omega) (Nat.le_refl c)
  have hmn : min (B (i + 1) - B i) (R - B i % R) ≤ B (i + 1) - B i ∧ min (B (i + 1) - B i) (R - B i % R) ≤ R - B i % R := by omega
  have hmx : B (i + 1) - B i - min (B (i + 1) - B i) (R - B i % R) ≤ R := by omega
  refine lv_aload_n hx hb d_St_copy_0 rfl (lv_at hl 0 rfl) ?_
  refine lv_iload_n hx hb d_St_copy_1 rfl (lv_at hl 1 rfl) ?_
  refine ro_calli (ci := 1) (As := [.int (nI i)]) (rest := []) hx hb hml hT hown (c_St_place l D st ba ta sa cB cI cS R o c T B S dr de bf tf sf h i hi (by omega)) (cs_St_69 hT ⟨(Nat.le_of_ble_eq_true rfl), (Nat.le_of_ble_eq_true rfl)⟩) (hK.sub [0, 1, 2] rfl) (hP.sub [0, 1, 2, 3] rfl) 0 rfl rfl rfl hl.1 rfl (Nat.le_of_ble_eq_true rfl) d_St_copy_2 ⟨(Nat.le_of_ble_eq_true rfl), (Nat.le_of_ble_eq_true rfl)⟩ (fun r_2 er_2 => ?_)
  subst er_2
  refine lv_istore_n (lv' := [(3, .int (nI (B i % R))), (0, .ref st), (1, .int (nI i)), (2, .ref xa)]) hx hb d_St_copy_5 rfl hl (by decide) rfl (fun ls hl => ?_)
  refine lv_aload_n hx hb d_St_copy_6 rfl (lv_at hl 1 rfl) ?_
  refine lv_iload_n hx hb d_St_copy_7 rfl (lv_at hl 2 rfl) ?_
  refine ro_calli (ci := 1) (As := [.int (nI i)]) (rest := []) hx hb hml hT hown (c_St_size l D st ba ta sa cB cI cS R o (c - o) (B o % R) (B c - B o) dr de bf tf sf i (by omega) hR0 hR1) (cs_St_32 hT ⟨(Nat.le_of_ble_eq_true rfl), (Nat.le_of_ble_eq_true rfl)⟩) (hK.sub [0, 1, 2] rfl) (hP.sub [0, 1, 2, 3] rfl) 0 rfl rfl rfl hl.1 rfl (Nat.le_of_ble_eq_true rfl) d_St_copy_8 ⟨(Nat.le_of_ble_eq_true rfl), (Nat.le_of_ble_eq_true rfl)⟩ (fun r_8 er_8 => ?_)
  subst er_8
  refine nv_asI (y := B (i + 1) - B i) z0 ?_
  refine lv_istore (lv' := [(4, .int (nI (B (i + 1) - B i))), (3, .int (nI (B i % R))), (0, .ref st), (1, .int (nI i)), (2, .ref xa)]) hx hb d_St_copy_11 hl (by decide) rfl (fun ls hl => ?_)
  refine lv_iload hx hb d_St_copy_13 (lv_at hl 0 rfl) ?_
  refine lv_aload_n hx hb d_St_copy_15 rfl (lv_at hl 2 rfl) ?_
  refine gf_St_7 hx hb hT hown hK hP 0 rfl rfl d_St_copy_16 ?_
  refine nv_alen hx hb hK hP 1 0 rfl rfl d_St_copy_19 ?_
  refine lv_iload_n hx hb d_St_copy_20 rfl (lv_at hl 1 rfl) ?_
  refine nv_isub hx hb (by omega) d_St_copy_21 ?_
  refine nv_mmin hx hb (hml.trans hl.1.symm) hT hown tb_1_132 (by omega) (by omega) (Nat.le_of_ble_eq_true rfl) (Nat.le_of_ble_eq_true rfl) (Nat.le_of_ble_eq_true rfl) (Nat.le_of_ble_eq_true rfl) d_St_copy_22 ?_
  refine lv_istore (lv' := [(5, .int (nI (min (B (i + 1) - B i) (R - (B i % R))))), (4, .int (nI (B (i + 1) - B i))), (3, .int (nI (B i % R))), (0, .ref st), (1, .int (nI i)), (2, .ref xa)]) hx hb d_St_copy_25 hl (by decide) rfl (fun ls hl => ?_)
  refine lv_aload_n hx hb d_St_copy_27 rfl (lv_at hl 3 rfl) ?_
  refine gf_St_7 hx hb hT hown hK hP 0 rfl rfl d_St_copy_28 ?_
  refine lv_iload_n hx hb d_St_copy_31 rfl (lv_at hl 2 rfl) ?_
  refine lv_aload_n hx hb d_St_copy_32 rfl (lv_at hl 5 rfl) ?_
  refine lv_iconst (v := nI 0) hx hb d_St_copy_33 (by decide +kernel) ?_
  refine lv_iload hx hb d_St_copy_34 (lv_at hl 0 rfl) ?_
  refine nv_copy hx hb (hml.trans hl.1.symm) hT hown hK hP hD hS 1 4 0 3 rfl rfl rfl rfl (by omega) (by omega) (by omega) (by omega) h8 (Nat.le_of_ble_eq_true rfl) (Nat.le_of_ble_eq_true rfl) d_St_copy_36 (fun H locs hP hD hS => ?_)
  have hP : va_P D classes [(st, .inr (1, [.ref ba, .ref ta, .ref sa, .int (nI o), .int (nI (c - o)), .int (nI (B o % R)), .int (nI (B c - B o)), .int (nI dr), .int (nI de)])), (ba, .inl (cB, R, .inl bf)), (ta, .inl (cI, R, .inl tf)), (sa, .inl (cS, R, .inl sf)), (xa, .inl (cX, 512, .inl (va_cpy bf xf (B i % R) 0 (min (B (i + 1) - B i) (R - (B i % R))))))] H := hP
  have hD : va_D A [(st, .inr (1, [.ref ba, .ref ta, .ref sa, .int (nI o), .int (nI (c - o)), .int (nI (B o % R)), .int (nI (B c - B o)), .int (nI dr), .int (nI de)])), (ba, .inl (cB, R, .inl bf)), (ta, .inl (cI, R, .inl tf)), (sa, .inl (cS, R, .inl sf)), (xa, .inl (cX, 512, .inl (va_cpy bf xf (B i % R) 0 (min (B (i + 1) - B i) (R - (B i % R))))))] := hD
  refine lv_aload_n hx hb d_St_copy_39 rfl (lv_at hl 3 rfl) ?_
  refine gf_St_7 hx hb hT hown hK hP 0 rfl rfl d_St_copy_40 ?_
  refine lv_iconst (v := nI 0) hx hb d_St_copy_43 (by decide +kernel) ?_
  refine lv_aload_n hx hb d_St_copy_44 rfl (lv_at hl 5 rfl) ?_
  refine lv_iload hx hb d_St_copy_45 (lv_at hl 0 rfl) ?_
  refine lv_iload hx hb d_St_copy_47 (lv_at hl 1 rfl) ?_
  refine lv_iload hx hb d_St_copy_49 (lv_at hl 0 rfl) ?_
  refine nv_isub hx hb (by omega) d_St_copy_51 ?_
  refine nv_copy hx hb (hml.trans hl.1.symm) hT hown hK hP hD hS 1 4 0 3 rfl rfl rfl rfl (by omega) (by omega) (by omega) (by omega) h8 (Nat.le_of_ble_eq_true rfl) (Nat.le_of_ble_eq_true rfl) d_St_copy_52 (fun H locs hP hD hS => ?_)
  have hP : va_P D classes [(st, .inr (1, [.ref ba, .ref ta, .ref sa, .int (nI o), .int (nI (c - o)), .int (nI (B o % R)), .int (nI (B c - B o)), .int (nI dr), .int (nI de)])), (ba, .inl (cB, R, .inl bf)), (ta, .inl (cI, R, .inl tf)), (sa, .inl (cS, R, .inl sf)), (xa, .inl (cX, 512, .inl (va_cpy bf (va_cpy bf xf (B i % R) 0 (min (B (i + 1) - B i) (R - (B i % R)))) 0 (min (B (i + 1) - B i) (R - (B i % R))) ((B (i + 1) - B i) - (min (B (i + 1) - B i) (R - (B i % R)))))))] H := hP
  have hD : va_D A [(st, .inr (1, [.ref ba, .ref ta, .ref sa, .int (nI o), .int (nI (c - o)), .int (nI (B o % R)), .int (nI (B c - B o)), .int (nI dr), .int (nI de)])), (ba, .inl (cB, R, .inl bf)), (ta, .inl (cI, R, .inl tf)), (sa, .inl (cS, R, .inl sf)), (xa, .inl (cX, 512, .inl (va_cpy bf (va_cpy bf xf (B i % R) 0 (min (B (i + 1) - B i) (R - (B i % R)))) 0 (min (B (i + 1) - B i) (R - (B i % R))) ((B (i + 1) - B i) - (min (B (i + 1) - B i) (R - (B i % R)))))))] := hD
  exact rw_vret (va_cpy bf (va_cpy bf xf (B i % R) 0 (min (B (i + 1) - B i) (R - (B i % R)))) 0 (min (B (i + 1) - B i) (R - (B i % R))) ((B (i + 1) - B i) - (min (B (i + 1) - B i) (R - (B i % R))))) hx hb hr hlk hK hP hD hS d_St_copy_55 (fun j hj => str_copy h hi hic xf j hj)
set_option maxHeartbeats 4000000 in
set_option maxRecDepth 100000 in
/-- Store(room) -/
theorem c_St_init (l : Launch) (D : va_G) (st R : Nat) (sz : Nat) (h1 : 64 ≤ R) (h2 : R ≤ 16384) : Met l y_St_init (wc y_St_init b_St_init 2 none) ({ frames := 1, cells := 3, slots := 3 * R, locals := 12 }) (va_Pc [.ref st, .int (nI R)] (rwB D [(st, .inr (1, [.null, .null, .null, .int (nI 0), .int (nI 0), .int (nI 0), .int (nI 0), .int (nI 0), .int (nI 0)]))] ([] : List (ClassId × FieldType)) sz)) (QV (fun (u : (Nat × Nat × Nat) × (ClassId × ClassId × ClassId)) => True) D (fun u => (ySt u.2.1 u.2.2.1 u.2.2.2)) (fun u => (vSt st u.1.1 u.1.2.1 u.1.2.2 u.2.1 u.2.2.1 u.2.2.2 R 0 0 0 0 0 0 (fun _ => 0) (fun _ => 0) (fun _ => 0))) (va_A [(st, .inr (1, [.null, .null, .null, .int (nI 0), .int (nI 0), .int (nI 0), .int (nI 0), .int (nI 0), .int (nI 0)]))] sz)) 3 (3 * R) (va_A [(st, .inr (1, [.null, .null, .null, .int (nI 0), .int (nI 0), .int (nI 0), .int (nI 0), .int (nI 0), .int (nI 0)]))] sz) := by
  refine rw_startV (by decide) (Nat.le_of_ble_eq_true rfl) ?_
  intro p e s m below meth cd A hx hb hr hT hown hlk hml hnm hA hP hK hD hS ls hl
  have hown : s.vm.findClass R_St = some m.cls := hown
  have hP : va_P D classes [(st, .inr (1, [.null, .null, .null, .int (nI 0), .int (nI 0), .int (nI 0), .int (nI 0), .int (nI 0), .int (nI 0)]))] s.heap := hP
  have hD : va_D A [(st, .inr (1, [.null, .null, .null, .int (nI 0), .int (nI 0), .int (nI 0), .int (nI 0), .int (nI 0), .int (nI 0)]))] := hD
  have hK : va_K D classes [] s := hK
  have hl : lv_has ls 2 [(0, .ref st), (1, .int (nI R))] := hl
  refine lv_aload_n hx hb d_St_init_0 rfl (lv_at hl 0 rfl) ?_
  refine W.objInit hx hb hown (hT _ tb_1_26) (hT _ tb_1_13) (hT _ tb_1_14) rfl (by rw [hml]; exact hl.1) rfl d_St_init_1 (Nat.le_of_ble_eq_true rfl) (Nat.le_of_ble_eq_true rfl) ?_
  refine W.eq (g2 := F0 m 4 ls []) rfl ?_
  refine lv_aload_n hx hb d_St_init_4 rfl (lv_at hl 0 rfl) ?_
  refine lv_iload_n hx hb d_St_init_5 rfl (lv_at hl 1 rfl) ?_
  refine va_newa (atype := .byte) (N' := R) (a0 := (R, .inl (fun _ => 0))) hx hb (hT _ tb_1_62) rfl hK hP hD hS hA (fun _ => rfl) (nI_pos (by omega)) (nI_clamp (by omega)) (by show _ * 1 ≤ _; omega) (by show 0 + 1 ≤ 3; omega) (by show 0 + R ≤ 3 * R; omega) d_St_init_6 (fun ba cB H hK hP hD hS => ?_)
  have hP : va_P D classes [(st, .inr (1, [.null, .null, .null, .int (nI 0), .int (nI 0), .int (nI 0), .int (nI 0), .int (nI 0), .int (nI 0)])), (ba, .inl (cB, R, .inl (fun _ => 0)))] H := hP
  have hD : va_D A [(st, .inr (1, [.null, .null, .null, .int (nI 0), .int (nI 0), .int (nI 0), .int (nI 0), .int (nI 0), .int (nI 0)])), (ba, .inl (cB, R, .inl (fun _ => 0)))] := hD
  have hK : va_K D classes [(cB, .byte)] s := hK
  refine pf_St_7 hx hb hT hown hK hP hD hS 0 rfl hnm (Nat.le_of_ble_eq_true rfl) d_St_init_8 (fun H locs hP hD hS => ?_)
  have hP : va_P D classes [(st, .inr (1, [.ref ba, .null, .null, .int (nI 0), .int (nI 0), .int (nI 0), .int (nI 0), .int (nI 0), .int (nI 0)])), (ba, .inl (cB, R, .inl (fun _ => 0)))] H := hP
  have hD : va_D A [(st, .inr (1, [.ref ba, .null, .null, .int (nI 0), .int (nI 0), .int (nI 0), .int (nI 0), .int (nI 0), .int (nI 0)])), (ba, .inl (cB, R, .inl (fun _ => 0)))] := hD
  refine lv_aload_n hx hb d_St_init_11 rfl (lv_at hl 0 rfl) ?_
  refine lv_iload_n hx hb d_St_init_12 rfl (lv_at hl 1 rfl) ?_
  refine va_newa (atype := .int) (N' := R) (a0 := (R, .inl (fun _ => 0))) hx hb (hT _ tb_1_63) rfl hK hP hD hS hA (fun _ => rfl) (nI_pos (by omega)) (nI_clamp (by omega)) (by show _ * 4 ≤ _; omega) (by show 0 + 1 + 1 ≤ 3; omega) (by show 0 + R + R ≤ 3 * R; omega) d_St_init_13 (fun ta cI H hK hP hD hS => ?_)
  have hP : va_P D classes [(st, .inr (1, [.ref ba, .null, .null, .int (nI 0), .int (nI 0), .int (nI 0), .int (nI 0), .int (nI 0), .int (nI 0)])), (ba, .inl (cB, R, .inl (fun _ => 0))), (ta, .inl (cI, R, .inl (fun _ => 0)))] H := hP
  have hD : va_D A [(st, .inr (1, [.ref ba, .null, .null, .int (nI 0), .int (nI 0), .int (nI 0), .int (nI 0), .int (nI 0), .int (nI 0)])), (ba, .inl (cB, R, .inl (fun _ => 0))), (ta, .inl (cI, R, .inl (fun _ => 0)))] := hD
  have hK : va_K D classes [(cB, .byte), (cI, .int)] s := hK
  refine pf_St_13 hx hb hT hown hK hP hD hS 0 rfl hnm (Nat.le_of_ble_eq_true rfl) d_St_init_15 (fun H locs hP hD hS => ?_)
  have hP : va_P D classes [(st, .inr (1, [.ref ba, .ref ta, .null, .int (nI 0), .int (nI 0), .int (nI 0), .int (nI 0), .int (nI 0), .int (nI 0)])), (ba, .inl (cB, R, .inl (fun _ => 0))), (ta, .inl (cI, R, .inl (fun _ => 0)))] H := hP
  have hD : va_D A [(st, .inr (1, [.ref ba, .ref ta, .null, .int (nI 0), .int (nI 0), .int (nI 0), .int (nI 0), .int (nI 0), .int (nI 0)])), (ba, .inl (cB, R, .inl (fun _ => 0))), (ta, .inl (cI, R, .inl (fun _ => 0)))] := hD
  refine lv_aload_n hx hb d_St_init_18 rfl (lv_at hl 0 rfl) ?_
  refine lv_iload_n hx hb d_St_init_19 rfl (lv_at hl 1 rfl) ?_
  refine va_newa (atype := .short) (N' := R) (a0 := (R, .inl (fun _ => 0))) hx hb (hT _ tb_1_64) rfl hK hP hD hS hA (fun _ => rfl) (nI_pos (by omega)) (nI_clamp (by omega)) (by show _ * 2 ≤ _; omega) (by show 0 + 1 + 1 + 1 ≤ 3; omega) (by show 0 + R + R + R ≤ 3 * R; omega) d_St_init_20 (fun sa cS H hK hP hD hS => ?_)
  have hP : va_P D classes [(st, .inr (1, [.ref ba, .ref ta, .null, .int (nI 0), .int (nI 0), .int (nI 0), .int (nI 0), .int (nI 0), .int (nI 0)])), (ba, .inl (cB, R, .inl (fun _ => 0))), (ta, .inl (cI, R, .inl (fun _ => 0))), (sa, .inl (cS, R, .inl (fun _ => 0)))] H := hP
  have hD : va_D A [(st, .inr (1, [.ref ba, .ref ta, .null, .int (nI 0), .int (nI 0), .int (nI 0), .int (nI 0), .int (nI 0), .int (nI 0)])), (ba, .inl (cB, R, .inl (fun _ => 0))), (ta, .inl (cI, R, .inl (fun _ => 0))), (sa, .inl (cS, R, .inl (fun _ => 0)))] := hD
  have hK : va_K D classes [(cB, .byte), (cI, .int), (cS, .short)] s := hK
  refine pf_St_17 hx hb hT hown hK hP hD hS 0 rfl hnm (Nat.le_of_ble_eq_true rfl) d_St_init_22 (fun H locs hP hD hS => ?_)
  have hP : va_P D classes [(st, .inr (1, [.ref ba, .ref ta, .ref sa, .int (nI 0), .int (nI 0), .int (nI 0), .int (nI 0), .int (nI 0), .int (nI 0)])), (ba, .inl (cB, R, .inl (fun _ => 0))), (ta, .inl (cI, R, .inl (fun _ => 0))), (sa, .inl (cS, R, .inl (fun _ => 0)))] H := hP
  have hD : va_D A [(st, .inr (1, [.ref ba, .ref ta, .ref sa, .int (nI 0), .int (nI 0), .int (nI 0), .int (nI 0), .int (nI 0), .int (nI 0)])), (ba, .inl (cB, R, .inl (fun _ => 0))), (ta, .inl (cI, R, .inl (fun _ => 0))), (sa, .inl (cS, R, .inl (fun _ => 0)))] := hD
  refine W.widen (k := 3) (n := 3 * R) (by omega) (by omega) ?_
  exact rw_vret ((ba, ta, sa), (cB, cI, cS)) hx hb hr hlk hK hP hD hS d_St_init_25 trivial
end
section
/-! ===== PacketStore$Retrieval: its own cell, then the store's four ===== -/
abbrev vRt (rt st ba ta sa : Nat) (cB cI cS : ClassId) (g fr to : Int32) (nx R ol mn fi us dr de : Nat) (bf tf sf : Nat → Int32) : va_W := [(rt, .inr (2, [.ref st, .int g, .int fr, .int to, .int (nI nx)])), (st, .inr (1, [.ref ba, .ref ta, .ref sa, .int (nI ol), .int (nI mn), .int (nI fi), .int (nI us), .int (nI dr), .int (nI de)])), (ba, .inl (cB, R, .inl bf)), (ta, .inl (cI, R, .inl tf)), (sa, .inl (cS, R, .inl sf))]
set_option maxHeartbeats 4000000 in
set_option maxRecDepth 100000 in
/-- Retrieval(store) -/
theorem c_Rt_init (l : Launch) (D : va_G) (rt st sz : Nat) : Met l y_Rt_init (wc y_Rt_init b_Rt_init 2 none) ({ frames := 1, cells := 0, slots := 0, locals := 12 }) (va_Pc [.ref rt, .ref st] (rwB D [(rt, .inr (2, [.null, .int (nI 0), .int (nI 0), .int (nI 0), .int (nI 0)]))] ([] : List (ClassId × FieldType)) sz)) (QV (fun (u : Unit) => True) D (fun u => ([] : List (ClassId × FieldType))) (fun u => [(rt, .inr (2, [.ref st, .int (nI 0), .int (nI 0), .int (nI 0), .int (nI 0)]))]) (va_A [(rt, .inr (2, [.null, .int (nI 0), .int (nI 0), .int (nI 0), .int (nI 0)]))] sz)) 0 0 (va_A [(rt, .inr (2, [.null, .int (nI 0), .int (nI 0), .int (nI 0), .int (nI 0)]))] sz) := by
  refine rw_startV (by decide) (Nat.le_of_ble_eq_true rfl) ?_
  intro p e s m below meth cd A hx hb hr hT hown hlk hml hnm hA hP hK hD hS ls hl
  have hown : s.vm.findClass R_Rt = some m.cls := hown
  have hP : va_P D classes [(rt, .inr (2, [.null, .int (nI 0), .int (nI 0), .int (nI 0), .int (nI 0)]))] s.heap := hP
  have hD : va_D A [(rt, .inr (2, [.null, .int (nI 0), .int (nI 0), .int (nI 0), .int (nI 0)]))] := hD
  have hK : va_K D classes [] s := hK
  have hl : lv_has ls 2 [(0, .ref rt), (1, .ref st)] := hl
  refine lv_aload_n hx hb d_Rt_init_0 rfl (lv_at hl 0 rfl) ?_
  refine W.objInit hx hb hown (hT _ tb_1_70) (hT _ tb_1_13) (hT _ tb_1_14) rfl (by rw [hml]; exact hl.1) rfl d_Rt_init_1 (Nat.le_of_ble_eq_true rfl) (Nat.le_of_ble_eq_true rfl) ?_
  refine W.eq (g2 := F0 m 4 ls []) rfl ?_
  refine lv_aload_n hx hb d_Rt_init_4 rfl (lv_at hl 0 rfl) ?_
  refine lv_aload_n hx hb d_Rt_init_5 rfl (lv_at hl 1 rfl) ?_
  refine pf_Rt_9 hx hb hT hown hK hP hD hS 0 rfl hnm (Nat.le_of_ble_eq_true rfl) d_Rt_init_6 (fun H locs hP hD hS => ?_)
  have hP : va_P D classes [(rt, .inr (2, [.ref st, .int (nI 0), .int (nI 0), .int (nI 0), .int (nI 0)]))] H := hP
  have hD : va_D A [(rt, .inr (2, [.ref st, .int (nI 0), .int (nI 0), .int (nI 0), .int (nI 0)]))] := hD
  exact rw_vret () hx hb hr hlk hK hP hD hS d_Rt_init_9 trivial
set_option maxHeartbeats 4000000 in
set_option maxRecDepth 100000 in
/-- begin(a, b) -/
theorem c_Rt_begin (l : Launch) (D : va_G) (rt st ba ta sa : Nat) (cB cI cS : ClassId) (g fr to : Int32) (nx R ol mn fi us dr de : Nat) (bf tf sf : Nat → Int32) (sz : Nat) (a b : Int32) : Met l y_Rt_begin (wc y_Rt_begin b_Rt_begin 3 none) ({ frames := 0, cells := 0, slots := 0, locals := 0 }) (va_Pc [.ref rt, .int a, .int b] (rwB D (vRt rt st ba ta sa cB cI cS g fr to nx R ol mn fi us dr de bf tf sf) (ySt cB cI cS) sz)) (QV (fun (u : Unit) => True) D (fun u => (ySt cB cI cS)) (fun u => (vRt rt st ba ta sa cB cI cS (nI 1) a b ol R ol mn fi us dr de bf tf sf)) (va_A (vRt rt st ba ta sa cB cI cS g fr to nx R ol mn fi us dr de bf tf sf) sz)) 0 0 (va_A (vRt rt st ba ta sa cB cI cS g fr to nx R ol mn fi us dr de bf tf sf) sz) := by
  refine rw_startV (by decide) (Nat.le_of_ble_eq_true rfl) ?_
  intro p e s m below meth cd A hx hb hr hT hown hlk hml hnm hA hP hK hD hS ls hl
  have hown : s.vm.findClass R_Rt = some m.cls := hown
  have hP : va_P D classes [(rt, .inr (2, [.ref st, .int g, .int fr, .int to, .int (nI nx)])), (st, .inr (1, [.ref ba, .ref ta, .ref sa, .int (nI ol), .int (nI mn), .int (nI fi), .int (nI us), .int (nI dr), .int (nI de)])), (ba, .inl (cB, R, .inl bf)), (ta, .inl (cI, R, .inl tf)), (sa, .inl (cS, R, .inl sf))] s.heap := hP
  have hD : va_D A [(rt, .inr (2, [.ref st, .int g, .int fr, .int to, .int (nI nx)])), (st, .inr (1, [.ref ba, .ref ta, .ref sa, .int (nI ol), .int (nI mn), .int (nI fi), .int (nI us), .int (nI dr), .int (nI de)])), (ba, .inl (cB, R, .inl bf)), (ta, .inl (cI, R, .inl tf)), (sa, .inl (cS, R, .inl sf))] := hD
  have hK : va_K D classes [(cB, .byte), (cI, .int), (cS, .short)] s := hK
  have hl : lv_has ls 3 [(0, .ref rt), (1, .int a), (2, .int b)] := hl
  refine lv_aload_n hx hb d_Rt_begin_0 rfl (lv_at hl 0 rfl) ?_
  refine lv_iconst (v := nI 1) hx hb d_Rt_begin_1 (by decide +kernel) ?_
  refine pf_Rt_15 hx hb hT hown hK hP hD hS 0 rfl (by decide +kernel) (by decide +kernel) (Nat.le_of_ble_eq_true rfl) d_Rt_begin_2 (fun H locs hP hD hS => ?_)
  have hP : va_P D classes [(rt, .inr (2, [.ref st, .int (nI 1), .int fr, .int to, .int (nI nx)])), (st, .inr (1, [.ref ba, .ref ta, .ref sa, .int (nI ol), .int (nI mn), .int (nI fi), .int (nI us), .int (nI dr), .int (nI de)])), (ba, .inl (cB, R, .inl bf)), (ta, .inl (cI, R, .inl tf)), (sa, .inl (cS, R, .inl sf))] H := hP
  have hD : va_D A [(rt, .inr (2, [.ref st, .int (nI 1), .int fr, .int to, .int (nI nx)])), (st, .inr (1, [.ref ba, .ref ta, .ref sa, .int (nI ol), .int (nI mn), .int (nI fi), .int (nI us), .int (nI dr), .int (nI de)])), (ba, .inl (cB, R, .inl bf)), (ta, .inl (cI, R, .inl tf)), (sa, .inl (cS, R, .inl sf))] := hD
  refine lv_aload_n hx hb d_Rt_begin_5 rfl (lv_at hl 0 rfl) ?_
  refine lv_iload_n hx hb d_Rt_begin_6 rfl (lv_at hl 1 rfl) ?_
  refine pf_Rt_19 hx hb hT hown hK hP hD hS 0 rfl (Nat.le_of_ble_eq_true rfl) d_Rt_begin_7 (fun H locs hP hD hS => ?_)
  have hP : va_P D classes [(rt, .inr (2, [.ref st, .int (nI 1), .int a, .int to, .int (nI nx)])), (st, .inr (1, [.ref ba, .ref ta, .ref sa, .int (nI ol), .int (nI mn), .int (nI fi), .int (nI us), .int (nI dr), .int (nI de)])), (ba, .inl (cB, R, .inl bf)), (ta, .inl (cI, R, .inl tf)), (sa, .inl (cS, R, .inl sf))] H := hP
  have hD : va_D A [(rt, .inr (2, [.ref st, .int (nI 1), .int a, .int to, .int (nI nx)])), (st, .inr (1, [.ref ba, .ref ta, .ref sa, .int (nI ol), .int (nI mn), .int (nI fi), .int (nI us), .int (nI dr), .int (nI de)])), (ba, .inl (cB, R, .inl bf)), (ta, .inl (cI, R, .inl tf)), (sa, .inl (cS, R, .inl sf))] := hD
  refine lv_aload_n hx hb d_Rt_begin_10 rfl (lv_at hl 0 rfl) ?_
  refine lv_iload_n hx hb d_Rt_begin_11 rfl (lv_at hl 2 rfl) ?_
  refine pf_Rt_23 hx hb hT hown hK hP hD hS 0 rfl (Nat.le_of_ble_eq_true rfl) d_Rt_begin_12 (fun H locs hP hD hS => ?_)
  have hP : va_P D classes [(rt, .inr (2, [.ref st, .int (nI 1), .int a, .int b, .int (nI nx)])), (st, .inr (1, [.ref ba, .ref ta, .ref sa, .int (nI ol), .int (nI mn), .int (nI fi), .int (nI us), .int (nI dr), .int (nI de)])), (ba, .inl (cB, R, .inl bf)), (ta, .inl (cI, R, .inl tf)), (sa, .inl (cS, R, .inl sf))] H := hP
  have hD : va_D A [(rt, .inr (2, [.ref st, .int (nI 1), .int a, .int b, .int (nI nx)])), (st, .inr (1, [.ref ba, .ref ta, .ref sa, .int (nI ol), .int (nI mn), .int (nI fi), .int (nI us), .int (nI dr), .int (nI de)])), (ba, .inl (cB, R, .inl bf)), (ta, .inl (cI, R, .inl tf)), (sa, .inl (cS, R, .inl sf))] := hD
  refine lv_aload_n hx hb d_Rt_begin_15 rfl (lv_at hl 0 rfl) ?_
  refine lv_aload_n hx hb d_Rt_begin_16 rfl (lv_at hl 0 rfl) ?_
  refine gf_Rt_9 hx hb hT hown hK hP 0 rfl rfl d_Rt_begin_17 ?_
  refine gf_Rt_26 hx hb hT hown hK hP 1 rfl rfl d_Rt_begin_20 ?_
  refine pf_Rt_31 hx hb hT hown hK hP hD hS 0 rfl (Nat.le_of_ble_eq_true rfl) d_Rt_begin_23 (fun H locs hP hD hS => ?_)
  have hP : va_P D classes [(rt, .inr (2, [.ref st, .int (nI 1), .int a, .int b, .int (nI ol)])), (st, .inr (1, [.ref ba, .ref ta, .ref sa, .int (nI ol), .int (nI mn), .int (nI fi), .int (nI us), .int (nI dr), .int (nI de)])), (ba, .inl (cB, R, .inl bf)), (ta, .inl (cI, R, .inl tf)), (sa, .inl (cS, R, .inl sf))] H := hP
  have hD : va_D A [(rt, .inr (2, [.ref st, .int (nI 1), .int a, .int b, .int (nI ol)])), (st, .inr (1, [.ref ba, .ref ta, .ref sa, .int (nI ol), .int (nI mn), .int (nI fi), .int (nI us), .int (nI dr), .int (nI de)])), (ba, .inl (cB, R, .inl bf)), (ta, .inl (cI, R, .inl tf)), (sa, .inl (cS, R, .inl sf))] := hD
  exact rw_vret () hx hb hr hlk hK hP hD hS d_Rt_begin_26 trivial
set_option maxHeartbeats 4000000 in
set_option maxRecDepth 100000 in
/-- find() -/
theorem c_Rt_find (l : Launch) (D : va_G) (rt st ba ta sa : Nat) (cB cI cS : ClassId) (g fr to : Int32) (nx R o c : Nat) (T : Nat → Int32) (B : Nat → Nat) (S : Nat → Int32) (dr de : Nat) (bf tf sf : Nat → Int32) (sz : Nat) (h : StR R o c T B S bf tf sf) (hnx : nx ≤ c) : Met l y_Rt_find (wc y_Rt_find b_Rt_find 1 (some .int)) ({ frames := 2, cells := 0, slots := 0, locals := 42 }) (va_Pc [.ref rt] (rwB D (vRt rt st ba ta sa cB cI cS g fr to nx R o (c - o) (B o % R) (B c - B o) dr de bf tf sf) (ySt cB cI cS) sz)) (QI (fun (r : Int32) (u : Int32 × Nat) => FindTo c T fr to (max nx o) u.2 ∧ ((u.2 < c ∧ r = nI u.2 ∧ u.1 = g) ∨ (u.2 = c ∧ r = -1 ∧ u.1 = nI 0))) D (fun u => (ySt cB cI cS)) (fun u => (vRt rt st ba ta sa cB cI cS (u.1) fr to (u.2) R o (c - o) (B o % R) (B c - B o) dr de bf tf sf)) (va_A (vRt rt st ba ta sa cB cI cS g fr to nx R o (c - o) (B o % R) (B c - B o) dr de bf tf sf) sz)) 0 0 (va_A (vRt rt st ba ta sa cB cI cS g fr to nx R o (c - o) (B o % R) (B c - B o) dr de bf tf sf) sz) := by
  refine rw_startI (by decide) (Nat.le_of_ble_eq_true rfl) ?_
  intro p e s m below meth cd A hx hb hr hT hown hlk hml hnm hA hP hK hD hS ls hl
  have hown : s.vm.findClass R_Rt = some m.cls := hown
  have hP : va_P D classes [(rt, .inr (2, [.ref st, .int g, .int fr, .int to, .int (nI nx)])), (st, .inr (1, [.ref ba, .ref ta, .ref sa, .int (nI o), .int (nI (c - o)), .int (nI (B o % R)), .int (nI (B c - B o)), .int (nI dr), .int (nI de)])), (ba, .inl (cB, R, .inl bf)), (ta, .inl (cI, R, .inl tf)), (sa, .inl (cS, R, .inl sf))] s.heap := hP
  have hD : va_D A [(rt, .inr (2, [.ref st, .int g, .int fr, .int to, .int (nI nx)])), (st, .inr (1, [.ref ba, .ref ta, .ref sa, .int (nI o), .int (nI (c - o)), .int (nI (B o % R)), .int (nI (B c - B o)), .int (nI dr), .int (nI de)])), (ba, .inl (cB, R, .inl bf)), (ta, .inl (cI, R, .inl tf)), (sa, .inl (cS, R, .inl sf))] := hD
  have hK : va_K D classes [(cB, .byte), (cI, .int), (cS, .short)] s := hK
  have hl : lv_has ls 1 [(0, .ref rt)] := hl
  obtain ⟨hs, hgT, hgZ, hgS, h8⟩ := id h
  obtain ⟨a1, a2, a3, a4, a5, a6, a7⟩ := id hs
  have hR0 : 0 < R := by omega
  have hR1 : R < 2 ^ 31 := by omega
  have hm := hs_mono hs
  have hoc := hm c o a3 (Nat.le_refl c)
  have LP : ∀ (k : Nat) (H : Heap) (locs : List Loc) (ls : Array Slot), k = max nx o → va_P D classes [(rt, .inr (2, [.ref st, .int g, .int fr, .int to, .int (nI k)])), (st, .inr (1, [.ref ba, .ref ta, .ref sa, .int (nI o), .int (nI (c - o)), .int (nI (B o % R)), .int (nI (B c - B o)), .int (nI dr), .int (nI de)])), (ba, .inl (cB, R, .inl bf)), (ta, .inl (cI, R, .inl tf)), (sa, .inl (cS, R, .inl sf))] H → va_D A [(rt, .inr (2, [.ref st, .int g, .int fr, .int to, .int (nI k)])), (st, .inr (1, [.ref ba, .ref ta, .ref sa, .int (nI o), .int (nI (c - o)), .int (nI (B o % R)), .int (nI (B c - B o)), .int (nI dr), .int (nI de)])), (ba, .inl (cB, R, .inl bf)), (ta, .inl (cI, R, .inl tf)), (sa, .inl (cS, R, .inl sf))] → va_S A s.heap H locs → lv_has ls 1 [(0, .ref rt)] → W p l e ({ frames := 2, cells := 0, slots := 0, locals := 42 }) s m [.ref rt].toArray below meth cd H locs 0 0 (MQ below (QI (fun (r : Int32) (u : Int32 × Nat) => FindTo c T fr to (max nx o) u.2 ∧ ((u.2 < c ∧ r = nI u.2 ∧ u.1 = g) ∨ (u.2 = c ∧ r = -1 ∧ u.1 = nI 0))) D (fun u => (ySt cB cI cS)) (fun u => (vRt rt st ba ta sa cB cI cS (u.1) fr to (u.2) R o (c - o) (B o % R) (B c - B o) dr de bf tf sf)) A) [.ref rt].toArray s 0 0 A) (F0 m 25 ls []) := by
    intro k H locs ls hk hP hD hS hl
    have hk0 : o ≤ k ∧ k ≤ c := by omega
    refine lp_ind (α := Nat) (fun n k H locs ls => max nx o ≤ k ∧ o ≤ k ∧ k ≤ c ∧ c < k + n ∧ (∀ i, max nx o ≤ i → i < k → T i < fr ∨ to < T i) ∧ va_P D classes [(rt, .inr (2, [.ref st, .int g, .int fr, .int to, .int (nI k)])), (st, .inr (1, [.ref ba, .ref ta, .ref sa, .int (nI o), .int (nI (c - o)), .int (nI (B o % R)), .int (nI (B c - B o)), .int (nI dr), .int (nI de)])), (ba, .inl (cB, R, .inl bf)), (ta, .inl (cI, R, .inl tf)), (sa, .inl (cS, R, .inl sf))] H ∧ va_D A [(rt, .inr (2, [.ref st, .int g, .int fr, .int to, .int (nI k)])), (st, .inr (1, [.ref ba, .ref ta, .ref sa, .int (nI o), .int (nI (c - o)), .int (nI (B o % R)), .int (nI (B c - B o)), .int (nI dr), .int (nI de)])), (ba, .inl (cB, R, .inl bf)), (ta, .inl (cI, R, .inl tf)), (sa, .inl (cS, R, .inl sf))] ∧ va_S A s.heap H locs ∧ lv_has ls 1 [(0, .ref rt)]) ?_ (fun k H locs ls hq => by obtain ⟨k1, k2, k3, k4, -⟩ := hq; omega) (c + 1) k _ _ _ ⟨by omega, hk0.1, hk0.2, by omega, fun i p q => by omega, hP, hD, hS, hl⟩
    clear hP hD hS hl hk hk0
    intro n ih k H locs ls hq
    obtain ⟨k1, k2, k3, k4, k5, hP, hD, hS, hl⟩ := hq
    refine lv_aload_n hx hb d_Rt_find_25 rfl (lv_at hl 0 rfl) ?_
    refine gf_Rt_31 hx hb hT hown hK hP 0 rfl rfl d_Rt_find_26 ?_
    refine lv_aload_n hx hb d_Rt_find_29 rfl (lv_at hl 0 rfl) ?_
    refine gf_Rt_9 hx hb hT hown hK hP 0 rfl rfl d_Rt_find_30 ?_
    refine ro_calli (ci := 1) (As := []) (rest := [.int (nI k)]) hx hb hml hT hown (c_St_behind l D st ba ta sa cB cI cS R o (c - o) (B o % R) (B c - B o) dr de bf tf sf) (cs_Rt_34 hT ⟨(Nat.le_of_ble_eq_true rfl), (Nat.le_of_ble_eq_true rfl)⟩) (hK.sub [0, 1, 2] rfl) (hP.sub [1, 2, 3, 4] rfl) 0 rfl rfl rfl hl.1 rfl (Nat.le_of_ble_eq_true rfl) d_Rt_find_33 ⟨(Nat.le_of_ble_eq_true rfl), (Nat.le_of_ble_eq_true rfl)⟩ (fun r_33 er_33 => ?_)
    subst er_33
    refine nv_as (y := c) (by omega) ?_
    refine nv_icmp_ge (tgt := 88) hx hb (by omega) (by omega) d_Rt_find_36 (by decide) (fun c_36 => ?_) (fun c_36 => ?_)
    · refine lv_aload_n hx hb d_Rt_find_88 rfl (lv_at hl 0 rfl) ?_
      refine gf_Rt_31 hx hb hT hown hK hP 0 rfl rfl d_Rt_find_89 ?_
      refine lv_aload_n hx hb d_Rt_find_92 rfl (lv_at hl 0 rfl) ?_
      refine gf_Rt_9 hx hb hT hown hK hP 0 rfl rfl d_Rt_find_93 ?_
      refine ro_calli (ci := 1) (As := []) (rest := [.int (nI k)]) hx hb hml hT hown (c_St_behind l D st ba ta sa cB cI cS R o (c - o) (B o % R) (B c - B o) dr de bf tf sf) (cs_Rt_34 hT ⟨(Nat.le_of_ble_eq_true rfl), (Nat.le_of_ble_eq_true rfl)⟩) (hK.sub [0, 1, 2] rfl) (hP.sub [1, 2, 3, 4] rfl) 0 rfl rfl rfl hl.1 rfl (Nat.le_of_ble_eq_true rfl) d_Rt_find_96 ⟨(Nat.le_of_ble_eq_true rfl), (Nat.le_of_ble_eq_true rfl)⟩ (fun r_96 er_96 => ?_)
      subst er_96
      refine nv_as (y := c) (by omega) ?_
      refine nv_icmp_ge (tgt := 107) hx hb (by omega) (by omega) d_Rt_find_99 (by decide) (fun c_99 => ?_) (fun c_99 => ?_)
      · refine lv_aload_n hx hb d_Rt_find_107 rfl (lv_at hl 0 rfl) ?_
        refine lv_iconst (v := nI 0) hx hb d_Rt_find_108 (by decide +kernel) ?_
        refine pf_Rt_15 hx hb hT hown hK hP hD hS 0 rfl (by decide +kernel) (by decide +kernel) (Nat.le_of_ble_eq_true rfl) d_Rt_find_109 (fun H locs hP hD hS => ?_)
        have hP : va_P D classes [(rt, .inr (2, [.ref st, .int (nI 0), .int fr, .int to, .int (nI k)])), (st, .inr (1, [.ref ba, .ref ta, .ref sa, .int (nI o), .int (nI (c - o)), .int (nI (B o % R)), .int (nI (B c - B o)), .int (nI dr), .int (nI de)])), (ba, .inl (cB, R, .inl bf)), (ta, .inl (cI, R, .inl tf)), (sa, .inl (cS, R, .inl sf))] H := hP
        have hD : va_D A [(rt, .inr (2, [.ref st, .int (nI 0), .int fr, .int to, .int (nI k)])), (st, .inr (1, [.ref ba, .ref ta, .ref sa, .int (nI o), .int (nI (c - o)), .int (nI (B o % R)), .int (nI (B c - B o)), .int (nI dr), .int (nI de)])), (ba, .inl (cB, R, .inl bf)), (ta, .inl (cI, R, .inl tf)), (sa, .inl (cS, R, .inl sf))] := hD
        refine lv_iconst (v := (-1)) hx hb d_Rt_find_112 (by decide +kernel) ?_
        exact rw_iret (nI 0, k) hx hb hr hlk hK hP hD hS d_Rt_find_113 ⟨⟨k1, k3, k5, fun q => by omega⟩, Or.inr ⟨by omega, rfl, rfl⟩⟩
      · exact absurd c_36 (by omega)
    · refine lv_aload_n hx hb d_Rt_find_39 rfl (lv_at hl 0 rfl) ?_
      refine gf_Rt_9 hx hb hT hown hK hP 0 rfl rfl d_Rt_find_40 ?_
      refine lv_aload_n hx hb d_Rt_find_43 rfl (lv_at hl 0 rfl) ?_
      refine gf_Rt_31 hx hb hT hown hK hP 0 rfl rfl d_Rt_find_44 ?_
      refine ro_calli (ci := 1) (As := [.int (nI k)]) (rest := []) hx hb hml hT hown (c_St_time l D st ba ta sa cB cI cS R o (c - o) (B o % R) (B c - B o) dr de bf tf sf k (by omega) hR0 hR1) (cs_Rt_38 hT ⟨(Nat.le_of_ble_eq_true rfl), (Nat.le_of_ble_eq_true rfl)⟩) (hK.sub [0, 1, 2] rfl) (hP.sub [1, 2, 3, 4] rfl) 0 rfl rfl rfl hl.1 rfl (Nat.le_of_ble_eq_true rfl) d_Rt_find_47 ⟨(Nat.le_of_ble_eq_true rfl), (Nat.le_of_ble_eq_true rfl)⟩ (fun r_47 er_47 => ?_)
      subst er_47
      refine nv_asX (y := T k) (hgT k k2 (by omega)) ?_
      refine lv_aload_n hx hb d_Rt_find_50 rfl (lv_at hl 0 rfl) ?_
      refine gf_Rt_19 hx hb hT hown hK hP 0 rfl rfl d_Rt_find_51 ?_
      refine lv_icmp_lt (tgt := 75) hx hb d_Rt_find_54 (by decide) (fun c_54 => ?_) (fun c_54 => ?_)
      · refine lv_aload_n hx hb d_Rt_find_75 rfl (lv_at hl 0 rfl) ?_
        refine lv_dup hx hb d_Rt_find_76 rfl ?_
        refine gf_Rt_31 hx hb hT hown hK hP 0 rfl rfl d_Rt_find_77 ?_
        refine lv_iconst (v := nI 1) hx hb d_Rt_find_80 (by decide +kernel) ?_
        refine nv_iadd hx hb d_Rt_find_81 ?_
        refine pf_Rt_31 hx hb hT hown hK hP hD hS 0 rfl (Nat.le_of_ble_eq_true rfl) d_Rt_find_82 (fun H locs hP hD hS => ?_)
        have hP : va_P D classes [(rt, .inr (2, [.ref st, .int g, .int fr, .int to, .int (nI (k + 1))])), (st, .inr (1, [.ref ba, .ref ta, .ref sa, .int (nI o), .int (nI (c - o)), .int (nI (B o % R)), .int (nI (B c - B o)), .int (nI dr), .int (nI de)])), (ba, .inl (cB, R, .inl bf)), (ta, .inl (cI, R, .inl tf)), (sa, .inl (cS, R, .inl sf))] H := hP
        have hD : va_D A [(rt, .inr (2, [.ref st, .int g, .int fr, .int to, .int (nI (k + 1))])), (st, .inr (1, [.ref ba, .ref ta, .ref sa, .int (nI o), .int (nI (c - o)), .int (nI (B o % R)), .int (nI (B c - B o)), .int (nI dr), .int (nI de)])), (ba, .inl (cB, R, .inl bf)), (ta, .inl (cI, R, .inl tf)), (sa, .inl (cS, R, .inl sf))] := hD
        refine lv_goto (tgt := 25) hx hb d_Rt_find_85 (by decide) ?_
        exact ih (k + 1) _ _ _ ⟨by omega, by omega, by omega, by omega, fun i p q => by
            rcases Nat.lt_or_ge i k with z | z
            · exact k5 i p z
            · rw [show i = k by omega]; exact Or.inl c_54, hP, hD, hS, hl⟩
      · refine lv_aload_n hx hb d_Rt_find_57 rfl (lv_at hl 0 rfl) ?_
        refine gf_Rt_9 hx hb hT hown hK hP 0 rfl rfl d_Rt_find_58 ?_
        refine lv_aload_n hx hb d_Rt_find_61 rfl (lv_at hl 0 rfl) ?_
        refine gf_Rt_31 hx hb hT hown hK hP 0 rfl rfl d_Rt_find_62 ?_
        refine ro_calli (ci := 1) (As := [.int (nI k)]) (rest := []) hx hb hml hT hown (c_St_time l D st ba ta sa cB cI cS R o (c - o) (B o % R) (B c - B o) dr de bf tf sf k (by omega) hR0 hR1) (cs_Rt_38 hT ⟨(Nat.le_of_ble_eq_true rfl), (Nat.le_of_ble_eq_true rfl)⟩) (hK.sub [0, 1, 2] rfl) (hP.sub [1, 2, 3, 4] rfl) 0 rfl rfl rfl hl.1 rfl (Nat.le_of_ble_eq_true rfl) d_Rt_find_65 ⟨(Nat.le_of_ble_eq_true rfl), (Nat.le_of_ble_eq_true rfl)⟩ (fun r_65 er_65 => ?_)
        subst er_65
        refine nv_asX (y := T k) (hgT k k2 (by omega)) ?_
        refine lv_aload_n hx hb d_Rt_find_68 rfl (lv_at hl 0 rfl) ?_
        refine gf_Rt_23 hx hb hT hown hK hP 0 rfl rfl d_Rt_find_69 ?_
        refine lv_icmp_le (tgt := 88) hx hb d_Rt_find_72 (by decide) (fun c_72 => ?_) (fun c_72 => ?_)
        · refine lv_aload_n hx hb d_Rt_find_88 rfl (lv_at hl 0 rfl) ?_
          refine gf_Rt_31 hx hb hT hown hK hP 0 rfl rfl d_Rt_find_89 ?_
          refine lv_aload_n hx hb d_Rt_find_92 rfl (lv_at hl 0 rfl) ?_
          refine gf_Rt_9 hx hb hT hown hK hP 0 rfl rfl d_Rt_find_93 ?_
          refine ro_calli (ci := 1) (As := []) (rest := [.int (nI k)]) hx hb hml hT hown (c_St_behind l D st ba ta sa cB cI cS R o (c - o) (B o % R) (B c - B o) dr de bf tf sf) (cs_Rt_34 hT ⟨(Nat.le_of_ble_eq_true rfl), (Nat.le_of_ble_eq_true rfl)⟩) (hK.sub [0, 1, 2] rfl) (hP.sub [1, 2, 3, 4] rfl) 0 rfl rfl rfl hl.1 rfl (Nat.le_of_ble_eq_true rfl) d_Rt_find_96 ⟨(Nat.le_of_ble_eq_true rfl), (Nat.le_of_ble_eq_true rfl)⟩ (fun r_96 er_96 => ?_)
          subst er_96
          refine nv_as (y := c) (by omega) ?_
          refine nv_icmp_ge (tgt := 107) hx hb (by omega) (by omega) d_Rt_find_99 (by decide) (fun c_99 => ?_) (fun c_99 => ?_)
          · exact absurd c_36 (by omega)
          · refine lv_aload_n hx hb d_Rt_find_102 rfl (lv_at hl 0 rfl) ?_
            refine gf_Rt_31 hx hb hT hown hK hP 0 rfl rfl d_Rt_find_103 ?_
            exact rw_iret (g, k) hx hb hr hlk hK hP hD hS d_Rt_find_106 ⟨⟨k1, k3, k5, fun q => ⟨c_54, Int32.not_lt.mpr c_72⟩⟩, Or.inl ⟨c_36, rfl, rfl⟩⟩
        · refine lv_aload_n hx hb d_Rt_find_75 rfl (lv_at hl 0 rfl) ?_
          refine lv_dup hx hb d_Rt_find_76 rfl ?_
          refine gf_Rt_31 hx hb hT hown hK hP 0 rfl rfl d_Rt_find_77 ?_
          refine lv_iconst (v := nI 1) hx hb d_Rt_find_80 (by decide +kernel) ?_
          refine nv_iadd hx hb d_Rt_find_81 ?_
          refine pf_Rt_31 hx hb hT hown hK hP hD hS 0 rfl (Nat.le_of_ble_eq_true rfl) d_Rt_find_82 (fun H locs hP hD hS => ?_)
          have hP : va_P D classes [(rt, .inr (2, [.ref st, .int g, .int fr, .int to, .int (nI (k + 1))])), (st, .inr (1, [.ref ba, .ref ta, .ref sa, .int (nI o), .int (nI (c - o)), .int (nI (B o % R)), .int (nI (B c - B o)), .int (nI dr), .int (nI de)])), (ba, .inl (cB, R, .inl bf)), (ta, .inl (cI, R, .inl tf)), (sa, .inl (cS, R, .inl sf))] H := hP
          have hD : va_D A [(rt, .inr (2, [.ref st, .int g, .int fr, .int to, .int (nI (k + 1))])), (st, .inr (1, [.ref ba, .ref ta, .ref sa, .int (nI o), .int (nI (c - o)), .int (nI (B o % R)), .int (nI (B c - B o)), .int (nI dr), .int (nI de)])), (ba, .inl (cB, R, .inl bf)), (ta, .inl (cI, R, .inl tf)), (sa, .inl (cS, R, .inl sf))] := hD
          refine lv_goto (tgt := 25) hx hb d_Rt_find_85 (by decide) ?_
          exact ih (k + 1) _ _ _ ⟨by omega, by omega, by omega, by omega, fun i p q => by
              rcases Nat.lt_or_ge i k with z | z
              · exact k5 i p z
              · rw [show i = k by omega]; exact Or.inr (Int32.not_le.mp c_72), hP, hD, hS, hl⟩
  refine lv_aload_n hx hb d_Rt_find_0 rfl (lv_at hl 0 rfl) ?_
  refine gf_Rt_31 hx hb hT hown hK hP 0 rfl rfl d_Rt_find_1 ?_
  refine lv_aload_n hx hb d_Rt_find_4 rfl (lv_at hl 0 rfl) ?_
  refine gf_Rt_9 hx hb hT hown hK hP 0 rfl rfl d_Rt_find_5 ?_
  refine gf_Rt_26 hx hb hT hown hK hP 1 rfl rfl d_Rt_find_8 ?_
  refine nv_icmp_ge (tgt := 25) hx hb (by omega) (by omega) d_Rt_find_11 (by decide) (fun c_11 => ?_) (fun c_11 => ?_)
  · exact LP nx _ _ _ (by omega) hP hD hS hl
  · refine lv_aload_n hx hb d_Rt_find_14 rfl (lv_at hl 0 rfl) ?_
    refine lv_aload_n hx hb d_Rt_find_15 rfl (lv_at hl 0 rfl) ?_
    refine gf_Rt_9 hx hb hT hown hK hP 0 rfl rfl d_Rt_find_16 ?_
    refine gf_Rt_26 hx hb hT hown hK hP 1 rfl rfl d_Rt_find_19 ?_
    refine pf_Rt_31 hx hb hT hown hK hP hD hS 0 rfl (Nat.le_of_ble_eq_true rfl) d_Rt_find_22 (fun H locs hP hD hS => ?_)
    have hP : va_P D classes [(rt, .inr (2, [.ref st, .int g, .int fr, .int to, .int (nI o)])), (st, .inr (1, [.ref ba, .ref ta, .ref sa, .int (nI o), .int (nI (c - o)), .int (nI (B o % R)), .int (nI (B c - B o)), .int (nI dr), .int (nI de)])), (ba, .inl (cB, R, .inl bf)), (ta, .inl (cI, R, .inl tf)), (sa, .inl (cS, R, .inl sf))] H := hP
    have hD : va_D A [(rt, .inr (2, [.ref st, .int g, .int fr, .int to, .int (nI o)])), (st, .inr (1, [.ref ba, .ref ta, .ref sa, .int (nI o), .int (nI (c - o)), .int (nI (B o % R)), .int (nI (B c - B o)), .int (nI dr), .int (nI de)])), (ba, .inl (cB, R, .inl bf)), (ta, .inl (cI, R, .inl tf)), (sa, .inl (cS, R, .inl sf))] := hD
    exact LP o _ _ _ (by omega) hP hD hS hl
end
section
/-! ===== what the calls answer, side by side (no machine here) ===== -/
theorem nI_m1 {n : Nat} (h : n < 2 ^ 31) : ¬ nI n = -1 := fun q => by
  have a := nI_toInt h
  rw [q, show (-1 : Int32).toInt = -1 by decide] at a
  omega
def PtS (tn : Nat) (xf : Nat → Int32) (b r : Int32) (tn' : Nat) (xf' : Nat → Int32) : Prop := (tn = 512 ∧ r = -1 ∧ tn' = tn ∧ xf' = xf) ∨ (tn < 512 ∧ r = nI (tn + 1) ∧ tn' = tn + 1 ∧ xf' = upd xf tn b.toInt8.toInt32)
theorem ptS_one {tn : Nat} {xf : Nat → Int32} {b r1 r2 : Int32} {n1 n2 : Nat} {f1 f2 : Nat → Int32} (h1 : PtS tn xf b r1 n1 f1) (h2 : PtS tn xf b r2 n2 f2) : r1 = r2 ∧ n1 = n2 ∧ f1 = f2 := by
  rcases h1 with ⟨a0, a1, a2, a3⟩ | ⟨a0, a1, a2, a3⟩ <;> rcases h2 with ⟨b0, b1, b2, b3⟩ | ⟨b0, b1, b2, b3⟩
  · exact ⟨by rw [a1, b1], by rw [a2, b2], by rw [a3, b3]⟩
  · omega
  · omega
  · exact ⟨by rw [a1, b1], by rw [a2, b2], by rw [a3, b3]⟩
def KpS (R o c : Nat) (T : Nat → Int32) (B : Nat → Nat) (S : Nat → Int32) (dr tn : Nat) (xf : Nat → Int32) (t r : Int32) (o' c' : Nat) (T' : Nat → Int32) (B' : Nat → Nat) (S' : Nat → Int32) (dr' : Nat) : Prop :=
  (tn = 0 ∧ r = -1 ∧ o' = o ∧ c' = c ∧ T' = T ∧ B' = B ∧ S' = S ∧ dr' = dr) ∨
  (0 < tn ∧ R < tn ∧ r = -2 ∧ o' = o ∧ c' = c ∧ T' = T ∧ B' = B ∧ S' = S ∧ dr' = dr) ∨
  (0 < tn ∧ tn ≤ R ∧ KeepTo R c B tn o o' ∧ r = nI (o' - o) ∧ c' = c + 1 ∧ T' = upd T c t ∧ B' = updB B (c + 1) (B c + tn) ∧ S' = apS S (B c) tn xf ∧ dr' = dr + (o' - o))
theorem kpS_one {R o c : Nat} {T : Nat → Int32} {B : Nat → Nat} {S : Nat → Int32} {dr tn : Nat} {xf : Nat → Int32} {t r1 r2 : Int32} {o1 o2 c1 c2 : Nat} {T1 T2 : Nat → Int32} {B1 B2 : Nat → Nat} {S1 S2 : Nat → Int32} {d1 d2 : Nat} (h1 : KpS R o c T B S dr tn xf t r1 o1 c1 T1 B1 S1 d1) (h2 : KpS R o c T B S dr tn xf t r2 o2 c2 T2 B2 S2 d2) : r1 = r2 ∧ o1 = o2 ∧ c1 = c2 ∧ T1 = T2 ∧ B1 = B2 ∧ S1 = S2 ∧ d1 = d2 := by
  rcases h1 with ⟨a0, a1, a2, a3, a4, a5, a6, a7⟩ | ⟨a0, a8, a1, a2, a3, a4, a5, a6, a7⟩ | ⟨a0, a8, a2, a1, a3, a4, a5, a6, a7⟩ <;> rcases h2 with ⟨b0, b1, b2, b3, b4, b5, b6, b7⟩ | ⟨b0, b8, b1, b2, b3, b4, b5, b6, b7⟩ | ⟨b0, b8, b2, b1, b3, b4, b5, b6, b7⟩
  · exact ⟨by rw [a1, b1], by rw [a2, b2], by rw [a3, b3], by rw [a4, b4], by rw [a5, b5], by rw [a6, b6], by rw [a7, b7]⟩
  · omega
  · omega
  · omega
  · exact ⟨by rw [a1, b1], by rw [a2, b2], by rw [a3, b3], by rw [a4, b4], by rw [a5, b5], by rw [a6, b6], by rw [a7, b7]⟩
  · omega
  · omega
  · omega
  · have e := keepTo_one a2 b2
    exact ⟨by rw [a1, b1, e], e, by rw [a3, b3], by rw [a4, b4], by rw [a5, b5], by rw [a6, b6], by rw [a7, b7, e]⟩
def BgS (o : Nat) (g fr to a b : Int32) (nx : Nat) (r g' fr' to' : Int32) (nx' : Nat) : Prop := (g ≠ 0 ∧ r = nI 0 ∧ g' = g ∧ fr' = fr ∧ to' = to ∧ nx' = nx) ∨ (g = 0 ∧ r = nI 1 ∧ g' = nI 1 ∧ fr' = a ∧ to' = b ∧ nx' = o)
theorem bgS_one {o : Nat} {g fr to a b : Int32} {nx : Nat} {r1 r2 g1 g2 f1 f2 t1 t2 : Int32} {n1 n2 : Nat} (h1 : BgS o g fr to a b nx r1 g1 f1 t1 n1) (h2 : BgS o g fr to a b nx r2 g2 f2 t2 n2) : r1 = r2 ∧ g1 = g2 ∧ f1 = f2 ∧ t1 = t2 ∧ n1 = n2 := by
  rcases h1 with ⟨a0, a1, a2, a3, a4, a5⟩ | ⟨a0, a1, a2, a3, a4, a5⟩ <;> rcases h2 with ⟨b0, b1, b2, b3, b4, b5⟩ | ⟨b0, b1, b2, b3, b4, b5⟩
  · exact ⟨by rw [a1, b1], by rw [a2, b2], by rw [a3, b3], by rw [a4, b4], by rw [a5, b5]⟩
  · exact absurd b0 a0
  · exact absurd a0 b0
  · exact ⟨by rw [a1, b1], by rw [a2, b2], by rw [a3, b3], by rw [a4, b4], by rw [a5, b5]⟩
theorem outF_lo {on : Nat} {f : Nat → Int32} {j : Int32} (h : j < 0) : outF on f j = -1 := if_pos (Or.inl h)
theorem outF_hi {on : Nat} {f : Nat → Int32} {j : Int32} (h : ¬ j < nI on) : outF on f j = -1 := if_pos (Or.inr (Int32.not_lt.mp h))
theorem outF_in {on n : Nat} {f : Nat → Int32} (h : n < on) (h2 : on < 2 ^ 31) : outF on f (nI n) = f n &&& 255 := by
  unfold outF
  rw [if_neg, nI_clamp (by omega)]
  rintro (q | q)
  · exact nI_pos (by omega) q
  · exact absurd ((nI_leI h2 (by omega)).mp q) (by omega)
theorem outF_cg {on : Nat} {f h : Nat → Int32} (e : ∀ j, j < on → f j = h j) (h2 : on < 2 ^ 31) (j : Int32) : outF on f j = outF on h j := by
  by_cases a : j < 0
  · rw [outF_lo a, outF_lo a]
  · by_cases b : j < nI on
    · obtain ⟨n, n1, rfl⟩ := nI_of a
      have c := (nI_ltI n1 h2).mp b
      rw [outF_in c h2, outF_in c h2, e n c]
    · rw [outF_hi b, outF_hi b]
theorem aboF_lo {o c : Nat} {T : Nat → Int32} {B : Nat → Nat} {k w : Int32} (h : k < 0) : aboF o c T B k w = -1 := if_pos (Or.inl h)
theorem aboF_hi {o c : Nat} {T : Nat → Int32} {B : Nat → Nat} {k w : Int32} (h : ¬ k < nI (c - o)) : aboF o c T B k w = -1 := if_pos (Or.inr (Int32.not_lt.mp h))
theorem in_no {n k : Nat} (h : k < n) (h2 : n < 2 ^ 31) : ¬ (nI k < 0 ∨ nI n ≤ nI k) := by
  rintro (q | q)
  · exact nI_pos (by omega) q
  · exact absurd ((nI_leI h2 (by omega)).mp q) (by omega)
theorem aboF_0 {o c n : Nat} {T : Nat → Int32} {B : Nat → Nat} {w : Int32} (h : n < c - o) (h2 : c - o < 2 ^ 31) (hw : w = 0) : aboF o c T B (nI n) w = T (o + n) := by
  unfold aboF
  rw [if_neg (in_no h h2), if_pos hw, nI_clamp (by omega)]
theorem aboF_1 {o c n : Nat} {T : Nat → Int32} {B : Nat → Nat} {w : Int32} (h : n < c - o) (h2 : c - o < 2 ^ 31) (hw : ¬ w = 0) (hw1 : w = nI 1) : aboF o c T B (nI n) w = nI (B (o + n + 1) - B (o + n)) := by
  unfold aboF
  rw [if_neg (in_no h h2), if_neg hw, if_pos (show w = 1 from hw1), nI_clamp (by omega)]
theorem aboF_2 {o c n : Nat} {T : Nat → Int32} {B : Nat → Nat} {w : Int32} (h : n < c - o) (h2 : c - o < 2 ^ 31) (hw : ¬ w = 0) (hw1 : ¬ w = nI 1) : aboF o c T B (nI n) w = -1 := by
  unfold aboF
  rw [if_neg (in_no h h2), if_neg hw, if_neg (show ¬ w = 1 from hw1)]
theorem bytF_lo {o c : Nat} {B : Nat → Nat} {S : Nat → Int32} {k j : Int32} (h : k < 0) : bytF o c B S k j = -1 := if_pos (Or.inl h)
theorem bytF_hi {o c : Nat} {B : Nat → Nat} {S : Nat → Int32} {k j : Int32} (h : nI (c - o) ≤ k) : bytF o c B S k j = -1 := if_pos (Or.inr h)
theorem bytF_jl {o c n : Nat} {B : Nat → Nat} {S : Nat → Int32} {j : Int32} (h : n < c - o) (h2 : c - o < 2 ^ 31) (hj : j < 0) : bytF o c B S (nI n) j = -1 := by
  unfold bytF
  rw [if_neg (in_no h h2), if_pos (Or.inl hj)]
theorem bytF_jh {o c n : Nat} {B : Nat → Nat} {S : Nat → Int32} {j : Int32} (h : n < c - o) (h2 : c - o < 2 ^ 31) (hj : ¬ j < nI (B (o + n + 1) - B (o + n))) : bytF o c B S (nI n) j = -1 := by
  unfold bytF
  rw [if_neg (in_no h h2), if_pos]
  rw [nI_clamp (by omega)]
  exact Or.inr (Int32.not_lt.mp hj)
theorem bytF_in {o c n i : Nat} {B : Nat → Nat} {S : Nat → Int32} (h : n < c - o) (h2 : c - o < 2 ^ 31) (hj : i < B (o + n + 1) - B (o + n)) (h3 : B (o + n + 1) - B (o + n) < 2 ^ 31) : bytF o c B S (nI n) (nI i) = S (B (o + n) + i) &&& 255 := by
  unfold bytF
  rw [if_neg (in_no h h2), nI_clamp (show n < 2 ^ 31 by omega), if_neg (in_no hj h3), nI_clamp (show i < 2 ^ 31 by omega)]
theorem sw_out {w : Int32} (h0 : ¬ w = 0) (h1 : ¬ w = 1) (h2 : ¬ w = 2) (h3 : ¬ w = 3) (h4 : ¬ w = 4) (h5 : ¬ w = 5) (h6 : ¬ w = 6) (h7 : ¬ w = 7) : w.toInt < 0 ∨ 7 < w.toInt := by
  have a0 := lv_neT (a := 0) h0 (by decide)
  have a1 := lv_neT (a := 1) h1 (by decide)
  have a2 := lv_neT (a := 2) h2 (by decide)
  have a3 := lv_neT (a := 3) h3 (by decide)
  have a4 := lv_neT (a := 4) h4 (by decide)
  have a5 := lv_neT (a := 5) h5 (by decide)
  have a6 := lv_neT (a := 6) h6 (by decide)
  have a7 := lv_neT (a := 7) h7 (by decide)
  omega
theorem cnt_0 {R o c dr de on : Nat} {B : Nat → Nat} {g : Int32} : cntF R o c B dr de on g 0 = nI (c - o) := rfl
theorem cnt_1 {R o c dr de on : Nat} {B : Nat → Nat} {g : Int32} : cntF R o c B dr de on g 1 = nI (B c - B o) := rfl
theorem cnt_2 {R o c dr de on : Nat} {B : Nat → Nat} {g : Int32} : cntF R o c B dr de on g 2 = nI c := rfl
theorem cnt_3 {R o c dr de on : Nat} {B : Nat → Nat} {g : Int32} : cntF R o c B dr de on g 3 = nI dr := rfl
theorem cnt_4 {R o c dr de on : Nat} {B : Nat → Nat} {g : Int32} : cntF R o c B dr de on g 4 = nI de := rfl
theorem cnt_5a {R o c dr de on : Nat} {B : Nat → Nat} {g : Int32} (h : g = 0) : cntF R o c B dr de on g 5 = nI 0 := by rw [h]; rfl
theorem cnt_5b {R o c dr de on : Nat} {B : Nat → Nat} {g : Int32} (h : ¬ g = 0) : cntF R o c B dr de on g 5 = nI 1 := show (if g = 0 then (0 : Int32) else 1) = nI 1 by rw [if_neg h]; rfl
theorem cnt_6 {R o c dr de on : Nat} {B : Nat → Nat} {g : Int32} : cntF R o c B dr de on g 6 = nI on := rfl
theorem cnt_7 {R o c dr de on : Nat} {B : Nat → Nat} {g : Int32} : cntF R o c B dr de on g 7 = nI R := rfl
theorem cnt_8 {R o c dr de on : Nat} {B : Nat → Nat} {g w : Int32} (h0 : ¬ w = 0) (h1 : ¬ w = 1) (h2 : ¬ w = 2) (h3 : ¬ w = 3) (h4 : ¬ w = 4) (h5 : ¬ w = 5) (h6 : ¬ w = 6) (h7 : ¬ w = 7) : cntF R o c B dr de on g w = -1 := by
  unfold cntF
  rw [if_neg h0, if_neg h1, if_neg h2, if_neg h3, if_neg h4, if_neg h5, if_neg h6, if_neg h7]
/-- the room that both sides take -/
def rmF (v : Int32) : Nat := if v < 64 then 64 else if 16384 < v then 16384 else v.toNatClampNeg
theorem rmF_lo {v : Int32} (h : v < 64) : rmF v = 64 := if_pos h
theorem rmF_hi {v : Int32} (h : ¬ v < 64) (h2 : 16384 < v) : rmF v = 16384 := by
  unfold rmF
  rw [if_neg h, if_pos h2]
theorem rmF_in {v : Int32} (h : ¬ v < 64) (h2 : ¬ 16384 < v) : v = nI (rmF v) ∧ 64 ≤ rmF v ∧ rmF v ≤ 16384 := by
  unfold rmF
  rw [if_neg h, if_neg h2]
  have a : (64 : Int) ≤ v.toInt := by
    have := Int32.le_iff_toInt_le.mp (Int32.not_lt.mp h)
    simpa using this
  have b : v.toInt ≤ 16384 := by
    have := Int32.le_iff_toInt_le.mp (Int32.not_lt.mp h2)
    simpa using this
  have e : (v.toNatClampNeg : Int) = v.toInt := by
    show ((v.toInt.toNat : Nat) : Int) = v.toInt
    omega
  refine ⟨?_, by omega, by omega⟩
  apply Int32.toInt_inj.mp
  rw [nI_toInt (by omega)]
  exact e.symm
theorem rmF_b (v : Int32) : 64 ≤ rmF v ∧ rmF v ≤ 16384 := by
  by_cases h : v < 64
  · rw [rmF_lo h]; omega
  · by_cases h2 : 16384 < v
    · rw [rmF_hi h h2]; omega
    · exact (rmF_in h h2).2
theorem rmF_mm (v : Int32) : (if (if nI 64 < v then v else nI 64) < nI 16384 then (if nI 64 < v then v else nI 64) else nI 16384) = nI (rmF v) := by
  have e64 : nI 64 = 64 := by decide
  have e16 : nI 16384 = 16384 := by decide
  by_cases h : v < 64
  · rw [rmF_lo h, e64, if_neg (fun q => Int32.lt_irrefl (Int32.lt_trans q h)), e16, if_pos (by decide)]
  · by_cases h2 : 16384 < v
    · rw [rmF_hi h h2, e64, e16, if_pos (Int32.lt_trans (by decide) h2), if_neg (fun q => Int32.lt_irrefl (Int32.lt_trans q h2))]
    · obtain ⟨k1, k2, k3⟩ := rmF_in h h2
      generalize rmF v = n at k1 k2 k3 ⊢
      subst k1
      by_cases a : 64 < n
      · rw [if_pos ((nI_ltI (by omega) (by omega)).mpr a)]
        by_cases b : n < 16384
        · rw [if_pos ((nI_ltI (by omega) (by omega)).mpr b)]
        · rw [if_neg (fun q => b ((nI_ltI (by omega) (by omega)).mp q))]
          exact congrArg nI (by omega)
      · rw [if_neg (fun q => a ((nI_ltI (by omega) (by omega)).mp q)), if_pos (by decide)]
        exact congrArg nI (by omega)
end
section
/-! ===== PacketStore: eight cells: the object, the retrieval, the store, its bytes, times, sizes, text, out ===== -/
abbrev vX (x rt st ba ta sa xa oa : Nat) (cB cI cS cX cO : ClassId) (tn on : Nat) (g fr to : Int32) (nx R ol mn fi us dr de : Nat) (bf tf sf xf uf : Nat → Int32) : va_W := [(x, .inr (0, [.ref st, .ref rt, .ref xa, .ref oa, .int (nI tn), .int (nI on)])), (rt, .inr (2, [.ref st, .int g, .int fr, .int to, .int (nI nx)])), (st, .inr (1, [.ref ba, .ref ta, .ref sa, .int (nI ol), .int (nI mn), .int (nI fi), .int (nI us), .int (nI dr), .int (nI de)])), (ba, .inl (cB, R, .inl bf)), (ta, .inl (cI, R, .inl tf)), (sa, .inl (cS, R, .inl sf)), (xa, .inl (cX, 512, .inl xf)), (oa, .inl (cO, 512, .inl uf))]
abbrev yX (cB cI cS cX cO : ClassId) : List (ClassId × FieldType) := [(cB, .byte), (cI, .int), (cS, .short), (cX, .byte), (cO, .byte)]
set_option maxHeartbeats 4000000 in
set_option maxRecDepth 100000 in
/-- put(b) -/
theorem c_PS_put (l : Launch) (D : va_G) (x rt st ba ta sa xa oa : Nat) (cB cI cS cX cO : ClassId) (tn on : Nat) (g fr to : Int32) (nx R o c : Nat) (T : Nat → Int32) (B : Nat → Nat) (S : Nat → Int32) (dr de : Nat) (bf tf sf xf uf : Nat → Int32) (sz : Nat) (b : Int32) (htn : tn ≤ 512) : Met l y_PS_put (wc y_PS_put b_PS_put 2 (some .int)) ({ frames := 0, cells := 0, slots := 0, locals := 0 }) (va_Pc [.ref x, .int b] (rwB D (vX x rt st ba ta sa xa oa cB cI cS cX cO tn on g fr to nx R o (c - o) (B o % R) (B c - B o) dr de bf tf sf xf uf) (yX cB cI cS cX cO) sz)) (QI (fun (r : Int32) (u : Nat × (Nat → Int32)) => PtS tn xf b r u.1 u.2) D (fun u => (yX cB cI cS cX cO)) (fun u => (vX x rt st ba ta sa xa oa cB cI cS cX cO (u.1) on g fr to nx R o (c - o) (B o % R) (B c - B o) dr de bf tf sf (u.2) uf)) (va_A (vX x rt st ba ta sa xa oa cB cI cS cX cO tn on g fr to nx R o (c - o) (B o % R) (B c - B o) dr de bf tf sf xf uf) sz)) 0 0 (va_A (vX x rt st ba ta sa xa oa cB cI cS cX cO tn on g fr to nx R o (c - o) (B o % R) (B c - B o) dr de bf tf sf xf uf) sz) := by
  refine rw_startI (by decide) (Nat.le_of_ble_eq_true rfl) ?_
  intro p e s m below meth cd A hx hb hr hT hown hlk hml hnm hA hP hK hD hS ls hl
  have hown : s.vm.findClass R_PS = some m.cls := hown
  have hP : va_P D classes [(x, .inr (0, [.ref st, .ref rt, .ref xa, .ref oa, .int (nI tn), .int (nI on)])), (rt, .inr (2, [.ref st, .int g, .int fr, .int to, .int (nI nx)])), (st, .inr (1, [.ref ba, .ref ta, .ref sa, .int (nI o), .int (nI (c - o)), .int (nI (B o % R)), .int (nI (B c - B o)), .int (nI dr), .int (nI de)])), (ba, .inl (cB, R, .inl bf)), (ta, .inl (cI, R, .inl tf)), (sa, .inl (cS, R, .inl sf)), (xa, .inl (cX, 512, .inl xf)), (oa, .inl (cO, 512, .inl uf))] s.heap := hP
  have hD : va_D A [(x, .inr (0, [.ref st, .ref rt, .ref xa, .ref oa, .int (nI tn), .int (nI on)])), (rt, .inr (2, [.ref st, .int g, .int fr, .int to, .int (nI nx)])), (st, .inr (1, [.ref ba, .ref ta, .ref sa, .int (nI o), .int (nI (c - o)), .int (nI (B o % R)), .int (nI (B c - B o)), .int (nI dr), .int (nI de)])), (ba, .inl (cB, R, .inl bf)), (ta, .inl (cI, R, .inl tf)), (sa, .inl (cS, R, .inl sf)), (xa, .inl (cX, 512, .inl xf)), (oa, .inl (cO, 512, .inl uf))] := hD
  have hK : va_K D classes [(cB, .byte), (cI, .int), (cS, .short), (cX, .byte), (cO, .byte)] s := hK
  have hl : lv_has ls 2 [(0, .ref x), (1, .int b)] := hl
  refine lv_aload_n hx hb d_PS_put_0 rfl (lv_at hl 0 rfl) ?_
  refine gf_PS_43 hx hb hT hown hK hP 0 rfl rfl d_PS_put_1 ?_
  refine lv_sipush (v := nI 512) hx hb d_PS_put_4 (by decide +kernel) ?_
  refine nv_icmp_ne (tgt := 12) hx hb (by omega) (by omega) d_PS_put_7 (by decide) (fun c_7 => ?_) (fun c_7 => ?_)
  · refine lv_aload_n hx hb d_PS_put_12 rfl (lv_at hl 0 rfl) ?_
    refine gf_PS_9 hx hb hT hown hK hP 0 rfl rfl d_PS_put_13 ?_
    refine lv_aload_n hx hb d_PS_put_16 rfl (lv_at hl 0 rfl) ?_
    refine gf_PS_43 hx hb hT hown hK hP 0 rfl rfl d_PS_put_17 ?_
    refine lv_iload_n hx hb d_PS_put_20 rfl (lv_at hl 1 rfl) ?_
    refine lv_i2b hx hb d_PS_put_21 rfl ?_
    refine nv_bast hx hb hK hP hD hS 6 3 rfl rfl (by omega) (by omega) (pk_vb b) d_PS_put_22 (fun H locs hP hD hS => ?_)
    have hP : va_P D classes [(x, .inr (0, [.ref st, .ref rt, .ref xa, .ref oa, .int (nI tn), .int (nI on)])), (rt, .inr (2, [.ref st, .int g, .int fr, .int to, .int (nI nx)])), (st, .inr (1, [.ref ba, .ref ta, .ref sa, .int (nI o), .int (nI (c - o)), .int (nI (B o % R)), .int (nI (B c - B o)), .int (nI dr), .int (nI de)])), (ba, .inl (cB, R, .inl bf)), (ta, .inl (cI, R, .inl tf)), (sa, .inl (cS, R, .inl sf)), (xa, .inl (cX, 512, .inl (upd xf tn ((b).toInt8.toInt32)))), (oa, .inl (cO, 512, .inl uf))] H := hP
    have hD : va_D A [(x, .inr (0, [.ref st, .ref rt, .ref xa, .ref oa, .int (nI tn), .int (nI on)])), (rt, .inr (2, [.ref st, .int g, .int fr, .int to, .int (nI nx)])), (st, .inr (1, [.ref ba, .ref ta, .ref sa, .int (nI o), .int (nI (c - o)), .int (nI (B o % R)), .int (nI (B c - B o)), .int (nI dr), .int (nI de)])), (ba, .inl (cB, R, .inl bf)), (ta, .inl (cI, R, .inl tf)), (sa, .inl (cS, R, .inl sf)), (xa, .inl (cX, 512, .inl (upd xf tn ((b).toInt8.toInt32)))), (oa, .inl (cO, 512, .inl uf))] := hD
    refine lv_aload_n hx hb d_PS_put_23 rfl (lv_at hl 0 rfl) ?_
    refine lv_dup hx hb d_PS_put_24 rfl ?_
    refine gf_PS_43 hx hb hT hown hK hP 0 rfl rfl d_PS_put_25 ?_
    refine lv_iconst (v := nI 1) hx hb d_PS_put_28 (by decide +kernel) ?_
    refine nv_iadd hx hb d_PS_put_29 ?_
    refine pf_PS_43 hx hb hT hown hK hP hD hS 0 rfl (Nat.le_of_ble_eq_true rfl) d_PS_put_30 (fun H locs hP hD hS => ?_)
    have hP : va_P D classes [(x, .inr (0, [.ref st, .ref rt, .ref xa, .ref oa, .int (nI (tn + 1)), .int (nI on)])), (rt, .inr (2, [.ref st, .int g, .int fr, .int to, .int (nI nx)])), (st, .inr (1, [.ref ba, .ref ta, .ref sa, .int (nI o), .int (nI (c - o)), .int (nI (B o % R)), .int (nI (B c - B o)), .int (nI dr), .int (nI de)])), (ba, .inl (cB, R, .inl bf)), (ta, .inl (cI, R, .inl tf)), (sa, .inl (cS, R, .inl sf)), (xa, .inl (cX, 512, .inl (upd xf tn ((b).toInt8.toInt32)))), (oa, .inl (cO, 512, .inl uf))] H := hP
    have hD : va_D A [(x, .inr (0, [.ref st, .ref rt, .ref xa, .ref oa, .int (nI (tn + 1)), .int (nI on)])), (rt, .inr (2, [.ref st, .int g, .int fr, .int to, .int (nI nx)])), (st, .inr (1, [.ref ba, .ref ta, .ref sa, .int (nI o), .int (nI (c - o)), .int (nI (B o % R)), .int (nI (B c - B o)), .int (nI dr), .int (nI de)])), (ba, .inl (cB, R, .inl bf)), (ta, .inl (cI, R, .inl tf)), (sa, .inl (cS, R, .inl sf)), (xa, .inl (cX, 512, .inl (upd xf tn ((b).toInt8.toInt32)))), (oa, .inl (cO, 512, .inl uf))] := hD
    refine lv_aload_n hx hb d_PS_put_33 rfl (lv_at hl 0 rfl) ?_
    refine gf_PS_43 hx hb hT hown hK hP 0 rfl rfl d_PS_put_34 ?_
    exact rw_iret (tn + 1, upd xf tn b.toInt8.toInt32) hx hb hr hlk hK hP hD hS d_PS_put_37 (Or.inr ⟨by omega, rfl, rfl, rfl⟩)
  · refine lv_iconst (v := (-1)) hx hb d_PS_put_10 (by decide +kernel) ?_
    exact rw_iret (tn, xf) hx hb hr hlk hK hP hD hS d_PS_put_11 (Or.inl ⟨c_7, rfl, rfl, rfl⟩)
set_option maxHeartbeats 4000000 in
set_option maxRecDepth 100000 in
/-- keep(t) -/
theorem c_PS_keep (l : Launch) (D : va_G) (x rt st ba ta sa xa oa : Nat) (cB cI cS cX cO : ClassId) (tn on : Nat) (g fr to : Int32) (nx R o c : Nat) (T : Nat → Int32) (B : Nat → Nat) (S : Nat → Int32) (dr de : Nat) (bf tf sf xf uf : Nat → Int32) (sz : Nat) (t : Int32) (h : StR R o c T B S bf tf sf) (htn : tn ≤ 512) (hcc : c < 1000) (hB : B c + tn ≤ 1000000) (hxf : by8 xf) : Met l y_PS_keep (wc y_PS_keep b_PS_keep 3 (some .int)) ({ frames := 4, cells := 0, slots := 0, locals := 90 }) (va_Pc [.ref x, .int t] (rwB D (vX x rt st ba ta sa xa oa cB cI cS cX cO tn on g fr to nx R o (c - o) (B o % R) (B c - B o) dr de bf tf sf xf uf) (yX cB cI cS cX cO) sz)) (QI (fun (r : Int32) (u : Nat × Nat × (Nat → Int32) × (Nat → Nat) × (Nat → Int32) × Nat × (Nat → Int32) × (Nat → Int32) × (Nat → Int32)) => KpS R o c T B S dr tn xf t r u.1 u.2.1 u.2.2.1 u.2.2.2.1 u.2.2.2.2.1 u.2.2.2.2.2.1 ∧ StR R u.1 u.2.1 u.2.2.1 u.2.2.2.1 u.2.2.2.2.1 u.2.2.2.2.2.2.1 u.2.2.2.2.2.2.2.1 u.2.2.2.2.2.2.2.2) D (fun u => (yX cB cI cS cX cO)) (fun u => (vX x rt st ba ta sa xa oa cB cI cS cX cO 0 on g fr to nx R (u.1) (u.2.1 - (u.1)) (u.2.2.2.1 (u.1) % R) (u.2.2.2.1 u.2.1 - u.2.2.2.1 (u.1)) (u.2.2.2.2.2.1) de (u.2.2.2.2.2.2.1) (u.2.2.2.2.2.2.2.1) (u.2.2.2.2.2.2.2.2) xf uf)) (va_A (vX x rt st ba ta sa xa oa cB cI cS cX cO tn on g fr to nx R o (c - o) (B o % R) (B c - B o) dr de bf tf sf xf uf) sz)) 0 0 (va_A (vX x rt st ba ta sa xa oa cB cI cS cX cO tn on g fr to nx R o (c - o) (B o % R) (B c - B o) dr de bf tf sf xf uf) sz) := by
  refine rw_startI (by decide) (Nat.le_of_ble_eq_true rfl) ?_
  intro p e s m below meth cd A hx hb hr hT hown hlk hml hnm hA hP hK hD hS ls hl
  have hown : s.vm.findClass R_PS = some m.cls := hown
  have hP : va_P D classes [(x, .inr (0, [.ref st, .ref rt, .ref xa, .ref oa, .int (nI tn), .int (nI on)])), (rt, .inr (2, [.ref st, .int g, .int fr, .int to, .int (nI nx)])), (st, .inr (1, [.ref ba, .ref ta, .ref sa, .int (nI o), .int (nI (c - o)), .int (nI (B o % R)), .int (nI (B c - B o)), .int (nI dr), .int (nI de)])), (ba, .inl (cB, R, .inl bf)), (ta, .inl (cI, R, .inl tf)), (sa, .inl (cS, R, .inl sf)), (xa, .inl (cX, 512, .inl xf)), (oa, .inl (cO, 512, .inl uf))] s.heap := hP
  have hD : va_D A [(x, .inr (0, [.ref st, .ref rt, .ref xa, .ref oa, .int (nI tn), .int (nI on)])), (rt, .inr (2, [.ref st, .int g, .int fr, .int to, .int (nI nx)])), (st, .inr (1, [.ref ba, .ref ta, .ref sa, .int (nI o), .int (nI (c - o)), .int (nI (B o % R)), .int (nI (B c - B o)), .int (nI dr), .int (nI de)])), (ba, .inl (cB, R, .inl bf)), (ta, .inl (cI, R, .inl tf)), (sa, .inl (cS, R, .inl sf)), (xa, .inl (cX, 512, .inl xf)), (oa, .inl (cO, 512, .inl uf))] := hD
  have hK : va_K D classes [(cB, .byte), (cI, .int), (cS, .short), (cX, .byte), (cO, .byte)] s := hK
  have hl : lv_has ls 3 [(0, .ref x), (1, .int t)] := hl
  obtain ⟨hs, hgT, hgZ, hgS, h8⟩ := id h
  obtain ⟨a1, a2, a3, a4, a5, a6, a7⟩ := id hs
  have hR0 : 0 < R := by omega
  have hR1 : R < 2 ^ 31 := by omega
  have hm := hs_mono hs
  have hoc := hm c o a3 (Nat.le_refl c)
  refine lv_aload_n hx hb d_PS_keep_0 rfl (lv_at hl 0 rfl) ?_
  refine gf_PS_43 hx hb hT hown hK hP 0 rfl rfl d_PS_keep_1 ?_
  refine lv_istore_n (lv' := [(2, .int (nI tn)), (0, .ref x), (1, .int t)]) hx hb d_PS_keep_4 rfl hl (by decide) rfl (fun ls hl => ?_)
  refine lv_aload_n hx hb d_PS_keep_5 rfl (lv_at hl 1 rfl) ?_
  refine lv_iconst (v := nI 0) hx hb d_PS_keep_6 (by decide +kernel) ?_
  refine pf_PS_43 hx hb hT hown hK hP hD hS 0 rfl (Nat.le_of_ble_eq_true rfl) d_PS_keep_7 (fun H locs hP hD hS => ?_)
  have hP : va_P D classes [(x, .inr (0, [.ref st, .ref rt, .ref xa, .ref oa, .int (nI 0), .int (nI on)])), (rt, .inr (2, [.ref st, .int g, .int fr, .int to, .int (nI nx)])), (st, .inr (1, [.ref ba, .ref ta, .ref sa, .int (nI o), .int (nI (c - o)), .int (nI (B o % R)), .int (nI (B c - B o)), .int (nI dr), .int (nI de)])), (ba, .inl (cB, R, .inl bf)), (ta, .inl (cI, R, .inl tf)), (sa, .inl (cS, R, .inl sf)), (xa, .inl (cX, 512, .inl xf)), (oa, .inl (cO, 512, .inl uf))] H := hP
  have hD : va_D A [(x, .inr (0, [.ref st, .ref rt, .ref xa, .ref oa, .int (nI 0), .int (nI on)])), (rt, .inr (2, [.ref st, .int g, .int fr, .int to, .int (nI nx)])), (st, .inr (1, [.ref ba, .ref ta, .ref sa, .int (nI o), .int (nI (c - o)), .int (nI (B o % R)), .int (nI (B c - B o)), .int (nI dr), .int (nI de)])), (ba, .inl (cB, R, .inl bf)), (ta, .inl (cI, R, .inl tf)), (sa, .inl (cS, R, .inl sf)), (xa, .inl (cX, 512, .inl xf)), (oa, .inl (cO, 512, .inl uf))] := hD
  refine lv_iload_n hx hb d_PS_keep_10 rfl (lv_at hl 0 rfl) ?_
  refine nv_if_ne (tgt := 18) hx hb (by omega) d_PS_keep_11 (by decide) (fun c_11 => ?_) (fun c_11 => ?_)
  · refine lv_iload_n hx hb d_PS_keep_18 rfl (lv_at hl 0 rfl) ?_
    refine lv_aload_n hx hb d_PS_keep_19 rfl (lv_at hl 1 rfl) ?_
    refine gf_PS_30 hx hb hT hown hK hP 0 rfl rfl d_PS_keep_20 ?_
    refine gf_PS_47 hx hb hT hown hK hP 2 rfl rfl d_PS_keep_23 ?_
    refine nv_alen hx hb hK hP 3 0 rfl rfl d_PS_keep_26 ?_
    refine nv_icmp_le (tgt := 35) hx hb (by omega) (by omega) d_PS_keep_27 (by decide) (fun c_27 => ?_) (fun c_27 => ?_)
    · refine lv_aload_n hx hb d_PS_keep_35 rfl (lv_at hl 1 rfl) ?_
      refine gf_PS_30 hx hb hT hown hK hP 0 rfl rfl d_PS_keep_36 ?_
      refine lv_aload_n hx hb d_PS_keep_39 rfl (lv_at hl 1 rfl) ?_
      refine gf_PS_9 hx hb hT hown hK hP 0 rfl rfl d_PS_keep_40 ?_
      refine lv_iload_n hx hb d_PS_keep_43 rfl (lv_at hl 0 rfl) ?_
      refine lv_iload_n hx hb d_PS_keep_44 rfl (lv_at hl 2 rfl) ?_
      refine rw_calli (ci := 1) (As := [.ref xa, .int (nI tn), .int t]) (rest := []) (wr := [(x, .inr (0, [.ref st, .ref rt, .ref xa, .ref oa, .int (nI 0), .int (nI on)])), (rt, .inr (2, [.ref st, .int g, .int fr, .int to, .int (nI nx)])), (oa, .inl (cO, 512, .inl uf))]) hx hb hml hT hown (c_St_keep l D st ba ta sa xa cB cI cS cX R o c T B S dr de bf tf sf xf H.size tn t h (by omega) htn c_27 hcc hB hxf) (cs_PS_50 hT ⟨(Nat.le_of_ble_eq_true rfl), (Nat.le_of_ble_eq_true rfl)⟩) (hK.sub [0, 1, 2, 3] rfl) hP hD hS hA [2, 3, 4, 5, 6] [0, 1, 7] rfl rfl (by decide) (by decide) (by decide) 0 rfl rfl rfl hl.1 rfl (Nat.le_of_ble_eq_true rfl) d_PS_keep_45 ⟨(Nat.le_of_ble_eq_true rfl), (Nat.le_of_ble_eq_true rfl)⟩ (fun r_45 u H locs hw hKn hP hD hS => ?_)
      obtain ⟨o2, bf2, tf2, sf2⟩ := u
      obtain ⟨w1, w2, w3⟩ := hw
      dsimp only at w1 w2 w3
      have hP : va_P D classes [(x, .inr (0, [.ref st, .ref rt, .ref xa, .ref oa, .int (nI 0), .int (nI on)])), (rt, .inr (2, [.ref st, .int g, .int fr, .int to, .int (nI nx)])), (st, .inr (1, [.ref ba, .ref ta, .ref sa, .int (nI o2), .int (nI ((c + 1) - o2)), .int (nI ((updB B (c + 1) (B c + tn)) o2 % R)), .int (nI ((updB B (c + 1) (B c + tn)) (c + 1) - (updB B (c + 1) (B c + tn)) o2)), .int (nI (dr + (o2 - o))), .int (nI de)])), (ba, .inl (cB, R, .inl bf2)), (ta, .inl (cI, R, .inl tf2)), (sa, .inl (cS, R, .inl sf2)), (xa, .inl (cX, 512, .inl xf)), (oa, .inl (cO, 512, .inl uf))] H := hP.sub [0, 1, 3, 4, 5, 6, 7, 2] rfl
      have hD : va_D A [(x, .inr (0, [.ref st, .ref rt, .ref xa, .ref oa, .int (nI 0), .int (nI on)])), (rt, .inr (2, [.ref st, .int g, .int fr, .int to, .int (nI nx)])), (st, .inr (1, [.ref ba, .ref ta, .ref sa, .int (nI o2), .int (nI ((c + 1) - o2)), .int (nI ((updB B (c + 1) (B c + tn)) o2 % R)), .int (nI ((updB B (c + 1) (B c + tn)) (c + 1) - (updB B (c + 1) (B c + tn)) o2)), .int (nI (dr + (o2 - o))), .int (nI de)])), (ba, .inl (cB, R, .inl bf2)), (ta, .inl (cI, R, .inl tf2)), (sa, .inl (cS, R, .inl sf2)), (xa, .inl (cX, 512, .inl xf)), (oa, .inl (cO, 512, .inl uf))] := hD.sub [0, 1, 3, 4, 5, 6, 7, 2] (by decide) rfl
      exact rw_iret (o2, c + 1, upd T c t, updB B (c + 1) (B c + tn), apS S (B c) tn xf, dr + (o2 - o), bf2, tf2, sf2) hx hb hr hlk hK hP hD hS d_PS_keep_48 ⟨Or.inr (Or.inr ⟨by omega, c_27, w2, w1, rfl, rfl, rfl, rfl, rfl⟩), w3⟩
    · refine lv_bipush (v := (-2)) hx hb d_PS_keep_30 (by decide +kernel) ?_
      refine lv_goto (tgt := 48) hx hb d_PS_keep_32 (by decide) ?_
      exact rw_iret (o, c, T, B, S, dr, bf, tf, sf) hx hb hr hlk hK hP hD hS d_PS_keep_48 ⟨Or.inr (Or.inl ⟨by omega, c_27, rfl, rfl, rfl, rfl, rfl, rfl, rfl⟩), h⟩
  · refine lv_iconst (v := (-1)) hx hb d_PS_keep_14 (by decide +kernel) ?_
    refine lv_goto (tgt := 48) hx hb d_PS_keep_15 (by decide) ?_
    exact rw_iret (o, c, T, B, S, dr, bf, tf, sf) hx hb hr hlk hK hP hD hS d_PS_keep_48 ⟨Or.inl ⟨c_11, rfl, rfl, rfl, rfl, rfl, rfl, rfl⟩, h⟩
set_option maxHeartbeats 4000000 in
set_option maxRecDepth 100000 in
/-- delete(t) -/
theorem c_PS_delete (l : Launch) (D : va_G) (x rt st ba ta sa xa oa : Nat) (cB cI cS cX cO : ClassId) (tn on : Nat) (g fr to : Int32) (nx R o c : Nat) (T : Nat → Int32) (B : Nat → Nat) (S : Nat → Int32) (dr de : Nat) (bf tf sf xf uf : Nat → Int32) (sz : Nat) (t : Int32) (h : StR R o c T B S bf tf sf) : Met l y_PS_delete (wc y_PS_delete b_PS_delete 2 (some .int)) ({ frames := 4, cells := 0, slots := 0, locals := 85 }) (va_Pc [.ref x, .int t] (rwB D (vX x rt st ba ta sa xa oa cB cI cS cX cO tn on g fr to nx R o (c - o) (B o % R) (B c - B o) dr de bf tf sf xf uf) (yX cB cI cS cX cO) sz)) (QI (fun (r : Int32) (u : Nat) => r = nI (u - o) ∧ DelTo c T t o u ∧ StR R u c T B S bf tf sf) D (fun u => (yX cB cI cS cX cO)) (fun u => (vX x rt st ba ta sa xa oa cB cI cS cX cO tn on g fr to nx R u (c - u) (B u % R) (B c - B u) dr (de + (u - o)) bf tf sf xf uf)) (va_A (vX x rt st ba ta sa xa oa cB cI cS cX cO tn on g fr to nx R o (c - o) (B o % R) (B c - B o) dr de bf tf sf xf uf) sz)) 0 0 (va_A (vX x rt st ba ta sa xa oa cB cI cS cX cO tn on g fr to nx R o (c - o) (B o % R) (B c - B o) dr de bf tf sf xf uf) sz) := by
  refine rw_startI (by decide) (Nat.le_of_ble_eq_true rfl) ?_
  intro p e s m below meth cd A hx hb hr hT hown hlk hml hnm hA hP hK hD hS ls hl
  have hown : s.vm.findClass R_PS = some m.cls := hown
  have hP : va_P D classes [(x, .inr (0, [.ref st, .ref rt, .ref xa, .ref oa, .int (nI tn), .int (nI on)])), (rt, .inr (2, [.ref st, .int g, .int fr, .int to, .int (nI nx)])), (st, .inr (1, [.ref ba, .ref ta, .ref sa, .int (nI o), .int (nI (c - o)), .int (nI (B o % R)), .int (nI (B c - B o)), .int (nI dr), .int (nI de)])), (ba, .inl (cB, R, .inl bf)), (ta, .inl (cI, R, .inl tf)), (sa, .inl (cS, R, .inl sf)), (xa, .inl (cX, 512, .inl xf)), (oa, .inl (cO, 512, .inl uf))] s.heap := hP
  have hD : va_D A [(x, .inr (0, [.ref st, .ref rt, .ref xa, .ref oa, .int (nI tn), .int (nI on)])), (rt, .inr (2, [.ref st, .int g, .int fr, .int to, .int (nI nx)])), (st, .inr (1, [.ref ba, .ref ta, .ref sa, .int (nI o), .int (nI (c - o)), .int (nI (B o % R)), .int (nI (B c - B o)), .int (nI dr), .int (nI de)])), (ba, .inl (cB, R, .inl bf)), (ta, .inl (cI, R, .inl tf)), (sa, .inl (cS, R, .inl sf)), (xa, .inl (cX, 512, .inl xf)), (oa, .inl (cO, 512, .inl uf))] := hD
  have hK : va_K D classes [(cB, .byte), (cI, .int), (cS, .short), (cX, .byte), (cO, .byte)] s := hK
  have hl : lv_has ls 2 [(0, .ref x), (1, .int t)] := hl
  refine lv_aload_n hx hb d_PS_delete_0 rfl (lv_at hl 0 rfl) ?_
  refine gf_PS_30 hx hb hT hown hK hP 0 rfl rfl d_PS_delete_1 ?_
  refine lv_iload_n hx hb d_PS_delete_4 rfl (lv_at hl 1 rfl) ?_
  refine rw_calli (ci := 1) (As := [.int t]) (rest := []) (wr := [(x, .inr (0, [.ref st, .ref rt, .ref xa, .ref oa, .int (nI tn), .int (nI on)])), (rt, .inr (2, [.ref st, .int g, .int fr, .int to, .int (nI nx)])), (xa, .inl (cX, 512, .inl xf)), (oa, .inl (cO, 512, .inl uf))]) hx hb hml hT hown (c_St_delete l D st ba ta sa cB cI cS R o c T B S dr de bf tf sf s.heap.size t h) (cs_PS_54 hT ⟨(Nat.le_of_ble_eq_true rfl), (Nat.le_of_ble_eq_true rfl)⟩) (hK.sub [0, 1, 2] rfl) hP hD hS hA [2, 3, 4, 5] [0, 1, 6, 7] rfl rfl (by decide) (by decide) (by decide) 0 rfl rfl rfl hl.1 rfl (Nat.le_of_ble_eq_true rfl) d_PS_delete_5 ⟨(Nat.le_of_ble_eq_true rfl), (Nat.le_of_ble_eq_true rfl)⟩ (fun r_5 u H locs hw hKn hP hD hS => ?_)
  have hP : va_P D classes [(x, .inr (0, [.ref st, .ref rt, .ref xa, .ref oa, .int (nI tn), .int (nI on)])), (rt, .inr (2, [.ref st, .int g, .int fr, .int to, .int (nI nx)])), (st, .inr (1, [.ref ba, .ref ta, .ref sa, .int (nI u), .int (nI (c - u)), .int (nI (B u % R)), .int (nI (B c - B u)), .int (nI dr), .int (nI (de + (u - o)))])), (ba, .inl (cB, R, .inl bf)), (ta, .inl (cI, R, .inl tf)), (sa, .inl (cS, R, .inl sf)), (xa, .inl (cX, 512, .inl xf)), (oa, .inl (cO, 512, .inl uf))] H := hP.sub [0, 1, 4, 5, 6, 7, 2, 3] rfl
  have hD : va_D A [(x, .inr (0, [.ref st, .ref rt, .ref xa, .ref oa, .int (nI tn), .int (nI on)])), (rt, .inr (2, [.ref st, .int g, .int fr, .int to, .int (nI nx)])), (st, .inr (1, [.ref ba, .ref ta, .ref sa, .int (nI u), .int (nI (c - u)), .int (nI (B u % R)), .int (nI (B c - B u)), .int (nI dr), .int (nI (de + (u - o)))])), (ba, .inl (cB, R, .inl bf)), (ta, .inl (cI, R, .inl tf)), (sa, .inl (cS, R, .inl sf)), (xa, .inl (cX, 512, .inl xf)), (oa, .inl (cO, 512, .inl uf))] := hD.sub [0, 1, 4, 5, 6, 7, 2, 3] (by decide) rfl
  exact rw_iret u hx hb hr hlk hK hP hD hS d_PS_delete_8 hw
set_option maxHeartbeats 4000000 in
set_option maxRecDepth 100000 in
/-- begin(a, b) -/
theorem c_PS_begin (l : Launch) (D : va_G) (x rt st ba ta sa xa oa : Nat) (cB cI cS cX cO : ClassId) (tn on : Nat) (g fr to : Int32) (nx R o c : Nat) (T : Nat → Int32) (B : Nat → Nat) (S : Nat → Int32) (dr de : Nat) (bf tf sf xf uf : Nat → Int32) (sz : Nat) (a b : Int32) : Met l y_PS_begin (wc y_PS_begin b_PS_begin 3 (some .boolean)) ({ frames := 1, cells := 0, slots := 0, locals := 22 }) (va_Pc [.ref x, .int a, .int b] (rwB D (vX x rt st ba ta sa xa oa cB cI cS cX cO tn on g fr to nx R o (c - o) (B o % R) (B c - B o) dr de bf tf sf xf uf) (yX cB cI cS cX cO) sz)) (QI (fun (r : Int32) (u : Int32 × Int32 × Int32 × Nat) => BgS o g fr to a b nx r u.1 u.2.1 u.2.2.1 u.2.2.2) D (fun u => (yX cB cI cS cX cO)) (fun u => (vX x rt st ba ta sa xa oa cB cI cS cX cO tn on (u.1) (u.2.1) (u.2.2.1) (u.2.2.2) R o (c - o) (B o % R) (B c - B o) dr de bf tf sf xf uf)) (va_A (vX x rt st ba ta sa xa oa cB cI cS cX cO tn on g fr to nx R o (c - o) (B o % R) (B c - B o) dr de bf tf sf xf uf) sz)) 0 0 (va_A (vX x rt st ba ta sa xa oa cB cI cS cX cO tn on g fr to nx R o (c - o) (B o % R) (B c - B o) dr de bf tf sf xf uf) sz) := by
  refine rw_startI (by decide) (Nat.le_of_ble_eq_true rfl) ?_
  intro p e s m below meth cd A hx hb hr hT hown hlk hml hnm hA hP hK hD hS ls hl
  have hown : s.vm.findClass R_PS = some m.cls := hown
  have hP : va_P D classes [(x, .inr (0, [.ref st, .ref rt, .ref xa, .ref oa, .int (nI tn), .int (nI on)])), (rt, .inr (2, [.ref st, .int g, .int fr, .int to, .int (nI nx)])), (st, .inr (1, [.ref ba, .ref ta, .ref sa, .int (nI o), .int (nI (c - o)), .int (nI (B o % R)), .int (nI (B c - B o)), .int (nI dr), .int (nI de)])), (ba, .inl (cB, R, .inl bf)), (ta, .inl (cI, R, .inl tf)), (sa, .inl (cS, R, .inl sf)), (xa, .inl (cX, 512, .inl xf)), (oa, .inl (cO, 512, .inl uf))] s.heap := hP
  have hD : va_D A [(x, .inr (0, [.ref st, .ref rt, .ref xa, .ref oa, .int (nI tn), .int (nI on)])), (rt, .inr (2, [.ref st, .int g, .int fr, .int to, .int (nI nx)])), (st, .inr (1, [.ref ba, .ref ta, .ref sa, .int (nI o), .int (nI (c - o)), .int (nI (B o % R)), .int (nI (B c - B o)), .int (nI dr), .int (nI de)])), (ba, .inl (cB, R, .inl bf)), (ta, .inl (cI, R, .inl tf)), (sa, .inl (cS, R, .inl sf)), (xa, .inl (cX, 512, .inl xf)), (oa, .inl (cO, 512, .inl uf))] := hD
  have hK : va_K D classes [(cB, .byte), (cI, .int), (cS, .short), (cX, .byte), (cO, .byte)] s := hK
  have hl : lv_has ls 3 [(0, .ref x), (1, .int a), (2, .int b)] := hl
  refine lv_aload_n hx hb d_PS_begin_0 rfl (lv_at hl 0 rfl) ?_
  refine gf_PS_39 hx hb hT hown hK hP 0 rfl rfl d_PS_begin_1 ?_
  refine gf_PS_58 hx hb hT hown hK hP 1 rfl rfl d_PS_begin_4 ?_
  refine lv_if_eq (tgt := 12) hx hb d_PS_begin_7 (by decide) (fun c_7 => ?_) (fun c_7 => ?_)
  · refine lv_aload_n hx hb d_PS_begin_12 rfl (lv_at hl 0 rfl) ?_
    refine gf_PS_39 hx hb hT hown hK hP 0 rfl rfl d_PS_begin_13 ?_
    refine lv_iload_n hx hb d_PS_begin_16 rfl (lv_at hl 1 rfl) ?_
    refine lv_iload_n hx hb d_PS_begin_17 rfl (lv_at hl 2 rfl) ?_
    refine rw_callv (ci := 2) (As := [.int a, .int b]) (rest := []) (wr := [(x, .inr (0, [.ref st, .ref rt, .ref xa, .ref oa, .int (nI tn), .int (nI on)])), (xa, .inl (cX, 512, .inl xf)), (oa, .inl (cO, 512, .inl uf))]) hx hb hml hT hown (c_Rt_begin l D rt st ba ta sa cB cI cS g fr to nx R o (c - o) (B o % R) (B c - B o) dr de bf tf sf s.heap.size a b) (cs_PS_62 hT ⟨(Nat.le_of_ble_eq_true rfl), (Nat.le_of_ble_eq_true rfl)⟩) (hK.sub [0, 1, 2] rfl) hP hD hS hA [1, 2, 3, 4, 5] [0, 6, 7] rfl rfl (by decide) (by decide) (by decide) 0 rfl rfl rfl hl.1 rfl (Nat.le_of_ble_eq_true rfl) d_PS_begin_18 ⟨(Nat.le_of_ble_eq_true rfl), (Nat.le_of_ble_eq_true rfl)⟩ (fun u H locs hw hKn hP hD hS => ?_)
    have hP : va_P D classes [(x, .inr (0, [.ref st, .ref rt, .ref xa, .ref oa, .int (nI tn), .int (nI on)])), (rt, .inr (2, [.ref st, .int (nI 1), .int a, .int b, .int (nI o)])), (st, .inr (1, [.ref ba, .ref ta, .ref sa, .int (nI o), .int (nI (c - o)), .int (nI (B o % R)), .int (nI (B c - B o)), .int (nI dr), .int (nI de)])), (ba, .inl (cB, R, .inl bf)), (ta, .inl (cI, R, .inl tf)), (sa, .inl (cS, R, .inl sf)), (xa, .inl (cX, 512, .inl xf)), (oa, .inl (cO, 512, .inl uf))] H := hP.sub [0, 3, 4, 5, 6, 7, 1, 2] rfl
    have hD : va_D A [(x, .inr (0, [.ref st, .ref rt, .ref xa, .ref oa, .int (nI tn), .int (nI on)])), (rt, .inr (2, [.ref st, .int (nI 1), .int a, .int b, .int (nI o)])), (st, .inr (1, [.ref ba, .ref ta, .ref sa, .int (nI o), .int (nI (c - o)), .int (nI (B o % R)), .int (nI (B c - B o)), .int (nI dr), .int (nI de)])), (ba, .inl (cB, R, .inl bf)), (ta, .inl (cI, R, .inl tf)), (sa, .inl (cS, R, .inl sf)), (xa, .inl (cX, 512, .inl xf)), (oa, .inl (cO, 512, .inl uf))] := hD.sub [0, 3, 4, 5, 6, 7, 1, 2] (by decide) rfl
    refine lv_iconst (v := nI 1) hx hb d_PS_begin_21 (by decide +kernel) ?_
    exact rw_zret (nI 1, a, b, o) hx hb hr hlk (by decide +kernel) hK hP hD hS d_PS_begin_22 (Or.inr ⟨c_7, rfl, rfl, rfl, rfl, rfl⟩)
  · refine lv_iconst (v := nI 0) hx hb d_PS_begin_10 (by decide +kernel) ?_
    exact rw_zret (g, fr, to, nx) hx hb hr hlk (by decide +kernel) hK hP hD hS d_PS_begin_11 (Or.inl ⟨c_7, rfl, rfl, rfl, rfl, rfl⟩)
set_option maxHeartbeats 4000000 in
set_option maxRecDepth 100000 in
/-- stop() -/
theorem c_PS_stop (l : Launch) (D : va_G) (x rt st ba ta sa xa oa : Nat) (cB cI cS cX cO : ClassId) (tn on : Nat) (g fr to : Int32) (nx R o c : Nat) (T : Nat → Int32) (B : Nat → Nat) (S : Nat → Int32) (dr de : Nat) (bf tf sf xf uf : Nat → Int32) (sz : Nat) (hg : narrow .boolean (.int g) = .int g) : Met l y_PS_stop (wc y_PS_stop b_PS_stop 2 (some .boolean)) ({ frames := 0, cells := 0, slots := 0, locals := 0 }) (va_Pc [.ref x] (rwB D (vX x rt st ba ta sa xa oa cB cI cS cX cO tn on g fr to nx R o (c - o) (B o % R) (B c - B o) dr de bf tf sf xf uf) (yX cB cI cS cX cO) sz)) (QI (fun (r : Int32) (u : Unit) => r = g) D (fun u => (yX cB cI cS cX cO)) (fun u => (vX x rt st ba ta sa xa oa cB cI cS cX cO tn on (nI 0) fr to nx R o (c - o) (B o % R) (B c - B o) dr de bf tf sf xf uf)) (va_A (vX x rt st ba ta sa xa oa cB cI cS cX cO tn on g fr to nx R o (c - o) (B o % R) (B c - B o) dr de bf tf sf xf uf) sz)) 0 0 (va_A (vX x rt st ba ta sa xa oa cB cI cS cX cO tn on g fr to nx R o (c - o) (B o % R) (B c - B o) dr de bf tf sf xf uf) sz) := by
  refine rw_startI (by decide) (Nat.le_of_ble_eq_true rfl) ?_
  intro p e s m below meth cd A hx hb hr hT hown hlk hml hnm hA hP hK hD hS ls hl
  have hown : s.vm.findClass R_PS = some m.cls := hown
  have hP : va_P D classes [(x, .inr (0, [.ref st, .ref rt, .ref xa, .ref oa, .int (nI tn), .int (nI on)])), (rt, .inr (2, [.ref st, .int g, .int fr, .int to, .int (nI nx)])), (st, .inr (1, [.ref ba, .ref ta, .ref sa, .int (nI o), .int (nI (c - o)), .int (nI (B o % R)), .int (nI (B c - B o)), .int (nI dr), .int (nI de)])), (ba, .inl (cB, R, .inl bf)), (ta, .inl (cI, R, .inl tf)), (sa, .inl (cS, R, .inl sf)), (xa, .inl (cX, 512, .inl xf)), (oa, .inl (cO, 512, .inl uf))] s.heap := hP
  have hD : va_D A [(x, .inr (0, [.ref st, .ref rt, .ref xa, .ref oa, .int (nI tn), .int (nI on)])), (rt, .inr (2, [.ref st, .int g, .int fr, .int to, .int (nI nx)])), (st, .inr (1, [.ref ba, .ref ta, .ref sa, .int (nI o), .int (nI (c - o)), .int (nI (B o % R)), .int (nI (B c - B o)), .int (nI dr), .int (nI de)])), (ba, .inl (cB, R, .inl bf)), (ta, .inl (cI, R, .inl tf)), (sa, .inl (cS, R, .inl sf)), (xa, .inl (cX, 512, .inl xf)), (oa, .inl (cO, 512, .inl uf))] := hD
  have hK : va_K D classes [(cB, .byte), (cI, .int), (cS, .short), (cX, .byte), (cO, .byte)] s := hK
  have hl : lv_has ls 2 [(0, .ref x)] := hl
  refine lv_aload_n hx hb d_PS_stop_0 rfl (lv_at hl 0 rfl) ?_
  refine gf_PS_39 hx hb hT hown hK hP 0 rfl rfl d_PS_stop_1 ?_
  refine gf_PS_58 hx hb hT hown hK hP 1 rfl rfl d_PS_stop_4 ?_
  refine lv_istore_n (lv' := [(1, .int g), (0, .ref x)]) hx hb d_PS_stop_7 rfl hl (by decide) rfl (fun ls hl => ?_)
  refine lv_aload_n hx hb d_PS_stop_8 rfl (lv_at hl 1 rfl) ?_
  refine gf_PS_39 hx hb hT hown hK hP 0 rfl rfl d_PS_stop_9 ?_
  refine lv_iconst (v := nI 0) hx hb d_PS_stop_12 (by decide +kernel) ?_
  refine pf_PS_58 hx hb hT hown hK hP hD hS 1 rfl (by decide +kernel) (by decide +kernel) (Nat.le_of_ble_eq_true rfl) d_PS_stop_13 (fun H locs hP hD hS => ?_)
  have hP : va_P D classes [(x, .inr (0, [.ref st, .ref rt, .ref xa, .ref oa, .int (nI tn), .int (nI on)])), (rt, .inr (2, [.ref st, .int (nI 0), .int fr, .int to, .int (nI nx)])), (st, .inr (1, [.ref ba, .ref ta, .ref sa, .int (nI o), .int (nI (c - o)), .int (nI (B o % R)), .int (nI (B c - B o)), .int (nI dr), .int (nI de)])), (ba, .inl (cB, R, .inl bf)), (ta, .inl (cI, R, .inl tf)), (sa, .inl (cS, R, .inl sf)), (xa, .inl (cX, 512, .inl xf)), (oa, .inl (cO, 512, .inl uf))] H := hP
  have hD : va_D A [(x, .inr (0, [.ref st, .ref rt, .ref xa, .ref oa, .int (nI tn), .int (nI on)])), (rt, .inr (2, [.ref st, .int (nI 0), .int fr, .int to, .int (nI nx)])), (st, .inr (1, [.ref ba, .ref ta, .ref sa, .int (nI o), .int (nI (c - o)), .int (nI (B o % R)), .int (nI (B c - B o)), .int (nI dr), .int (nI de)])), (ba, .inl (cB, R, .inl bf)), (ta, .inl (cI, R, .inl tf)), (sa, .inl (cS, R, .inl sf)), (xa, .inl (cX, 512, .inl xf)), (oa, .inl (cO, 512, .inl uf))] := hD
  refine lv_iload_n hx hb d_PS_stop_16 rfl (lv_at hl 0 rfl) ?_
  exact rw_zret () hx hb hr hlk hg hK hP hD hS d_PS_stop_17 rfl
set_option maxHeartbeats 4000000 in
set_option maxRecDepth 100000 in
/-- out(j) -/
theorem c_PS_out (l : Launch) (D : va_G) (x rt st ba ta sa xa oa : Nat) (cB cI cS cX cO : ClassId) (tn on : Nat) (g fr to : Int32) (nx R o c : Nat) (T : Nat → Int32) (B : Nat → Nat) (S : Nat → Int32) (dr de : Nat) (bf tf sf xf uf : Nat → Int32) (j : Int32) (hon : on ≤ 512) : Met l y_PS_out (wc y_PS_out b_PS_out 2 (some .int)) ({ frames := 0, cells := 0, slots := 0, locals := 0 }) (va_Pc [.ref x, .int j] (roB D (vX x rt st ba ta sa xa oa cB cI cS cX cO tn on g fr to nx R o (c - o) (B o % R) (B c - B o) dr de bf tf sf xf uf) (yX cB cI cS cX cO))) (vp_Si (fun r => r = outF on uf j)) 0 0 (fun _ => False) := by
  refine met_start (by decide) (Nat.le_of_ble_eq_true rfl) ?_
  intro p e s m below meth cd hx hb hr hT hown hlk hml hnm hB ls hl
  obtain ⟨hP, hK⟩ := hB
  have hown : s.vm.findClass R_PS = some m.cls := hown
  have hP : va_P D classes [(x, .inr (0, [.ref st, .ref rt, .ref xa, .ref oa, .int (nI tn), .int (nI on)])), (rt, .inr (2, [.ref st, .int g, .int fr, .int to, .int (nI nx)])), (st, .inr (1, [.ref ba, .ref ta, .ref sa, .int (nI o), .int (nI (c - o)), .int (nI (B o % R)), .int (nI (B c - B o)), .int (nI dr), .int (nI de)])), (ba, .inl (cB, R, .inl bf)), (ta, .inl (cI, R, .inl tf)), (sa, .inl (cS, R, .inl sf)), (xa, .inl (cX, 512, .inl xf)), (oa, .inl (cO, 512, .inl uf))] s.heap := hP
  have hK : va_K D classes [(cB, .byte), (cI, .int), (cS, .short), (cX, .byte), (cO, .byte)] s := hK
  have hl : lv_has ls 2 [(0, .ref x), (1, .int j)] := hl
  refine lv_iload_n hx hb d_PS_out_0 rfl (lv_at hl 1 rfl) ?_
  refine lv_if_lt (tgt := 12) hx hb d_PS_out_1 (by decide) (fun c_1 => ?_) (fun c_1 => ?_)
  · refine lv_iconst (v := (-1)) hx hb d_PS_out_12 (by decide +kernel) ?_
    refine lv_goto (tgt := 26) hx hb d_PS_out_13 (by decide) ?_
    exact ro_iret hx hb hr hlk d_PS_out_26 (outF_lo c_1).symm
  · refine lv_iload_n hx hb d_PS_out_4 rfl (lv_at hl 1 rfl) ?_
    refine lv_aload_n hx hb d_PS_out_5 rfl (lv_at hl 0 rfl) ?_
    refine gf_PS_76 hx hb hT hown hK hP 0 rfl rfl d_PS_out_6 ?_
    refine lv_icmp_lt (tgt := 16) hx hb d_PS_out_9 (by decide) (fun c_9 => ?_) (fun c_9 => ?_)
    · obtain ⟨n, n1, rfl⟩ := nI_of c_1
      have n2 := (nI_ltI n1 (by omega)).mp c_9
      refine lv_aload_n hx hb d_PS_out_16 rfl (lv_at hl 0 rfl) ?_
      refine gf_PS_13 hx hb hT hown hK hP 0 rfl rfl d_PS_out_17 ?_
      refine lv_iload_n hx hb d_PS_out_20 rfl (lv_at hl 1 rfl) ?_
      refine nv_bald hx hb hK hP 7 4 rfl rfl (by omega) (by omega) d_PS_out_21 ?_
      refine lv_sipush (v := nI 255) hx hb d_PS_out_22 (by decide +kernel) ?_
      refine lv_iand hx hb d_PS_out_25 ?_
      exact ro_iret hx hb hr hlk d_PS_out_26 (outF_in n2 (by omega)).symm
    · refine lv_iconst (v := (-1)) hx hb d_PS_out_12 (by decide +kernel) ?_
      refine lv_goto (tgt := 26) hx hb d_PS_out_13 (by decide) ?_
      exact ro_iret hx hb hr hlk d_PS_out_26 (outF_hi c_9).symm
set_option maxHeartbeats 4000000 in
set_option maxRecDepth 100000 in
/-- count(w) -/
theorem c_PS_count (l : Launch) (D : va_G) (x rt st ba ta sa xa oa : Nat) (cB cI cS cX cO : ClassId) (tn on : Nat) (g fr to : Int32) (nx R o c : Nat) (T : Nat → Int32) (B : Nat → Nat) (S : Nat → Int32) (dr de : Nat) (bf tf sf xf uf : Nat → Int32) (w : Int32) (hoc : o ≤ c) : Met l y_PS_count (wc y_PS_count b_PS_count 2 (some .int)) ({ frames := 1, cells := 0, slots := 0, locals := 20 }) (va_Pc [.ref x, .int w] (roB D (vX x rt st ba ta sa xa oa cB cI cS cX cO tn on g fr to nx R o (c - o) (B o % R) (B c - B o) dr de bf tf sf xf uf) (yX cB cI cS cX cO))) (vp_Si (fun r => r = cntF R o c B dr de on g w)) 0 0 (fun _ => False) := by
  refine met_start (by decide) (Nat.le_of_ble_eq_true rfl) ?_
  intro p e s m below meth cd hx hb hr hT hown hlk hml hnm hB ls hl
  obtain ⟨hP, hK⟩ := hB
  have hown : s.vm.findClass R_PS = some m.cls := hown
  have hP : va_P D classes [(x, .inr (0, [.ref st, .ref rt, .ref xa, .ref oa, .int (nI tn), .int (nI on)])), (rt, .inr (2, [.ref st, .int g, .int fr, .int to, .int (nI nx)])), (st, .inr (1, [.ref ba, .ref ta, .ref sa, .int (nI o), .int (nI (c - o)), .int (nI (B o % R)), .int (nI (B c - B o)), .int (nI dr), .int (nI de)])), (ba, .inl (cB, R, .inl bf)), (ta, .inl (cI, R, .inl tf)), (sa, .inl (cS, R, .inl sf)), (xa, .inl (cX, 512, .inl xf)), (oa, .inl (cO, 512, .inl uf))] s.heap := hP
  have hK : va_K D classes [(cB, .byte), (cI, .int), (cS, .short), (cX, .byte), (cO, .byte)] s := hK
  have hl : lv_has ls 2 [(0, .ref x), (1, .int w)] := hl
  refine lv_iload_n hx hb d_PS_count_0 rfl (lv_at hl 1 rfl) ?_
  by_cases w0 : w = 0
  · subst w0
    refine lv_tableIn (tgt := 48) (off := 47) hx hb d_PS_count_1 (by decide) (by decide) (by decide +kernel) (by decide) ?_
    refine lv_aload_n hx hb d_PS_count_48 rfl (lv_at hl 0 rfl) ?_
    refine gf_PS_30 hx hb hT hown hK hP 0 rfl rfl d_PS_count_49 ?_
    refine gf_PS_82 hx hb hT hown hK hP 2 rfl rfl d_PS_count_52 ?_
    exact ro_iret hx hb hr hlk d_PS_count_55 cnt_0.symm
  by_cases w1 : w = 1
  · subst w1
    refine lv_tableIn (tgt := 56) (off := 55) hx hb d_PS_count_1 (by decide) (by decide) (by decide +kernel) (by decide) ?_
    refine lv_aload_n hx hb d_PS_count_56 rfl (lv_at hl 0 rfl) ?_
    refine gf_PS_30 hx hb hT hown hK hP 0 rfl rfl d_PS_count_57 ?_
    refine gf_PS_85 hx hb hT hown hK hP 2 rfl rfl d_PS_count_60 ?_
    exact ro_iret hx hb hr hlk d_PS_count_63 cnt_1.symm
  by_cases w2 : w = 2
  · subst w2
    refine lv_tableIn (tgt := 64) (off := 63) hx hb d_PS_count_1 (by decide) (by decide) (by decide +kernel) (by decide) ?_
    refine lv_aload_n hx hb d_PS_count_64 rfl (lv_at hl 0 rfl) ?_
    refine gf_PS_30 hx hb hT hown hK hP 0 rfl rfl d_PS_count_65 ?_
    refine ro_calli (ci := 1) (As := []) (rest := []) hx hb hml hT hown (c_St_behind l D st ba ta sa cB cI cS R o (c - o) (B o % R) (B c - B o) dr de bf tf sf) (cs_PS_88 hT ⟨(Nat.le_of_ble_eq_true rfl), (Nat.le_of_ble_eq_true rfl)⟩) (hK.sub [0, 1, 2] rfl) (hP.sub [2, 3, 4, 5] rfl) 0 rfl rfl rfl hl.1 rfl (Nat.le_of_ble_eq_true rfl) d_PS_count_68 ⟨(Nat.le_of_ble_eq_true rfl), (Nat.le_of_ble_eq_true rfl)⟩ (fun r_68 er_68 => ?_)
    subst er_68
    refine nv_as (y := c) (by omega) ?_
    exact ro_iret hx hb hr hlk d_PS_count_71 cnt_2.symm
  by_cases w3 : w = 3
  · subst w3
    refine lv_tableIn (tgt := 72) (off := 71) hx hb d_PS_count_1 (by decide) (by decide) (by decide +kernel) (by decide) ?_
    refine lv_aload_n hx hb d_PS_count_72 rfl (lv_at hl 0 rfl) ?_
    refine gf_PS_30 hx hb hT hown hK hP 0 rfl rfl d_PS_count_73 ?_
    refine gf_PS_91 hx hb hT hown hK hP 2 rfl rfl d_PS_count_76 ?_
    exact ro_iret hx hb hr hlk d_PS_count_79 cnt_3.symm
  by_cases w4 : w = 4
  · subst w4
    refine lv_tableIn (tgt := 80) (off := 79) hx hb d_PS_count_1 (by decide) (by decide) (by decide +kernel) (by decide) ?_
    refine lv_aload_n hx hb d_PS_count_80 rfl (lv_at hl 0 rfl) ?_
    refine gf_PS_30 hx hb hT hown hK hP 0 rfl rfl d_PS_count_81 ?_
    refine gf_PS_94 hx hb hT hown hK hP 2 rfl rfl d_PS_count_84 ?_
    exact ro_iret hx hb hr hlk d_PS_count_87 cnt_4.symm
  by_cases w5 : w = 5
  · subst w5
    refine lv_tableIn (tgt := 88) (off := 87) hx hb d_PS_count_1 (by decide) (by decide) (by decide +kernel) (by decide) ?_
    refine lv_aload_n hx hb d_PS_count_88 rfl (lv_at hl 0 rfl) ?_
    refine gf_PS_39 hx hb hT hown hK hP 0 rfl rfl d_PS_count_89 ?_
    refine gf_PS_58 hx hb hT hown hK hP 1 rfl rfl d_PS_count_92 ?_
    refine lv_if_eq (tgt := 102) hx hb d_PS_count_95 (by decide) (fun c_95 => ?_) (fun c_95 => ?_)
    · refine lv_iconst (v := nI 0) hx hb d_PS_count_102 (by decide +kernel) ?_
      exact ro_iret hx hb hr hlk d_PS_count_103 (cnt_5a c_95).symm
    · refine lv_iconst (v := nI 1) hx hb d_PS_count_98 (by decide +kernel) ?_
      refine lv_goto (tgt := 103) hx hb d_PS_count_99 (by decide) ?_
      exact ro_iret hx hb hr hlk d_PS_count_103 (cnt_5b c_95).symm
  by_cases w6 : w = 6
  · subst w6
    refine lv_tableIn (tgt := 104) (off := 103) hx hb d_PS_count_1 (by decide) (by decide) (by decide +kernel) (by decide) ?_
    refine lv_aload_n hx hb d_PS_count_104 rfl (lv_at hl 0 rfl) ?_
    refine gf_PS_76 hx hb hT hown hK hP 0 rfl rfl d_PS_count_105 ?_
    exact ro_iret hx hb hr hlk d_PS_count_108 cnt_6.symm
  by_cases w7 : w = 7
  · subst w7
    refine lv_tableIn (tgt := 109) (off := 108) hx hb d_PS_count_1 (by decide) (by decide) (by decide +kernel) (by decide) ?_
    refine lv_aload_n hx hb d_PS_count_109 rfl (lv_at hl 0 rfl) ?_
    refine gf_PS_30 hx hb hT hown hK hP 0 rfl rfl d_PS_count_110 ?_
    refine gf_PS_47 hx hb hT hown hK hP 2 rfl rfl d_PS_count_113 ?_
    refine nv_alen hx hb hK hP 3 0 rfl rfl d_PS_count_116 ?_
    exact ro_iret hx hb hr hlk d_PS_count_117 cnt_7.symm
  refine lv_tableOut (tgt := 118) hx hb d_PS_count_1 (sw_out w0 w1 w2 w3 w4 w5 w6 w7) (by decide) ?_
  refine lv_iconst (v := (-1)) hx hb d_PS_count_118 (by decide +kernel) ?_
  exact ro_iret hx hb hr hlk d_PS_count_119 (cnt_8 w0 w1 w2 w3 w4 w5 w6 w7).symm
set_option maxHeartbeats 4000000 in
set_option maxRecDepth 100000 in
/-- about(k, w) -/
theorem c_PS_about (l : Launch) (D : va_G) (x rt st ba ta sa xa oa : Nat) (cB cI cS cX cO : ClassId) (tn on : Nat) (g fr to : Int32) (nx R o c : Nat) (T : Nat → Int32) (B : Nat → Nat) (S : Nat → Int32) (dr de : Nat) (bf tf sf xf uf : Nat → Int32) (k w : Int32) (h : StR R o c T B S bf tf sf) : Met l y_PS_about (wc y_PS_about b_PS_about 3 (some .int)) ({ frames := 2, cells := 0, slots := 0, locals := 42 }) (va_Pc [.ref x, .int k, .int w] (roB D (vX x rt st ba ta sa xa oa cB cI cS cX cO tn on g fr to nx R o (c - o) (B o % R) (B c - B o) dr de bf tf sf xf uf) (yX cB cI cS cX cO))) (vp_Si (fun r => r = aboF o c T B k w)) 0 0 (fun _ => False) := by
  refine met_start (by decide) (Nat.le_of_ble_eq_true rfl) ?_
  intro p e s m below meth cd hx hb hr hT hown hlk hml hnm hB ls hl
  obtain ⟨hP, hK⟩ := hB
  have hown : s.vm.findClass R_PS = some m.cls := hown
  have hP : va_P D classes [(x, .inr (0, [.ref st, .ref rt, .ref xa, .ref oa, .int (nI tn), .int (nI on)])), (rt, .inr (2, [.ref st, .int g, .int fr, .int to, .int (nI nx)])), (st, .inr (1, [.ref ba, .ref ta, .ref sa, .int (nI o), .int (nI (c - o)), .int (nI (B o % R)), .int (nI (B c - B o)), .int (nI dr), .int (nI de)])), (ba, .inl (cB, R, .inl bf)), (ta, .inl (cI, R, .inl tf)), (sa, .inl (cS, R, .inl sf)), (xa, .inl (cX, 512, .inl xf)), (oa, .inl (cO, 512, .inl uf))] s.heap := hP
  have hK : va_K D classes [(cB, .byte), (cI, .int), (cS, .short), (cX, .byte), (cO, .byte)] s := hK
  have hl : lv_has ls 3 [(0, .ref x), (1, .int k), (2, .int w)] := hl
  obtain ⟨hs, hgT, hgZ, hgS, h8⟩ := id h
  obtain ⟨a1, a2, a3, a4, a5, a6, a7⟩ := id hs
  have hR0 : 0 < R := by omega
  have hR1 : R < 2 ^ 31 := by omega
  have hm := hs_mono hs
  have hoc := hm c o a3 (Nat.le_refl c)
  refine lv_iload_n hx hb d_PS_about_0 rfl (lv_at hl 1 rfl) ?_
  refine lv_if_lt (tgt := 15) hx hb d_PS_about_1 (by decide) (fun c_1 => ?_) (fun c_1 => ?_)
  · refine lv_iconst (v := (-1)) hx hb d_PS_about_15 (by decide +kernel) ?_
    exact ro_iret hx hb hr hlk d_PS_about_16 (aboF_lo c_1).symm
  · refine lv_iload_n hx hb d_PS_about_4 rfl (lv_at hl 1 rfl) ?_
    refine lv_aload_n hx hb d_PS_about_5 rfl (lv_at hl 0 rfl) ?_
    refine gf_PS_30 hx hb hT hown hK hP 0 rfl rfl d_PS_about_6 ?_
    refine gf_PS_82 hx hb hT hown hK hP 2 rfl rfl d_PS_about_9 ?_
    refine lv_icmp_lt (tgt := 17) hx hb d_PS_about_12 (by decide) (fun c_12 => ?_) (fun c_12 => ?_)
    · obtain ⟨n, n1, rfl⟩ := nI_of c_1
      have n2 := (nI_ltI n1 (by omega)).mp c_12
      refine lv_iload_n hx hb d_PS_about_17 rfl (lv_at hl 2 rfl) ?_
      refine lv_if_ne (tgt := 40) hx hb d_PS_about_18 (by decide) (fun c_18 => ?_) (fun c_18 => ?_)
      · refine lv_iload_n hx hb d_PS_about_40 rfl (lv_at hl 2 rfl) ?_
        refine lv_iconst (v := nI 1) hx hb d_PS_about_41 (by decide +kernel) ?_
        refine lv_icmp_ne (tgt := 64) hx hb d_PS_about_42 (by decide) (fun c_42 => ?_) (fun c_42 => ?_)
        · refine lv_iconst (v := (-1)) hx hb d_PS_about_64 (by decide +kernel) ?_
          exact ro_iret hx hb hr hlk d_PS_about_65 (aboF_2 n2 (by omega) c_18 c_42).symm
        · refine lv_aload_n hx hb d_PS_about_45 rfl (lv_at hl 0 rfl) ?_
          refine gf_PS_30 hx hb hT hown hK hP 0 rfl rfl d_PS_about_46 ?_
          refine lv_aload_n hx hb d_PS_about_49 rfl (lv_at hl 0 rfl) ?_
          refine gf_PS_30 hx hb hT hown hK hP 0 rfl rfl d_PS_about_50 ?_
          refine gf_PS_97 hx hb hT hown hK hP 2 rfl rfl d_PS_about_53 ?_
          refine lv_iload_n hx hb d_PS_about_56 rfl (lv_at hl 1 rfl) ?_
          refine nv_iadd hx hb d_PS_about_57 ?_
          refine ro_calli (ci := 1) (As := [.int (nI (o + n))]) (rest := []) hx hb hml hT hown (c_St_size l D st ba ta sa cB cI cS R o (c - o) (B o % R) (B c - B o) dr de bf tf sf (o + n) (by omega) hR0 hR1) (cs_PS_70 hT ⟨(Nat.le_of_ble_eq_true rfl), (Nat.le_of_ble_eq_true rfl)⟩) (hK.sub [0, 1, 2] rfl) (hP.sub [2, 3, 4, 5] rfl) 0 rfl rfl rfl hl.1 rfl (Nat.le_of_ble_eq_true rfl) d_PS_about_58 ⟨(Nat.le_of_ble_eq_true rfl), (Nat.le_of_ble_eq_true rfl)⟩ (fun r_58 er_58 => ?_)
          subst er_58
          refine nv_asI (y := B (o + n + 1) - B (o + n)) (hgZ (o + n) (by omega) (by omega)) ?_
          refine lv_goto (tgt := 65) hx hb d_PS_about_61 (by decide) ?_
          exact ro_iret hx hb hr hlk d_PS_about_65 (aboF_1 n2 (by omega) c_18 c_42).symm
      · refine lv_aload_n hx hb d_PS_about_21 rfl (lv_at hl 0 rfl) ?_
        refine gf_PS_30 hx hb hT hown hK hP 0 rfl rfl d_PS_about_22 ?_
        refine lv_aload_n hx hb d_PS_about_25 rfl (lv_at hl 0 rfl) ?_
        refine gf_PS_30 hx hb hT hown hK hP 0 rfl rfl d_PS_about_26 ?_
        refine gf_PS_97 hx hb hT hown hK hP 2 rfl rfl d_PS_about_29 ?_
        refine lv_iload_n hx hb d_PS_about_32 rfl (lv_at hl 1 rfl) ?_
        refine nv_iadd hx hb d_PS_about_33 ?_
        refine ro_calli (ci := 1) (As := [.int (nI (o + n))]) (rest := []) hx hb hml hT hown (c_St_time l D st ba ta sa cB cI cS R o (c - o) (B o % R) (B c - B o) dr de bf tf sf (o + n) (by omega) hR0 hR1) (cs_PS_100 hT ⟨(Nat.le_of_ble_eq_true rfl), (Nat.le_of_ble_eq_true rfl)⟩) (hK.sub [0, 1, 2] rfl) (hP.sub [2, 3, 4, 5] rfl) 0 rfl rfl rfl hl.1 rfl (Nat.le_of_ble_eq_true rfl) d_PS_about_34 ⟨(Nat.le_of_ble_eq_true rfl), (Nat.le_of_ble_eq_true rfl)⟩ (fun r_34 er_34 => ?_)
        subst er_34
        refine nv_asX (y := T (o + n)) (hgT (o + n) (by omega) (by omega)) ?_
        refine lv_goto (tgt := 65) hx hb d_PS_about_37 (by decide) ?_
        exact ro_iret hx hb hr hlk d_PS_about_65 (aboF_0 n2 (by omega) c_18).symm
    · refine lv_iconst (v := (-1)) hx hb d_PS_about_15 (by decide +kernel) ?_
      exact ro_iret hx hb hr hlk d_PS_about_16 (aboF_hi c_12).symm
set_option maxHeartbeats 4000000 in
set_option maxRecDepth 100000 in
/-- byteAt(k, j) -/
theorem c_PS_byteAt (l : Launch) (D : va_G) (x rt st ba ta sa xa oa : Nat) (cB cI cS cX cO : ClassId) (tn on : Nat) (g fr to : Int32) (nx R o c : Nat) (T : Nat → Int32) (B : Nat → Nat) (S : Nat → Int32) (dr de : Nat) (bf tf sf xf uf : Nat → Int32) (k j : Int32) (h : StR R o c T B S bf tf sf) : Met l y_PS_byteAt (wc y_PS_byteAt b_PS_byteAt 3 (some .int)) ({ frames := 4, cells := 0, slots := 0, locals := 87 }) (va_Pc [.ref x, .int k, .int j] (roB D (vX x rt st ba ta sa xa oa cB cI cS cX cO tn on g fr to nx R o (c - o) (B o % R) (B c - B o) dr de bf tf sf xf uf) (yX cB cI cS cX cO))) (vp_Si (fun r => r = bytF o c B S k j)) 0 0 (fun _ => False) := by
  refine met_start (by decide) (Nat.le_of_ble_eq_true rfl) ?_
  intro p e s m below meth cd hx hb hr hT hown hlk hml hnm hB ls hl
  obtain ⟨hP, hK⟩ := hB
  have hown : s.vm.findClass R_PS = some m.cls := hown
  have hP : va_P D classes [(x, .inr (0, [.ref st, .ref rt, .ref xa, .ref oa, .int (nI tn), .int (nI on)])), (rt, .inr (2, [.ref st, .int g, .int fr, .int to, .int (nI nx)])), (st, .inr (1, [.ref ba, .ref ta, .ref sa, .int (nI o), .int (nI (c - o)), .int (nI (B o % R)), .int (nI (B c - B o)), .int (nI dr), .int (nI de)])), (ba, .inl (cB, R, .inl bf)), (ta, .inl (cI, R, .inl tf)), (sa, .inl (cS, R, .inl sf)), (xa, .inl (cX, 512, .inl xf)), (oa, .inl (cO, 512, .inl uf))] s.heap := hP
  have hK : va_K D classes [(cB, .byte), (cI, .int), (cS, .short), (cX, .byte), (cO, .byte)] s := hK
  have hl : lv_has ls 3 [(0, .ref x), (1, .int k), (2, .int j)] := hl
  obtain ⟨hs, hgT, hgZ, hgS, h8⟩ := id h
  obtain ⟨a1, a2, a3, a4, a5, a6, a7⟩ := id hs
  have hR0 : 0 < R := by omega
  have hR1 : R < 2 ^ 31 := by omega
  have hm := hs_mono hs
  have hoc := hm c o a3 (Nat.le_refl c)
  refine lv_iload_n hx hb d_PS_byteAt_0 rfl (lv_at hl 1 rfl) ?_
  refine lv_if_lt (tgt := 39) hx hb d_PS_byteAt_1 (by decide) (fun c_1 => ?_) (fun c_1 => ?_)
  · refine lv_iconst (v := (-1)) hx hb d_PS_byteAt_39 (by decide +kernel) ?_
    refine lv_goto (tgt := 60) hx hb d_PS_byteAt_40 (by decide) ?_
    exact ro_iret hx hb hr hlk d_PS_byteAt_60 (bytF_lo c_1).symm
  · refine lv_iload_n hx hb d_PS_byteAt_4 rfl (lv_at hl 1 rfl) ?_
    refine lv_aload_n hx hb d_PS_byteAt_5 rfl (lv_at hl 0 rfl) ?_
    refine gf_PS_30 hx hb hT hown hK hP 0 rfl rfl d_PS_byteAt_6 ?_
    refine gf_PS_82 hx hb hT hown hK hP 2 rfl rfl d_PS_byteAt_9 ?_
    refine lv_icmp_ge (tgt := 39) hx hb d_PS_byteAt_12 (by decide) (fun c_12 => ?_) (fun c_12 => ?_)
    · refine lv_iconst (v := (-1)) hx hb d_PS_byteAt_39 (by decide +kernel) ?_
      refine lv_goto (tgt := 60) hx hb d_PS_byteAt_40 (by decide) ?_
      exact ro_iret hx hb hr hlk d_PS_byteAt_60 (bytF_hi c_12).symm
    · obtain ⟨n, n1, rfl⟩ := nI_of c_1
      have n2 := (nI_ltI n1 (by omega)).mp (Int32.not_le.mp c_12)
      have b0 := a7 (o + n) (by omega)
      refine lv_iload_n hx hb d_PS_byteAt_15 rfl (lv_at hl 2 rfl) ?_
      refine lv_if_lt (tgt := 39) hx hb d_PS_byteAt_16 (by decide) (fun c_16 => ?_) (fun c_16 => ?_)
      · refine lv_iconst (v := (-1)) hx hb d_PS_byteAt_39 (by decide +kernel) ?_
        refine lv_goto (tgt := 60) hx hb d_PS_byteAt_40 (by decide) ?_
        exact ro_iret hx hb hr hlk d_PS_byteAt_60 (bytF_jl n2 (by omega) c_16).symm
      · refine lv_iload_n hx hb d_PS_byteAt_19 rfl (lv_at hl 2 rfl) ?_
        refine lv_aload_n hx hb d_PS_byteAt_20 rfl (lv_at hl 0 rfl) ?_
        refine gf_PS_30 hx hb hT hown hK hP 0 rfl rfl d_PS_byteAt_21 ?_
        refine lv_aload_n hx hb d_PS_byteAt_24 rfl (lv_at hl 0 rfl) ?_
        refine gf_PS_30 hx hb hT hown hK hP 0 rfl rfl d_PS_byteAt_25 ?_
        refine gf_PS_97 hx hb hT hown hK hP 2 rfl rfl d_PS_byteAt_28 ?_
        refine lv_iload_n hx hb d_PS_byteAt_31 rfl (lv_at hl 1 rfl) ?_
        refine nv_iadd hx hb d_PS_byteAt_32 ?_
        refine ro_calli (ci := 1) (As := [.int (nI (o + n))]) (rest := [.int j]) hx hb hml hT hown (c_St_size l D st ba ta sa cB cI cS R o (c - o) (B o % R) (B c - B o) dr de bf tf sf (o + n) (by omega) hR0 hR1) (cs_PS_70 hT ⟨(Nat.le_of_ble_eq_true rfl), (Nat.le_of_ble_eq_true rfl)⟩) (hK.sub [0, 1, 2] rfl) (hP.sub [2, 3, 4, 5] rfl) 0 rfl rfl rfl hl.1 rfl (Nat.le_of_ble_eq_true rfl) d_PS_byteAt_33 ⟨(Nat.le_of_ble_eq_true rfl), (Nat.le_of_ble_eq_true rfl)⟩ (fun r_33 er_33 => ?_)
        subst er_33
        refine nv_asI (y := B (o + n + 1) - B (o + n)) (hgZ (o + n) (by omega) (by omega)) ?_
        refine lv_icmp_lt (tgt := 43) hx hb d_PS_byteAt_36 (by decide) (fun c_36 => ?_) (fun c_36 => ?_)
        · obtain ⟨i, i1, rfl⟩ := nI_of c_16
          have i2 := (nI_ltI i1 (by omega)).mp c_36
          refine lv_aload_n hx hb d_PS_byteAt_43 rfl (lv_at hl 0 rfl) ?_
          refine gf_PS_30 hx hb hT hown hK hP 0 rfl rfl d_PS_byteAt_44 ?_
          refine lv_aload_n hx hb d_PS_byteAt_47 rfl (lv_at hl 0 rfl) ?_
          refine gf_PS_30 hx hb hT hown hK hP 0 rfl rfl d_PS_byteAt_48 ?_
          refine gf_PS_97 hx hb hT hown hK hP 2 rfl rfl d_PS_byteAt_51 ?_
          refine lv_iload_n hx hb d_PS_byteAt_54 rfl (lv_at hl 1 rfl) ?_
          refine nv_iadd hx hb d_PS_byteAt_55 ?_
          refine lv_iload_n hx hb d_PS_byteAt_56 rfl (lv_at hl 2 rfl) ?_
          refine ro_calli (ci := 1) (As := [.int (nI (o + n)), .int (nI i)]) (rest := []) hx hb hml hT hown (c_St_byteAt l D st ba ta sa cB cI cS R o c T B S dr de bf tf sf h (o + n) i (by omega) (by omega) i2) (cs_PS_103 hT ⟨(Nat.le_of_ble_eq_true rfl), (Nat.le_of_ble_eq_true rfl)⟩) (hK.sub [0, 1, 2] rfl) (hP.sub [2, 3, 4, 5] rfl) 0 rfl rfl rfl hl.1 rfl (Nat.le_of_ble_eq_true rfl) d_PS_byteAt_57 ⟨(Nat.le_of_ble_eq_true rfl), (Nat.le_of_ble_eq_true rfl)⟩ (fun r_57 er_57 => ?_)
          subst er_57
          exact ro_iret hx hb hr hlk d_PS_byteAt_60 (bytF_in n2 (by omega) i2 (by omega)).symm
        · refine lv_iconst (v := (-1)) hx hb d_PS_byteAt_39 (by decide +kernel) ?_
          refine lv_goto (tgt := 60) hx hb d_PS_byteAt_40 (by decide) ?_
          exact ro_iret hx hb hr hlk d_PS_byteAt_60 (bytF_jh n2 (by omega) c_36).symm
set_option maxHeartbeats 4000000 in
set_option maxRecDepth 100000 in
/-- next(most) -/
theorem c_PS_next (l : Launch) (D : va_G) (x rt st ba ta sa xa oa : Nat) (cB cI cS cX cO : ClassId) (tn on : Nat) (g fr to : Int32) (nx R o c : Nat) (T : Nat → Int32) (B : Nat → Nat) (S : Nat → Int32) (dr de : Nat) (bf tf sf xf uf : Nat → Int32) (sz : Nat) (most : Int32) (h : StR R o c T B S bf tf sf) (hnx : nx ≤ c) : Met l y_PS_next (wc y_PS_next b_PS_next 3 (some .int)) ({ frames := 4, cells := 0, slots := 0, locals := 90 }) (va_Pc [.ref x, .int most] (rwB D (vX x rt st ba ta sa xa oa cB cI cS cX cO tn on g fr to nx R o (c - o) (B o % R) (B c - B o) dr de bf tf sf xf uf) (yX cB cI cS cX cO) sz)) (QI (fun (r : Int32) (u : Int32 × Nat × Nat × (Nat → Int32)) => NxS o c T B S most g fr to nx on uf r u.1 u.2.1 u.2.2.1 u.2.2.2) D (fun u => (yX cB cI cS cX cO)) (fun u => (vX x rt st ba ta sa xa oa cB cI cS cX cO tn (u.2.2.1) (u.1) fr to (u.2.1) R o (c - o) (B o % R) (B c - B o) dr de bf tf sf xf (u.2.2.2))) (va_A (vX x rt st ba ta sa xa oa cB cI cS cX cO tn on g fr to nx R o (c - o) (B o % R) (B c - B o) dr de bf tf sf xf uf) sz)) 0 0 (va_A (vX x rt st ba ta sa xa oa cB cI cS cX cO tn on g fr to nx R o (c - o) (B o % R) (B c - B o) dr de bf tf sf xf uf) sz) := by
  refine rw_startI (by decide) (Nat.le_of_ble_eq_true rfl) ?_
  intro p e s m below meth cd A hx hb hr hT hown hlk hml hnm hA hP hK hD hS ls hl
  have hown : s.vm.findClass R_PS = some m.cls := hown
  have hP : va_P D classes [(x, .inr (0, [.ref st, .ref rt, .ref xa, .ref oa, .int (nI tn), .int (nI on)])), (rt, .inr (2, [.ref st, .int g, .int fr, .int to, .int (nI nx)])), (st, .inr (1, [.ref ba, .ref ta, .ref sa, .int (nI o), .int (nI (c - o)), .int (nI (B o % R)), .int (nI (B c - B o)), .int (nI dr), .int (nI de)])), (ba, .inl (cB, R, .inl bf)), (ta, .inl (cI, R, .inl tf)), (sa, .inl (cS, R, .inl sf)), (xa, .inl (cX, 512, .inl xf)), (oa, .inl (cO, 512, .inl uf))] s.heap := hP
  have hD : va_D A [(x, .inr (0, [.ref st, .ref rt, .ref xa, .ref oa, .int (nI tn), .int (nI on)])), (rt, .inr (2, [.ref st, .int g, .int fr, .int to, .int (nI nx)])), (st, .inr (1, [.ref ba, .ref ta, .ref sa, .int (nI o), .int (nI (c - o)), .int (nI (B o % R)), .int (nI (B c - B o)), .int (nI dr), .int (nI de)])), (ba, .inl (cB, R, .inl bf)), (ta, .inl (cI, R, .inl tf)), (sa, .inl (cS, R, .inl sf)), (xa, .inl (cX, 512, .inl xf)), (oa, .inl (cO, 512, .inl uf))] := hD
  have hK : va_K D classes [(cB, .byte), (cI, .int), (cS, .short), (cX, .byte), (cO, .byte)] s := hK
  have hl : lv_has ls 3 [(0, .ref x), (1, .int most)] := hl
  obtain ⟨hs, hgT, hgZ, hgS, h8⟩ := id h
  obtain ⟨a1, a2, a3, a4, a5, a6, a7⟩ := id hs
  have hR0 : 0 < R := by omega
  have hR1 : R < 2 ^ 31 := by omega
  have hm := hs_mono hs
  have hoc := hm c o a3 (Nat.le_refl c)
  refine lv_aload_n hx hb d_PS_next_0 rfl (lv_at hl 0 rfl) ?_
  refine gf_PS_39 hx hb hT hown hK hP 0 rfl rfl d_PS_next_1 ?_
  refine gf_PS_58 hx hb hT hown hK hP 1 rfl rfl d_PS_next_4 ?_
  refine lv_if_eq (tgt := 20) hx hb d_PS_next_7 (by decide) (fun c_7 => ?_) (fun c_7 => ?_)
  · refine lv_iconst (v := (-1)) hx hb d_PS_next_20 (by decide +kernel) ?_
    refine lv_istore_n (lv' := [(2, .int (-1)), (0, .ref x), (1, .int most)]) hx hb d_PS_next_21 rfl hl (by decide) rfl (fun ls hl => ?_)
    refine lv_iload_n hx hb d_PS_next_22 rfl (lv_at hl 0 rfl) ?_
    refine lv_iconst (v := (-1)) hx hb d_PS_next_23 (by decide +kernel) ?_
    refine lv_icmp_ne (tgt := 29) hx hb d_PS_next_24 (by decide) (fun c_24 => ?_) (fun c_24 => ?_)
    · exact absurd rfl c_24
    · refine lv_iconst (v := (-1)) hx hb d_PS_next_27 (by decide +kernel) ?_
      exact rw_iret (g, nx, on, uf) hx hb hr hlk hK hP hD hS d_PS_next_28 (Or.inl ⟨c_7, rfl, c_7, rfl, rfl, fun j _ => rfl⟩)
  · refine lv_aload_n hx hb d_PS_next_10 rfl (lv_at hl 0 rfl) ?_
    refine gf_PS_39 hx hb hT hown hK hP 0 rfl rfl d_PS_next_11 ?_
    refine rw_calli (ci := 2) (As := []) (rest := []) (wr := [(x, .inr (0, [.ref st, .ref rt, .ref xa, .ref oa, .int (nI tn), .int (nI on)])), (xa, .inl (cX, 512, .inl xf)), (oa, .inl (cO, 512, .inl uf))]) hx hb hml hT hown (c_Rt_find l D rt st ba ta sa cB cI cS g fr to nx R o c T B S dr de bf tf sf s.heap.size h hnx) (cs_PS_66 hT ⟨(Nat.le_of_ble_eq_true rfl), (Nat.le_of_ble_eq_true rfl)⟩) (hK.sub [0, 1, 2] rfl) hP hD hS hA [1, 2, 3, 4, 5] [0, 6, 7] rfl rfl (by decide) (by decide) (by decide) 0 rfl rfl rfl hl.1 rfl (Nat.le_of_ble_eq_true rfl) d_PS_next_14 ⟨(Nat.le_of_ble_eq_true rfl), (Nat.le_of_ble_eq_true rfl)⟩ (fun r_14 u H locs hw hKn hP hD hS => ?_)
    obtain ⟨g2, n2⟩ := u
    obtain ⟨hf, hw⟩ := hw
    dsimp only at hf hw
    have hP : va_P D classes [(x, .inr (0, [.ref st, .ref rt, .ref xa, .ref oa, .int (nI tn), .int (nI on)])), (rt, .inr (2, [.ref st, .int g2, .int fr, .int to, .int (nI n2)])), (st, .inr (1, [.ref ba, .ref ta, .ref sa, .int (nI o), .int (nI (c - o)), .int (nI (B o % R)), .int (nI (B c - B o)), .int (nI dr), .int (nI de)])), (ba, .inl (cB, R, .inl bf)), (ta, .inl (cI, R, .inl tf)), (sa, .inl (cS, R, .inl sf)), (xa, .inl (cX, 512, .inl xf)), (oa, .inl (cO, 512, .inl uf))] H := hP.sub [0, 3, 4, 5, 6, 7, 1, 2] rfl
    have hD : va_D A [(x, .inr (0, [.ref st, .ref rt, .ref xa, .ref oa, .int (nI tn), .int (nI on)])), (rt, .inr (2, [.ref st, .int g2, .int fr, .int to, .int (nI n2)])), (st, .inr (1, [.ref ba, .ref ta, .ref sa, .int (nI o), .int (nI (c - o)), .int (nI (B o % R)), .int (nI (B c - B o)), .int (nI dr), .int (nI de)])), (ba, .inl (cB, R, .inl bf)), (ta, .inl (cI, R, .inl tf)), (sa, .inl (cS, R, .inl sf)), (xa, .inl (cX, 512, .inl xf)), (oa, .inl (cO, 512, .inl uf))] := hD.sub [0, 3, 4, 5, 6, 7, 1, 2] (by decide) rfl
    rcases hw with ⟨w1, w2, w3⟩ | ⟨w1, w2, w3⟩
    · subst w2
      rw [w3] at hP hD
      have o2 : o ≤ n2 := by have := hf.1; omega
      have b0 := a7 n2 w1
      refine lv_goto (tgt := 21) hx hb d_PS_next_17 (by decide) ?_
      refine lv_istore_n (lv' := [(2, .int (nI n2)), (0, .ref x), (1, .int most)]) hx hb d_PS_next_21 rfl hl (by decide) rfl (fun ls hl => ?_)
      refine lv_iload_n hx hb d_PS_next_22 rfl (lv_at hl 0 rfl) ?_
      refine lv_iconst (v := (-1)) hx hb d_PS_next_23 (by decide +kernel) ?_
      refine lv_icmp_ne (tgt := 29) hx hb d_PS_next_24 (by decide) (fun c_24 => ?_) (fun c_24 => ?_)
      · refine lv_aload_n hx hb d_PS_next_29 rfl (lv_at hl 1 rfl) ?_
        refine gf_PS_30 hx hb hT hown hK hP 0 rfl rfl d_PS_next_30 ?_
        refine lv_iload_n hx hb d_PS_next_33 rfl (lv_at hl 0 rfl) ?_
        refine ro_calli (ci := 1) (As := [.int (nI n2)]) (rest := []) hx hb hml hT hown (c_St_size l D st ba ta sa cB cI cS R o (c - o) (B o % R) (B c - B o) dr de bf tf sf n2 (by omega) hR0 hR1) (cs_PS_70 hT ⟨(Nat.le_of_ble_eq_true rfl), (Nat.le_of_ble_eq_true rfl)⟩) (hK.sub [0, 1, 2] rfl) (hP.sub [2, 3, 4, 5] rfl) 0 rfl rfl rfl hl.1 rfl (Nat.le_of_ble_eq_true rfl) d_PS_next_34 ⟨(Nat.le_of_ble_eq_true rfl), (Nat.le_of_ble_eq_true rfl)⟩ (fun r_34 er_34 => ?_)
        subst er_34
        refine nv_asI (y := B (n2 + 1) - B n2) (hgZ n2 o2 w1) ?_
        refine lv_iload_n hx hb d_PS_next_37 rfl (lv_at hl 2 rfl) ?_
        refine lv_icmp_le (tgt := 44) hx hb d_PS_next_38 (by decide) (fun c_38 => ?_) (fun c_38 => ?_)
        · refine lv_aload_n hx hb d_PS_next_44 rfl (lv_at hl 1 rfl) ?_
          refine gf_PS_30 hx hb hT hown hK hP 0 rfl rfl d_PS_next_45 ?_
          refine lv_iload_n hx hb d_PS_next_48 rfl (lv_at hl 0 rfl) ?_
          refine lv_aload_n hx hb d_PS_next_49 rfl (lv_at hl 1 rfl) ?_
          refine gf_PS_13 hx hb hT hown hK hP 0 rfl rfl d_PS_next_50 ?_
          refine rw_callv (ci := 1) (As := [.int (nI n2), .ref oa]) (rest := []) (wr := [(x, .inr (0, [.ref st, .ref rt, .ref xa, .ref oa, .int (nI tn), .int (nI on)])), (rt, .inr (2, [.ref st, .int g, .int fr, .int to, .int (nI n2)])), (xa, .inl (cX, 512, .inl xf))]) hx hb hml hT hown (c_St_copy l D st ba ta sa oa cB cI cS cO R o c T B S dr de bf tf sf uf H.size n2 h o2 w1) (cs_PS_72 hT ⟨(Nat.le_of_ble_eq_true rfl), (Nat.le_of_ble_eq_true rfl)⟩) (hK.sub [0, 1, 2, 4] rfl) hP hD hS hA [2, 3, 4, 5, 7] [0, 1, 6] rfl rfl (by decide) (by decide) (by decide) 0 rfl rfl rfl hl.1 rfl (Nat.le_of_ble_eq_true rfl) d_PS_next_53 ⟨(Nat.le_of_ble_eq_true rfl), (Nat.le_of_ble_eq_true rfl)⟩ (fun uf2 H locs hw hKn hP hD hS => ?_)
          have hw : ∀ j, j < B (n2 + 1) - B n2 → uf2 j = S (B n2 + j) := hw
          have hP : va_P D classes [(x, .inr (0, [.ref st, .ref rt, .ref xa, .ref oa, .int (nI tn), .int (nI on)])), (rt, .inr (2, [.ref st, .int g, .int fr, .int to, .int (nI n2)])), (st, .inr (1, [.ref ba, .ref ta, .ref sa, .int (nI o), .int (nI (c - o)), .int (nI (B o % R)), .int (nI (B c - B o)), .int (nI dr), .int (nI de)])), (ba, .inl (cB, R, .inl bf)), (ta, .inl (cI, R, .inl tf)), (sa, .inl (cS, R, .inl sf)), (xa, .inl (cX, 512, .inl xf)), (oa, .inl (cO, 512, .inl uf2))] H := hP.sub [0, 1, 3, 4, 5, 6, 2, 7] rfl
          have hD : va_D A [(x, .inr (0, [.ref st, .ref rt, .ref xa, .ref oa, .int (nI tn), .int (nI on)])), (rt, .inr (2, [.ref st, .int g, .int fr, .int to, .int (nI n2)])), (st, .inr (1, [.ref ba, .ref ta, .ref sa, .int (nI o), .int (nI (c - o)), .int (nI (B o % R)), .int (nI (B c - B o)), .int (nI dr), .int (nI de)])), (ba, .inl (cB, R, .inl bf)), (ta, .inl (cI, R, .inl tf)), (sa, .inl (cS, R, .inl sf)), (xa, .inl (cX, 512, .inl xf)), (oa, .inl (cO, 512, .inl uf2))] := hD.sub [0, 1, 3, 4, 5, 6, 2, 7] (by decide) rfl
          refine lv_aload_n hx hb d_PS_next_56 rfl (lv_at hl 1 rfl) ?_
          refine lv_aload_n hx hb d_PS_next_57 rfl (lv_at hl 1 rfl) ?_
          refine gf_PS_30 hx hb hT hown hK hP 0 rfl rfl d_PS_next_58 ?_
          refine lv_iload_n hx hb d_PS_next_61 rfl (lv_at hl 0 rfl) ?_
          refine ro_calli (ci := 1) (As := [.int (nI n2)]) (rest := [.ref x]) hx hb hml hT hown (c_St_size l D st ba ta sa cB cI cS R o (c - o) (B o % R) (B c - B o) dr de bf tf sf n2 (by omega) hR0 hR1) (cs_PS_70 hT ⟨(Nat.le_of_ble_eq_true rfl), (Nat.le_of_ble_eq_true rfl)⟩) (hK.sub [0, 1, 2] rfl) (hP.sub [2, 3, 4, 5] rfl) 0 rfl rfl rfl hl.1 rfl (Nat.le_of_ble_eq_true rfl) d_PS_next_62 ⟨(Nat.le_of_ble_eq_true rfl), (Nat.le_of_ble_eq_true rfl)⟩ (fun r_62 er_62 => ?_)
          subst er_62
          refine nv_asI (y := B (n2 + 1) - B n2) (hgZ n2 o2 w1) ?_
          refine pf_PS_76 hx hb hT hown hK hP hD hS 0 rfl (Nat.le_of_ble_eq_true rfl) d_PS_next_65 (fun H locs hP hD hS => ?_)
          have hP : va_P D classes [(x, .inr (0, [.ref st, .ref rt, .ref xa, .ref oa, .int (nI tn), .int (nI (B (n2 + 1) - B n2))])), (rt, .inr (2, [.ref st, .int g, .int fr, .int to, .int (nI n2)])), (st, .inr (1, [.ref ba, .ref ta, .ref sa, .int (nI o), .int (nI (c - o)), .int (nI (B o % R)), .int (nI (B c - B o)), .int (nI dr), .int (nI de)])), (ba, .inl (cB, R, .inl bf)), (ta, .inl (cI, R, .inl tf)), (sa, .inl (cS, R, .inl sf)), (xa, .inl (cX, 512, .inl xf)), (oa, .inl (cO, 512, .inl uf2))] H := hP
          have hD : va_D A [(x, .inr (0, [.ref st, .ref rt, .ref xa, .ref oa, .int (nI tn), .int (nI (B (n2 + 1) - B n2))])), (rt, .inr (2, [.ref st, .int g, .int fr, .int to, .int (nI n2)])), (st, .inr (1, [.ref ba, .ref ta, .ref sa, .int (nI o), .int (nI (c - o)), .int (nI (B o % R)), .int (nI (B c - B o)), .int (nI dr), .int (nI de)])), (ba, .inl (cB, R, .inl bf)), (ta, .inl (cI, R, .inl tf)), (sa, .inl (cS, R, .inl sf)), (xa, .inl (cX, 512, .inl xf)), (oa, .inl (cO, 512, .inl uf2))] := hD
          refine lv_aload_n hx hb d_PS_next_68 rfl (lv_at hl 1 rfl) ?_
          refine gf_PS_39 hx hb hT hown hK hP 0 rfl rfl d_PS_next_69 ?_
          refine lv_iload_n hx hb d_PS_next_72 rfl (lv_at hl 0 rfl) ?_
          refine lv_iconst (v := nI 1) hx hb d_PS_next_73 (by decide +kernel) ?_
          refine nv_iadd hx hb d_PS_next_74 ?_
          refine pf_PS_79 hx hb hT hown hK hP hD hS 1 rfl (Nat.le_of_ble_eq_true rfl) d_PS_next_75 (fun H locs hP hD hS => ?_)
          have hP : va_P D classes [(x, .inr (0, [.ref st, .ref rt, .ref xa, .ref oa, .int (nI tn), .int (nI (B (n2 + 1) - B n2))])), (rt, .inr (2, [.ref st, .int g, .int fr, .int to, .int (nI (n2 + 1))])), (st, .inr (1, [.ref ba, .ref ta, .ref sa, .int (nI o), .int (nI (c - o)), .int (nI (B o % R)), .int (nI (B c - B o)), .int (nI dr), .int (nI de)])), (ba, .inl (cB, R, .inl bf)), (ta, .inl (cI, R, .inl tf)), (sa, .inl (cS, R, .inl sf)), (xa, .inl (cX, 512, .inl xf)), (oa, .inl (cO, 512, .inl uf2))] H := hP
          have hD : va_D A [(x, .inr (0, [.ref st, .ref rt, .ref xa, .ref oa, .int (nI tn), .int (nI (B (n2 + 1) - B n2))])), (rt, .inr (2, [.ref st, .int g, .int fr, .int to, .int (nI (n2 + 1))])), (st, .inr (1, [.ref ba, .ref ta, .ref sa, .int (nI o), .int (nI (c - o)), .int (nI (B o % R)), .int (nI (B c - B o)), .int (nI dr), .int (nI de)])), (ba, .inl (cB, R, .inl bf)), (ta, .inl (cI, R, .inl tf)), (sa, .inl (cS, R, .inl sf)), (xa, .inl (cX, 512, .inl xf)), (oa, .inl (cO, 512, .inl uf2))] := hD
          refine lv_aload_n hx hb d_PS_next_78 rfl (lv_at hl 1 rfl) ?_
          refine gf_PS_76 hx hb hT hown hK hP 0 rfl rfl d_PS_next_79 ?_
          exact rw_iret (g, n2 + 1, B (n2 + 1) - B n2, uf2) hx hb hr hlk hK hP hD hS d_PS_next_82 (Or.inr ⟨c_7, n2, hf, Or.inr (Or.inr ⟨w1, Int32.not_lt.mpr c_38, rfl, rfl, rfl, rfl, hw⟩)⟩)
        · refine lv_bipush (v := (-2)) hx hb d_PS_next_41 (by decide +kernel) ?_
          exact rw_iret (g, n2, on, uf) hx hb hr hlk hK hP hD hS d_PS_next_43 (Or.inr ⟨c_7, n2, hf, Or.inr (Or.inl ⟨w1, Int32.not_le.mp c_38, rfl, rfl, rfl, rfl, fun j _ => rfl⟩)⟩)
      · exact absurd c_24 (nI_m1 (by omega))
    · subst w2
      refine lv_goto (tgt := 21) hx hb d_PS_next_17 (by decide) ?_
      refine lv_istore_n (lv' := [(2, .int (-1)), (0, .ref x), (1, .int most)]) hx hb d_PS_next_21 rfl hl (by decide) rfl (fun ls hl => ?_)
      refine lv_iload_n hx hb d_PS_next_22 rfl (lv_at hl 0 rfl) ?_
      refine lv_iconst (v := (-1)) hx hb d_PS_next_23 (by decide +kernel) ?_
      refine lv_icmp_ne (tgt := 29) hx hb d_PS_next_24 (by decide) (fun c_24 => ?_) (fun c_24 => ?_)
      · exact absurd rfl c_24
      · refine lv_iconst (v := (-1)) hx hb d_PS_next_27 (by decide +kernel) ?_
        exact rw_iret (g2, n2, on, uf) hx hb hr hlk hK hP hD hS d_PS_next_28 (Or.inr ⟨c_7, n2, hf, Or.inl ⟨w1, rfl, w3.trans nI_0, w1, rfl, fun j _ => rfl⟩⟩)
set_option maxHeartbeats 4000000 in
set_option maxRecDepth 100000 in
/-- PacketStore(v) -/
theorem c_PS_init (l : Launch) (D : va_G) (x sz : Nat) (v : Int32) : Met l y_PS_init (wc y_PS_init b_PS_init 2 none) ({ frames := 2, cells := 7, slots := 50190, locals := 40 }) (va_Pc [.ref x, .int v] (rwB D [(x, .inr (0, [.null, .null, .null, .null, .int (nI 0), .int (nI 0)]))] ([] : List (ClassId × FieldType)) sz)) (QV (fun (u : (Nat × Nat × Nat × Nat × Nat × Nat × Nat) × (ClassId × ClassId × ClassId × ClassId × ClassId)) => True) D (fun u => (yX u.2.1 u.2.2.1 u.2.2.2.1 u.2.2.2.2.1 u.2.2.2.2.2)) (fun u => (vX x u.1.1 u.1.2.1 u.1.2.2.1 u.1.2.2.2.1 u.1.2.2.2.2.1 u.1.2.2.2.2.2.1 u.1.2.2.2.2.2.2 u.2.1 u.2.2.1 u.2.2.2.1 u.2.2.2.2.1 u.2.2.2.2.2 0 0 (nI 0) (nI 0) (nI 0) 0 (rmF v) 0 0 0 0 0 0 (fun _ => 0) (fun _ => 0) (fun _ => 0) (fun _ => 0) (fun _ => 0))) (va_A [(x, .inr (0, [.null, .null, .null, .null, .int (nI 0), .int (nI 0)]))] sz)) 7 50190 (va_A [(x, .inr (0, [.null, .null, .null, .null, .int (nI 0), .int (nI 0)]))] sz) := by
  refine rw_startV (by decide) (Nat.le_of_ble_eq_true rfl) ?_
  intro p e s m below meth cd A hx hb hr hT hown hlk hml hnm hA hP hK hD hS ls hl
  have hown : s.vm.findClass R_PS = some m.cls := hown
  have hP : va_P D classes [(x, .inr (0, [.null, .null, .null, .null, .int (nI 0), .int (nI 0)]))] s.heap := hP
  have hD : va_D A [(x, .inr (0, [.null, .null, .null, .null, .int (nI 0), .int (nI 0)]))] := hD
  have hK : va_K D classes [] s := hK
  have hl : lv_has ls 2 [(0, .ref x), (1, .int v)] := hl
  have hv := rmF_b v
  refine lv_aload_n hx hb d_PS_init_0 rfl (lv_at hl 0 rfl) ?_
  refine W.objInit hx hb hown (hT _ tb_1_12) (hT _ tb_1_13) (hT _ tb_1_14) rfl (by rw [hml]; exact hl.1) rfl d_PS_init_1 (Nat.le_of_ble_eq_true rfl) (Nat.le_of_ble_eq_true rfl) ?_
  refine W.eq (g2 := F0 m 4 ls []) rfl ?_
  refine lv_aload_n hx hb d_PS_init_4 rfl (lv_at hl 0 rfl) ?_
  refine lv_sipush (v := nI 512) hx hb d_PS_init_5 (by decide +kernel) ?_
  refine va_newa (atype := .byte) (N' := 512) (a0 := (512, .inl (fun _ => 0))) hx hb (hT _ tb_1_62) rfl hK hP hD hS hA (fun _ => rfl) (nI_pos (by omega)) (nI_clamp (by omega)) (by show _ * 1 ≤ _; omega) (Nat.le_of_ble_eq_true rfl) (Nat.le_of_ble_eq_true rfl) d_PS_init_8 (fun xa cX H hK hP hD hS => ?_)
  have hP : va_P D classes [(x, .inr (0, [.null, .null, .null, .null, .int (nI 0), .int (nI 0)])), (xa, .inl (cX, 512, .inl (fun _ => 0)))] H := hP
  have hD : va_D A [(x, .inr (0, [.null, .null, .null, .null, .int (nI 0), .int (nI 0)])), (xa, .inl (cX, 512, .inl (fun _ => 0)))] := hD
  have hK : va_K D classes [(cX, .byte)] s := hK
  refine pf_PS_9 hx hb hT hown hK hP hD hS 0 rfl hnm (Nat.le_of_ble_eq_true rfl) d_PS_init_10 (fun H locs hP hD hS => ?_)
  have hP : va_P D classes [(x, .inr (0, [.null, .null, .ref xa, .null, .int (nI 0), .int (nI 0)])), (xa, .inl (cX, 512, .inl (fun _ => 0)))] H := hP
  have hD : va_D A [(x, .inr (0, [.null, .null, .ref xa, .null, .int (nI 0), .int (nI 0)])), (xa, .inl (cX, 512, .inl (fun _ => 0)))] := hD
  refine lv_aload_n hx hb d_PS_init_13 rfl (lv_at hl 0 rfl) ?_
  refine lv_sipush (v := nI 512) hx hb d_PS_init_14 (by decide +kernel) ?_
  refine va_newa (atype := .byte) (N' := 512) (a0 := (512, .inl (fun _ => 0))) hx hb (hT _ tb_1_62) rfl hK hP hD hS hA (fun _ => rfl) (nI_pos (by omega)) (nI_clamp (by omega)) (by show _ * 1 ≤ _; omega) (Nat.le_of_ble_eq_true rfl) (Nat.le_of_ble_eq_true rfl) d_PS_init_17 (fun oa cO H hK hP hD hS => ?_)
  have hP : va_P D classes [(x, .inr (0, [.null, .null, .ref xa, .null, .int (nI 0), .int (nI 0)])), (xa, .inl (cX, 512, .inl (fun _ => 0))), (oa, .inl (cO, 512, .inl (fun _ => 0)))] H := hP
  have hD : va_D A [(x, .inr (0, [.null, .null, .ref xa, .null, .int (nI 0), .int (nI 0)])), (xa, .inl (cX, 512, .inl (fun _ => 0))), (oa, .inl (cO, 512, .inl (fun _ => 0)))] := hD
  have hK : va_K D classes [(cX, .byte), (cO, .byte)] s := hK
  refine pf_PS_13 hx hb hT hown hK hP hD hS 0 rfl hnm (Nat.le_of_ble_eq_true rfl) d_PS_init_19 (fun H locs hP hD hS => ?_)
  have hP : va_P D classes [(x, .inr (0, [.null, .null, .ref xa, .ref oa, .int (nI 0), .int (nI 0)])), (xa, .inl (cX, 512, .inl (fun _ => 0))), (oa, .inl (cO, 512, .inl (fun _ => 0)))] H := hP
  have hD : va_D A [(x, .inr (0, [.null, .null, .ref xa, .ref oa, .int (nI 0), .int (nI 0)])), (xa, .inl (cX, 512, .inl (fun _ => 0))), (oa, .inl (cO, 512, .inl (fun _ => 0)))] := hD
  refine lv_aload_n hx hb d_PS_init_22 rfl (lv_at hl 0 rfl) ?_
  refine va_new (ci := 1) (fs := [.null, .null, .null, .int (nI 0), .int (nI 0), .int (nI 0), .int (nI 0), .int (nI 0), .int (nI 0)]) (C := R_St) (T := F_St) (N := 9) hx hb hT i_St t_St t_St_ok hown (hT _ tb_1_15) (hT _ tb_1_16) (hT _ tb_1_2) hK hP hD hS hA rfl (fun j hj => by rcases (show j = 0 ∨ j = 1 ∨ j = 2 ∨ j = 3 ∨ j = 4 ∨ j = 5 ∨ j = 6 ∨ j = 7 ∨ j = 8 by omega) with rfl | rfl | rfl | rfl | rfl | rfl | rfl | rfl | rfl <;> rfl) (Nat.le_of_ble_eq_true rfl) (Nat.le_of_ble_eq_true rfl) d_PS_init_23 (fun st H hP hD hS => ?_)
  have hP : va_P D classes [(x, .inr (0, [.null, .null, .ref xa, .ref oa, .int (nI 0), .int (nI 0)])), (xa, .inl (cX, 512, .inl (fun _ => 0))), (oa, .inl (cO, 512, .inl (fun _ => 0))), (st, .inr (1, [.null, .null, .null, .int (nI 0), .int (nI 0), .int (nI 0), .int (nI 0), .int (nI 0), .int (nI 0)]))] H := hP
  have hD : va_D A [(x, .inr (0, [.null, .null, .ref xa, .ref oa, .int (nI 0), .int (nI 0)])), (xa, .inl (cX, 512, .inl (fun _ => 0))), (oa, .inl (cO, 512, .inl (fun _ => 0))), (st, .inr (1, [.null, .null, .null, .int (nI 0), .int (nI 0), .int (nI 0), .int (nI 0), .int (nI 0), .int (nI 0)]))] := hD
  refine lv_dup hx hb d_PS_init_26 rfl ?_
  refine lv_sipush (v := nI 16384) hx hb d_PS_init_27 (by decide +kernel) ?_
  refine lv_bipush (v := nI 64) hx hb d_PS_init_30 (by decide +kernel) ?_
  refine lv_iload_n hx hb d_PS_init_32 rfl (lv_at hl 1 rfl) ?_
  refine va_mmax hx hb (hml.trans hl.1.symm) hown (hT _ tb_1_17) (hT _ tb_1_18) (hT _ tb_1_3) (hT _ tb_1_19) (Nat.le_of_ble_eq_true rfl) (Nat.le_of_ble_eq_true rfl) (Nat.le_of_ble_eq_true rfl) (Nat.le_of_ble_eq_true rfl) d_PS_init_33 ?_
  refine va_mmin hx hb (hml.trans hl.1.symm) hown (hT _ tb_1_20) (hT _ tb_1_21) (hT _ tb_1_3) (hT _ tb_1_22) (Nat.le_of_ble_eq_true rfl) (Nat.le_of_ble_eq_true rfl) (Nat.le_of_ble_eq_true rfl) (Nat.le_of_ble_eq_true rfl) d_PS_init_36 ?_
  refine nv_asI (y := rmF v) (rmF_mm v) ?_
  refine rw_callvI (As := [.int (nI (rmF v))]) (rest := [.ref st, .ref x]) (wr := [(x, .inr (0, [.null, .null, .ref xa, .ref oa, .int (nI 0), .int (nI 0)])), (xa, .inl (cX, 512, .inl (fun _ => 0))), (oa, .inl (cO, 512, .inl (fun _ => 0)))]) hx hb hml hT hown (c_St_init l D st (rmF v) H.size hv.1 hv.2) (cs_PS_27 hT ⟨(Nat.le_of_ble_eq_true rfl), (Nat.le_of_ble_eq_true rfl)⟩) (hK.sub [] rfl) hP hD hS hA [3] [0, 1, 2] rfl rfl (by decide) (by decide) (by decide) rfl hl.1 rfl (Nat.le_of_ble_eq_true rfl) d_PS_init_39 ⟨(Nat.le_of_ble_eq_true rfl), by show 0 + 512 + 512 + 9 + 3 * rmF v ≤ 50190; omega⟩ (fun u H locs hw hKn hP hD hS => ?_)
  obtain ⟨⟨ba, ta, sa⟩, cB, cI, cS⟩ := u
  have hP : va_P D classes [(x, .inr (0, [.null, .null, .ref xa, .ref oa, .int (nI 0), .int (nI 0)])), (xa, .inl (cX, 512, .inl (fun _ => 0))), (oa, .inl (cO, 512, .inl (fun _ => 0))), (st, .inr (1, [.ref ba, .ref ta, .ref sa, .int (nI 0), .int (nI 0), .int (nI 0), .int (nI 0), .int (nI 0), .int (nI 0)])), (ba, .inl (cB, (rmF v), .inl (fun _ => 0))), (ta, .inl (cI, (rmF v), .inl (fun _ => 0))), (sa, .inl (cS, (rmF v), .inl (fun _ => 0)))] H := hP
  have hD : va_D A [(x, .inr (0, [.null, .null, .ref xa, .ref oa, .int (nI 0), .int (nI 0)])), (xa, .inl (cX, 512, .inl (fun _ => 0))), (oa, .inl (cO, 512, .inl (fun _ => 0))), (st, .inr (1, [.ref ba, .ref ta, .ref sa, .int (nI 0), .int (nI 0), .int (nI 0), .int (nI 0), .int (nI 0), .int (nI 0)])), (ba, .inl (cB, (rmF v), .inl (fun _ => 0))), (ta, .inl (cI, (rmF v), .inl (fun _ => 0))), (sa, .inl (cS, (rmF v), .inl (fun _ => 0)))] := hD
  have hK : va_K D classes [(cX, .byte), (cO, .byte), (cB, .byte), (cI, .int), (cS, .short)] s := hK.app hKn
  refine W.widen (k := 6) (n := 50185) (by omega) (by omega) ?_
  refine pf_PS_30 hx hb hT hown hK hP hD hS 0 rfl hnm (Nat.le_of_ble_eq_true rfl) d_PS_init_42 (fun H locs hP hD hS => ?_)
  have hP : va_P D classes [(x, .inr (0, [.ref st, .null, .ref xa, .ref oa, .int (nI 0), .int (nI 0)])), (xa, .inl (cX, 512, .inl (fun _ => 0))), (oa, .inl (cO, 512, .inl (fun _ => 0))), (st, .inr (1, [.ref ba, .ref ta, .ref sa, .int (nI 0), .int (nI 0), .int (nI 0), .int (nI 0), .int (nI 0), .int (nI 0)])), (ba, .inl (cB, (rmF v), .inl (fun _ => 0))), (ta, .inl (cI, (rmF v), .inl (fun _ => 0))), (sa, .inl (cS, (rmF v), .inl (fun _ => 0)))] H := hP
  have hD : va_D A [(x, .inr (0, [.ref st, .null, .ref xa, .ref oa, .int (nI 0), .int (nI 0)])), (xa, .inl (cX, 512, .inl (fun _ => 0))), (oa, .inl (cO, 512, .inl (fun _ => 0))), (st, .inr (1, [.ref ba, .ref ta, .ref sa, .int (nI 0), .int (nI 0), .int (nI 0), .int (nI 0), .int (nI 0), .int (nI 0)])), (ba, .inl (cB, (rmF v), .inl (fun _ => 0))), (ta, .inl (cI, (rmF v), .inl (fun _ => 0))), (sa, .inl (cS, (rmF v), .inl (fun _ => 0)))] := hD
  refine lv_aload_n hx hb d_PS_init_45 rfl (lv_at hl 0 rfl) ?_
  refine va_new (ci := 2) (fs := [.null, .int (nI 0), .int (nI 0), .int (nI 0), .int (nI 0)]) (C := R_Rt) (T := F_Rt) (N := 5) hx hb hT i_Rt t_Rt t_Rt_ok hown (hT _ tb_1_65) (hT _ tb_1_66) (hT _ tb_1_4) hK hP hD hS hA rfl (fun j hj => by rcases (show j = 0 ∨ j = 1 ∨ j = 2 ∨ j = 3 ∨ j = 4 by omega) with rfl | rfl | rfl | rfl | rfl <;> rfl) (Nat.le_of_ble_eq_true rfl) (Nat.le_of_ble_eq_true rfl) d_PS_init_46 (fun rt H hP hD hS => ?_)
  have hP : va_P D classes [(x, .inr (0, [.ref st, .null, .ref xa, .ref oa, .int (nI 0), .int (nI 0)])), (xa, .inl (cX, 512, .inl (fun _ => 0))), (oa, .inl (cO, 512, .inl (fun _ => 0))), (st, .inr (1, [.ref ba, .ref ta, .ref sa, .int (nI 0), .int (nI 0), .int (nI 0), .int (nI 0), .int (nI 0), .int (nI 0)])), (ba, .inl (cB, (rmF v), .inl (fun _ => 0))), (ta, .inl (cI, (rmF v), .inl (fun _ => 0))), (sa, .inl (cS, (rmF v), .inl (fun _ => 0))), (rt, .inr (2, [.null, .int (nI 0), .int (nI 0), .int (nI 0), .int (nI 0)]))] H := hP
  have hD : va_D A [(x, .inr (0, [.ref st, .null, .ref xa, .ref oa, .int (nI 0), .int (nI 0)])), (xa, .inl (cX, 512, .inl (fun _ => 0))), (oa, .inl (cO, 512, .inl (fun _ => 0))), (st, .inr (1, [.ref ba, .ref ta, .ref sa, .int (nI 0), .int (nI 0), .int (nI 0), .int (nI 0), .int (nI 0), .int (nI 0)])), (ba, .inl (cB, (rmF v), .inl (fun _ => 0))), (ta, .inl (cI, (rmF v), .inl (fun _ => 0))), (sa, .inl (cS, (rmF v), .inl (fun _ => 0))), (rt, .inr (2, [.null, .int (nI 0), .int (nI 0), .int (nI 0), .int (nI 0)]))] := hD
  refine lv_dup hx hb d_PS_init_49 rfl ?_
  refine lv_aload_n hx hb d_PS_init_50 rfl (lv_at hl 0 rfl) ?_
  refine gf_PS_30 hx hb hT hown hK hP 0 rfl rfl d_PS_init_51 ?_
  refine rw_callvI (As := [.ref st]) (rest := [.ref rt, .ref x]) (wr := [(x, .inr (0, [.ref st, .null, .ref xa, .ref oa, .int (nI 0), .int (nI 0)])), (xa, .inl (cX, 512, .inl (fun _ => 0))), (oa, .inl (cO, 512, .inl (fun _ => 0))), (st, .inr (1, [.ref ba, .ref ta, .ref sa, .int (nI 0), .int (nI 0), .int (nI 0), .int (nI 0), .int (nI 0), .int (nI 0)])), (ba, .inl (cB, (rmF v), .inl (fun _ => 0))), (ta, .inl (cI, (rmF v), .inl (fun _ => 0))), (sa, .inl (cS, (rmF v), .inl (fun _ => 0)))]) hx hb hml hT hown (c_Rt_init l D rt st H.size) (cs_PS_36 hT ⟨(Nat.le_of_ble_eq_true rfl), (Nat.le_of_ble_eq_true rfl)⟩) (hK.sub [] rfl) hP hD hS hA [7] [0, 1, 2, 3, 4, 5, 6] rfl rfl (by decide) (by decide) (by decide) rfl hl.1 rfl (Nat.le_of_ble_eq_true rfl) d_PS_init_54 ⟨(Nat.le_of_ble_eq_true rfl), (Nat.le_of_ble_eq_true rfl)⟩ (fun u H locs hw hKn hP hD hS => ?_)
  have hP : va_P D classes [(x, .inr (0, [.ref st, .null, .ref xa, .ref oa, .int (nI 0), .int (nI 0)])), (xa, .inl (cX, 512, .inl (fun _ => 0))), (oa, .inl (cO, 512, .inl (fun _ => 0))), (st, .inr (1, [.ref ba, .ref ta, .ref sa, .int (nI 0), .int (nI 0), .int (nI 0), .int (nI 0), .int (nI 0), .int (nI 0)])), (ba, .inl (cB, (rmF v), .inl (fun _ => 0))), (ta, .inl (cI, (rmF v), .inl (fun _ => 0))), (sa, .inl (cS, (rmF v), .inl (fun _ => 0))), (rt, .inr (2, [.ref st, .int (nI 0), .int (nI 0), .int (nI 0), .int (nI 0)]))] H := hP
  have hD : va_D A [(x, .inr (0, [.ref st, .null, .ref xa, .ref oa, .int (nI 0), .int (nI 0)])), (xa, .inl (cX, 512, .inl (fun _ => 0))), (oa, .inl (cO, 512, .inl (fun _ => 0))), (st, .inr (1, [.ref ba, .ref ta, .ref sa, .int (nI 0), .int (nI 0), .int (nI 0), .int (nI 0), .int (nI 0), .int (nI 0)])), (ba, .inl (cB, (rmF v), .inl (fun _ => 0))), (ta, .inl (cI, (rmF v), .inl (fun _ => 0))), (sa, .inl (cS, (rmF v), .inl (fun _ => 0))), (rt, .inr (2, [.ref st, .int (nI 0), .int (nI 0), .int (nI 0), .int (nI 0)]))] := hD
  refine W.widen (k := 7) (n := 50190) (Nat.le_of_ble_eq_true rfl) (Nat.le_of_ble_eq_true rfl) ?_
  refine pf_PS_39 hx hb hT hown hK hP hD hS 0 rfl hnm (Nat.le_of_ble_eq_true rfl) d_PS_init_57 (fun H locs hP hD hS => ?_)
  have hP : va_P D classes [(x, .inr (0, [.ref st, .ref rt, .ref xa, .ref oa, .int (nI 0), .int (nI 0)])), (xa, .inl (cX, 512, .inl (fun _ => 0))), (oa, .inl (cO, 512, .inl (fun _ => 0))), (st, .inr (1, [.ref ba, .ref ta, .ref sa, .int (nI 0), .int (nI 0), .int (nI 0), .int (nI 0), .int (nI 0), .int (nI 0)])), (ba, .inl (cB, (rmF v), .inl (fun _ => 0))), (ta, .inl (cI, (rmF v), .inl (fun _ => 0))), (sa, .inl (cS, (rmF v), .inl (fun _ => 0))), (rt, .inr (2, [.ref st, .int (nI 0), .int (nI 0), .int (nI 0), .int (nI 0)]))] H := hP
  have hD : va_D A [(x, .inr (0, [.ref st, .ref rt, .ref xa, .ref oa, .int (nI 0), .int (nI 0)])), (xa, .inl (cX, 512, .inl (fun _ => 0))), (oa, .inl (cO, 512, .inl (fun _ => 0))), (st, .inr (1, [.ref ba, .ref ta, .ref sa, .int (nI 0), .int (nI 0), .int (nI 0), .int (nI 0), .int (nI 0), .int (nI 0)])), (ba, .inl (cB, (rmF v), .inl (fun _ => 0))), (ta, .inl (cI, (rmF v), .inl (fun _ => 0))), (sa, .inl (cS, (rmF v), .inl (fun _ => 0))), (rt, .inr (2, [.ref st, .int (nI 0), .int (nI 0), .int (nI 0), .int (nI 0)]))] := hD
  have hP : va_P D classes [(x, .inr (0, [.ref st, .ref rt, .ref xa, .ref oa, .int (nI 0), .int (nI 0)])), (rt, .inr (2, [.ref st, .int (nI 0), .int (nI 0), .int (nI 0), .int (nI 0)])), (st, .inr (1, [.ref ba, .ref ta, .ref sa, .int (nI 0), .int (nI 0), .int (nI 0), .int (nI 0), .int (nI 0), .int (nI 0)])), (ba, .inl (cB, (rmF v), .inl (fun _ => 0))), (ta, .inl (cI, (rmF v), .inl (fun _ => 0))), (sa, .inl (cS, (rmF v), .inl (fun _ => 0))), (xa, .inl (cX, 512, .inl (fun _ => 0))), (oa, .inl (cO, 512, .inl (fun _ => 0)))] H := hP.sub [0, 7, 3, 4, 5, 6, 1, 2] rfl
  have hD : va_D A [(x, .inr (0, [.ref st, .ref rt, .ref xa, .ref oa, .int (nI 0), .int (nI 0)])), (rt, .inr (2, [.ref st, .int (nI 0), .int (nI 0), .int (nI 0), .int (nI 0)])), (st, .inr (1, [.ref ba, .ref ta, .ref sa, .int (nI 0), .int (nI 0), .int (nI 0), .int (nI 0), .int (nI 0), .int (nI 0)])), (ba, .inl (cB, (rmF v), .inl (fun _ => 0))), (ta, .inl (cI, (rmF v), .inl (fun _ => 0))), (sa, .inl (cS, (rmF v), .inl (fun _ => 0))), (xa, .inl (cX, 512, .inl (fun _ => 0))), (oa, .inl (cO, 512, .inl (fun _ => 0)))] := hD.sub [0, 7, 3, 4, 5, 6, 1, 2] (by decide) rfl
  have hK : va_K D classes [(cB, .byte), (cI, .int), (cS, .short), (cX, .byte), (cO, .byte)] s := hK.sub [2, 3, 4, 0, 1] rfl
  exact rw_vret ((rt, st, ba, ta, sa, xa, oa), (cB, cI, cS, cX, cO)) hx hb hr hlk hK hP hD hS d_PS_init_60 trivial
end
section
/-! ===== PacketStoreModel: six cells: the object, text, out, time, size, bytes ===== -/
abbrev vM (mo ma mu mt mz mb : Nat) (kX kO kT kZ kB : ClassId) (R tn on mn us ca dr de : Nat) (g fr to : Int32) (nx : Nat) (xf uf tf zf bf : Nat → Int32) : va_W := [(mo, .inr (3, [.int (nI 0), .int (nI R), .ref ma, .int (nI tn), .ref mu, .int (nI on), .int (nI mn), .ref mt, .ref mz, .ref mb, .int (nI us), .int (nI ca), .int (nI dr), .int (nI de), .int g, .int fr, .int to, .int (nI nx)])), (ma, .inl (kX, 512, .inl xf)), (mu, .inl (kO, 512, .inl uf)), (mt, .inl (kT, 16384, .inl tf)), (mz, .inl (kZ, 16384, .inl zf)), (mb, .inl (kB, 16384, .inl bf))]
abbrev yM (kX kO kT kZ kB : ClassId) : List (ClassId × FieldType) := [(kX, .byte), (kO, .byte), (kT, .int), (kZ, .int), (kB, .byte)]
set_option maxHeartbeats 4000000 in
set_option maxRecDepth 100000 in
/-- start(k) -/
theorem c_Md_start (l : Launch) (D : va_G) (mo ma mu mt mz mb : Nat) (kX kO kT kZ kB : ClassId) (R tn on : Nat) (g fr to : Int32) (nx o c : Nat) (T : Nat → Int32) (B : Nat → Nat) (S : Nat → Int32) (dr de : Nat) (xf uf tf zf bf : Nat → Int32) (k : Nat) (h : MdR R o c T B S tf zf bf) (hk : o + k ≤ c) : Met l y_Md_start (wc y_Md_start b_Md_start 4 (some .int)) ({ frames := 0, cells := 0, slots := 0, locals := 0 }) (va_Pc [.ref mo, .int (nI k)] (roB D (vM mo ma mu mt mz mb kX kO kT kZ kB R tn on (c - o) (B c - B o) c dr de g fr to nx xf uf tf zf bf) (yM kX kO kT kZ kB))) (vp_Si (fun r => r = nI (B (o + k) - B o))) 0 0 (fun _ => False) := by
  refine met_start (by decide) (Nat.le_of_ble_eq_true rfl) ?_
  intro p e s m below meth cd hx hb hr hT hown hlk hml hnm hB ls hl
  obtain ⟨hP, hK⟩ := hB
  have hown : s.vm.findClass R_Md = some m.cls := hown
  have hP : va_P D classes [(mo, .inr (3, [.int (nI 0), .int (nI R), .ref ma, .int (nI tn), .ref mu, .int (nI on), .int (nI (c - o)), .ref mt, .ref mz, .ref mb, .int (nI (B c - B o)), .int (nI c), .int (nI dr), .int (nI de), .int g, .int fr, .int to, .int (nI nx)])), (ma, .inl (kX, 512, .inl xf)), (mu, .inl (kO, 512, .inl uf)), (mt, .inl (kT, 16384, .inl tf)), (mz, .inl (kZ, 16384, .inl zf)), (mb, .inl (kB, 16384, .inl bf))] s.heap := hP
  have hK : va_K D classes [(kX, .byte), (kO, .byte), (kT, .int), (kZ, .int), (kB, .byte)] s := hK
  have hl : lv_has ls 4 [(0, .ref mo), (1, .int (nI k))] := hl
  obtain ⟨hs, hgT, hgZ, hgS, h8⟩ := id h
  obtain ⟨a1, a2, a3, a4, a5, a6, a7⟩ := id hs
  have hm := hs_mono hs
  have hoc := hm c o a3 (Nat.le_refl c)
  refine lv_iconst (v := nI 0) hx hb d_Md_start_0 (by decide +kernel) ?_
  refine lv_istore_n (lv' := [(2, .int (nI 0)), (0, .ref mo), (1, .int (nI k))]) hx hb d_Md_start_1 rfl hl (by decide) rfl (fun ls hl => ?_)
  refine lv_iconst (v := nI 0) hx hb d_Md_start_2 (by decide +kernel) ?_
  refine lv_istore_n (lv' := [(3, .int (nI 0)), (2, .int (nI 0)), (0, .ref mo), (1, .int (nI k))]) hx hb d_Md_start_3 rfl hl (by decide) rfl (fun ls hl => ?_)
  refine lp_ind (α := Nat) (fun n j H locs ls => j ≤ k ∧ k < j + n ∧ H = s.heap ∧ locs = [] ∧ lv_has ls 4 [(3, .int (nI j)), (2, .int (nI (B (o + j) - B o))), (0, .ref mo), (1, .int (nI k))]) ?_ (fun j H locs ls hq => by obtain ⟨k1, k2, -⟩ := hq; omega) (k + 1) 0 _ _ _ ⟨Nat.zero_le k, by omega, rfl, rfl, by rw [show B (o + 0) - B o = 0 by rw [Nat.add_zero]; omega]; exact hl⟩
  intro n ih j H locs ls hq
  obtain ⟨k1, k2, rfl, rfl, hl⟩ := hq
  refine lv_iload_n hx hb d_Md_start_4 rfl (lv_at hl 0 rfl) ?_
  refine lv_iload_n hx hb d_Md_start_5 rfl (lv_at hl 3 rfl) ?_
  refine nv_icmp_ge (tgt := 24) hx hb (by omega) (by omega) d_Md_start_6 (by decide) (fun c_6 => ?_) (fun c_6 => ?_)
  · refine lv_iload_n hx hb d_Md_start_24 rfl (lv_at hl 1 rfl) ?_
    exact ro_iret hx hb hr hlk d_Md_start_25 (by rw [show j = k by omega])
  · have b0 := a7 (o + j) (by omega)
    have m1 := hm (o + j) o (by omega) (by omega)
    refine lv_iload_n hx hb d_Md_start_9 rfl (lv_at hl 1 rfl) ?_
    refine lv_aload_n hx hb d_Md_start_10 rfl (lv_at hl 2 rfl) ?_
    refine gf_Md_20 hx hb hT hown hK hP 0 rfl rfl d_Md_start_11 ?_
    refine lv_iload_n hx hb d_Md_start_14 rfl (lv_at hl 0 rfl) ?_
    refine nv_iald hx hb hK hP 4 3 rfl rfl (by omega) (by omega) d_Md_start_15 ?_
    refine nv_asI (y := B (o + j + 1) - B (o + j)) (hgZ j (by omega)) ?_
    refine nv_iadd hx hb d_Md_start_16 ?_
    refine nv_as (y := B (o + (j + 1)) - B o) (by rw [show o + (j + 1) = o + j + 1 by omega]; omega) ?_
    refine lv_istore_n (lv' := [(2, .int (nI (B (o + (j + 1)) - B o))), (3, .int (nI j)), (0, .ref mo), (1, .int (nI k))]) hx hb d_Md_start_17 rfl hl (by decide) rfl (fun ls hl => ?_)
    refine nv_iinc (lv' := [(3, .int (nI (j + 1))), (2, .int (nI (B (o + (j + 1)) - B o))), (0, .ref mo), (1, .int (nI k))]) hx hb d_Md_start_18 hl (k := 1) rfl (by decide) rfl (fun ls hl => ?_)
    refine lv_goto (tgt := 4) hx hb d_Md_start_21 (by decide) ?_
    exact ih (j + 1) _ _ _ ⟨by omega, by omega, rfl, rfl, lv_sub hl [0, 1, 2, 3] rfl⟩
set_option maxHeartbeats 4000000 in
set_option maxRecDepth 100000 in
/-- goes(): the oldest one is gone -/
theorem c_Md_goes (l : Launch) (D : va_G) (mo ma mu mt mz mb : Nat) (kX kO kT kZ kB : ClassId) (R tn on : Nat) (g fr to : Int32) (nx o c : Nat) (T : Nat → Int32) (B : Nat → Nat) (S : Nat → Int32) (dr de : Nat) (xf uf tf zf bf : Nat → Int32) (sz : Nat) (h : MdR R o c T B S tf zf bf) (ho : o < c) : Met l y_Md_goes (wc y_Md_goes b_Md_goes 3 none) ({ frames := 0, cells := 0, slots := 0, locals := 0 }) (va_Pc [.ref mo] (rwB D (vM mo ma mu mt mz mb kX kO kT kZ kB R tn on (c - o) (B c - B o) c dr de g fr to nx xf uf tf zf bf) (yM kX kO kT kZ kB) sz)) (QV (fun (u : (Nat → Int32) × (Nat → Int32) × (Nat → Int32)) => MdR R (o + 1) c T B S u.1 u.2.1 u.2.2) D (fun u => (yM kX kO kT kZ kB)) (fun u => (vM mo ma mu mt mz mb kX kO kT kZ kB R tn on (c - (o + 1)) (B c - B (o + 1)) c dr de g fr to nx xf uf (u.1) (u.2.1) (u.2.2))) (va_A (vM mo ma mu mt mz mb kX kO kT kZ kB R tn on (c - o) (B c - B o) c dr de g fr to nx xf uf tf zf bf) sz)) 0 0 (va_A (vM mo ma mu mt mz mb kX kO kT kZ kB R tn on (c - o) (B c - B o) c dr de g fr to nx xf uf tf zf bf) sz) := by
  refine rw_startV (by decide) (Nat.le_of_ble_eq_true rfl) ?_
  intro p e s m below meth cd A hx hb hr hT hown hlk hml hnm hA hP hK hD hS ls hl
  have hown : s.vm.findClass R_Md = some m.cls := hown
  have hP : va_P D classes [(mo, .inr (3, [.int (nI 0), .int (nI R), .ref ma, .int (nI tn), .ref mu, .int (nI on), .int (nI (c - o)), .ref mt, .ref mz, .ref mb, .int (nI (B c - B o)), .int (nI c), .int (nI dr), .int (nI de), .int g, .int fr, .int to, .int (nI nx)])), (ma, .inl (kX, 512, .inl xf)), (mu, .inl (kO, 512, .inl uf)), (mt, .inl (kT, 16384, .inl tf)), (mz, .inl (kZ, 16384, .inl zf)), (mb, .inl (kB, 16384, .inl bf))] s.heap := hP
  have hD : va_D A [(mo, .inr (3, [.int (nI 0), .int (nI R), .ref ma, .int (nI tn), .ref mu, .int (nI on), .int (nI (c - o)), .ref mt, .ref mz, .ref mb, .int (nI (B c - B o)), .int (nI c), .int (nI dr), .int (nI de), .int g, .int fr, .int to, .int (nI nx)])), (ma, .inl (kX, 512, .inl xf)), (mu, .inl (kO, 512, .inl uf)), (mt, .inl (kT, 16384, .inl tf)), (mz, .inl (kZ, 16384, .inl zf)), (mb, .inl (kB, 16384, .inl bf))] := hD
  have hK : va_K D classes [(kX, .byte), (kO, .byte), (kT, .int), (kZ, .int), (kB, .byte)] s := hK
  have hl : lv_has ls 3 [(0, .ref mo)] := hl
  obtain ⟨hs, hgT, hgZ, hgS, h8⟩ := id h
  obtain ⟨a1, a2, a3, a4, a5, a6, a7⟩ := id hs
  have hm := hs_mono hs
  have hoc := hm c o a3 (Nat.le_refl c)
  have b0 := a7 o ho
  have m1 := hm c (o + 1) (by omega) (Nat.le_refl c)
  have z0 : zf 0 = nI (B (o + 1) - B o) := hgZ 0 (by omega)
  refine lv_aload_n hx hb d_Md_goes_0 rfl (lv_at hl 0 rfl) ?_
  refine gf_Md_20 hx hb hT hown hK hP 0 rfl rfl d_Md_goes_1 ?_
  refine lv_iconst (v := nI 0) hx hb d_Md_goes_4 (by decide +kernel) ?_
  refine nv_iald hx hb hK hP 4 3 rfl rfl (by omega) (by omega) d_Md_goes_5 ?_
  refine nv_asI (y := B (o + 1) - B o) z0 ?_
  refine lv_istore_n (lv' := [(1, .int (nI (B (o + 1) - B o))), (0, .ref mo)]) hx hb d_Md_goes_6 rfl hl (by decide) rfl (fun ls hl => ?_)
  refine lv_iconst (v := nI 0) hx hb d_Md_goes_7 (by decide +kernel) ?_
  refine lv_istore_n (lv' := [(2, .int (nI 0)), (1, .int (nI (B (o + 1) - B o))), (0, .ref mo)]) hx hb d_Md_goes_8 rfl hl (by decide) rfl (fun ls hl => ?_)
  refine lp_ind (α := Nat × (Nat → Int32)) (fun n x H locs ls => match x with
    | (k, f) => k + (B (o + 1) - B o) ≤ B c - B o ∧ B c - B o < k + (B (o + 1) - B o) + n ∧ (∀ j, j < k → f j = bf (j + (B (o + 1) - B o))) ∧ (∀ j, k ≤ j → f j = bf j) ∧ by8 f ∧ va_P D classes [(mo, .inr (3, [.int (nI 0), .int (nI R), .ref ma, .int (nI tn), .ref mu, .int (nI on), .int (nI (c - o)), .ref mt, .ref mz, .ref mb, .int (nI (B c - B o)), .int (nI c), .int (nI dr), .int (nI de), .int g, .int fr, .int to, .int (nI nx)])), (ma, .inl (kX, 512, .inl xf)), (mu, .inl (kO, 512, .inl uf)), (mt, .inl (kT, 16384, .inl tf)), (mz, .inl (kZ, 16384, .inl zf)), (mb, .inl (kB, 16384, .inl f))] H ∧ va_D A [(mo, .inr (3, [.int (nI 0), .int (nI R), .ref ma, .int (nI tn), .ref mu, .int (nI on), .int (nI (c - o)), .ref mt, .ref mz, .ref mb, .int (nI (B c - B o)), .int (nI c), .int (nI dr), .int (nI de), .int g, .int fr, .int to, .int (nI nx)])), (ma, .inl (kX, 512, .inl xf)), (mu, .inl (kO, 512, .inl uf)), (mt, .inl (kT, 16384, .inl tf)), (mz, .inl (kZ, 16384, .inl zf)), (mb, .inl (kB, 16384, .inl f))] ∧ va_S A s.heap H locs ∧ lv_has ls 3 [(2, .int (nI k)), (1, .int (nI (B (o + 1) - B o))), (0, .ref mo)]) ?_ (fun x H locs ls hq => by obtain ⟨k, f⟩ := x; obtain ⟨k1, k2, -⟩ := hq; omega) (B c - B o + 1) (0, bf) _ _ _ ⟨by omega, by omega, fun j q => by omega, fun j _ => rfl, h8, hP, hD, hS, hl⟩
  clear hP hD hS hl
  intro n1 ih x H locs ls hq
  obtain ⟨k, f⟩ := x
  obtain ⟨k1, k2, k3, k4, k5, hP, hD, hS, hl⟩ := hq
  refine lv_iload_n hx hb d_Md_goes_9 rfl (lv_at hl 0 rfl) ?_
  refine lv_iload_n hx hb d_Md_goes_10 rfl (lv_at hl 1 rfl) ?_
  refine nv_iadd hx hb d_Md_goes_11 ?_
  refine lv_aload_n hx hb d_Md_goes_12 rfl (lv_at hl 2 rfl) ?_
  refine gf_Md_33 hx hb hT hown hK hP 0 rfl rfl d_Md_goes_13 ?_
  refine nv_icmp_ge (tgt := 39) hx hb (by omega) (by omega) d_Md_goes_16 (by decide) (fun c_16 => ?_) (fun c_16 => ?_)
  · clear ih
    refine lv_aload_n hx hb d_Md_goes_39 rfl (lv_at hl 2 rfl) ?_
    refine lv_dup hx hb d_Md_goes_40 rfl ?_
    refine gf_Md_33 hx hb hT hown hK hP 0 rfl rfl d_Md_goes_41 ?_
    refine lv_iload_n hx hb d_Md_goes_44 rfl (lv_at hl 1 rfl) ?_
    refine nv_isub hx hb (by omega) d_Md_goes_45 ?_
    refine nv_as (y := B c - B (o + 1)) (by omega) ?_
    refine pf_Md_33 hx hb hT hown hK hP hD hS 0 rfl (Nat.le_of_ble_eq_true rfl) d_Md_goes_46 (fun H locs hP hD hS => ?_)
    have hP : va_P D classes [(mo, .inr (3, [.int (nI 0), .int (nI R), .ref ma, .int (nI tn), .ref mu, .int (nI on), .int (nI (c - o)), .ref mt, .ref mz, .ref mb, .int (nI (B c - B (o + 1))), .int (nI c), .int (nI dr), .int (nI de), .int g, .int fr, .int to, .int (nI nx)])), (ma, .inl (kX, 512, .inl xf)), (mu, .inl (kO, 512, .inl uf)), (mt, .inl (kT, 16384, .inl tf)), (mz, .inl (kZ, 16384, .inl zf)), (mb, .inl (kB, 16384, .inl f))] H := hP
    have hD : va_D A [(mo, .inr (3, [.int (nI 0), .int (nI R), .ref ma, .int (nI tn), .ref mu, .int (nI on), .int (nI (c - o)), .ref mt, .ref mz, .ref mb, .int (nI (B c - B (o + 1))), .int (nI c), .int (nI dr), .int (nI de), .int g, .int fr, .int to, .int (nI nx)])), (ma, .inl (kX, 512, .inl xf)), (mu, .inl (kO, 512, .inl uf)), (mt, .inl (kT, 16384, .inl tf)), (mz, .inl (kZ, 16384, .inl zf)), (mb, .inl (kB, 16384, .inl f))] := hD
    refine lv_aload_n hx hb d_Md_goes_49 rfl (lv_at hl 2 rfl) ?_
    refine lv_dup hx hb d_Md_goes_50 rfl ?_
    refine gf_Md_36 hx hb hT hown hK hP 0 rfl rfl d_Md_goes_51 ?_
    refine lv_iconst (v := nI 1) hx hb d_Md_goes_54 (by decide +kernel) ?_
    refine nv_isub hx hb (by omega) d_Md_goes_55 ?_
    refine nv_as (y := c - (o + 1)) (by omega) ?_
    refine pf_Md_36 hx hb hT hown hK hP hD hS 0 rfl (Nat.le_of_ble_eq_true rfl) d_Md_goes_56 (fun H locs hP hD hS => ?_)
    have hP : va_P D classes [(mo, .inr (3, [.int (nI 0), .int (nI R), .ref ma, .int (nI tn), .ref mu, .int (nI on), .int (nI (c - (o + 1))), .ref mt, .ref mz, .ref mb, .int (nI (B c - B (o + 1))), .int (nI c), .int (nI dr), .int (nI de), .int g, .int fr, .int to, .int (nI nx)])), (ma, .inl (kX, 512, .inl xf)), (mu, .inl (kO, 512, .inl uf)), (mt, .inl (kT, 16384, .inl tf)), (mz, .inl (kZ, 16384, .inl zf)), (mb, .inl (kB, 16384, .inl f))] H := hP
    have hD : va_D A [(mo, .inr (3, [.int (nI 0), .int (nI R), .ref ma, .int (nI tn), .ref mu, .int (nI on), .int (nI (c - (o + 1))), .ref mt, .ref mz, .ref mb, .int (nI (B c - B (o + 1))), .int (nI c), .int (nI dr), .int (nI de), .int g, .int fr, .int to, .int (nI nx)])), (ma, .inl (kX, 512, .inl xf)), (mu, .inl (kO, 512, .inl uf)), (mt, .inl (kT, 16384, .inl tf)), (mz, .inl (kZ, 16384, .inl zf)), (mb, .inl (kB, 16384, .inl f))] := hD
    refine lv_iconst (v := nI 0) hx hb d_Md_goes_59 (by decide +kernel) ?_
    refine lv_istore_n (lv' := [(2, .int (nI 0)), (1, .int (nI (B (o + 1) - B o))), (0, .ref mo)]) hx hb d_Md_goes_60 rfl hl (by decide) rfl (fun ls hl => ?_)
    refine lp_ind (α := Nat × (Nat → Int32) × (Nat → Int32)) (fun n x H locs ls => match x with
      | (k, ft, fz) => k ≤ c - (o + 1) ∧ c - (o + 1) < k + n ∧ (∀ j, j < k → ft j = tf (j + 1)) ∧ (∀ j, k ≤ j → ft j = tf j) ∧ (∀ j, j < k → fz j = zf (j + 1)) ∧ (∀ j, k ≤ j → fz j = zf j) ∧ va_P D classes [(mo, .inr (3, [.int (nI 0), .int (nI R), .ref ma, .int (nI tn), .ref mu, .int (nI on), .int (nI (c - (o + 1))), .ref mt, .ref mz, .ref mb, .int (nI (B c - B (o + 1))), .int (nI c), .int (nI dr), .int (nI de), .int g, .int fr, .int to, .int (nI nx)])), (ma, .inl (kX, 512, .inl xf)), (mu, .inl (kO, 512, .inl uf)), (mt, .inl (kT, 16384, .inl ft)), (mz, .inl (kZ, 16384, .inl fz)), (mb, .inl (kB, 16384, .inl f))] H ∧ va_D A [(mo, .inr (3, [.int (nI 0), .int (nI R), .ref ma, .int (nI tn), .ref mu, .int (nI on), .int (nI (c - (o + 1))), .ref mt, .ref mz, .ref mb, .int (nI (B c - B (o + 1))), .int (nI c), .int (nI dr), .int (nI de), .int g, .int fr, .int to, .int (nI nx)])), (ma, .inl (kX, 512, .inl xf)), (mu, .inl (kO, 512, .inl uf)), (mt, .inl (kT, 16384, .inl ft)), (mz, .inl (kZ, 16384, .inl fz)), (mb, .inl (kB, 16384, .inl f))] ∧ va_S A s.heap H locs ∧ lv_has ls 3 [(2, .int (nI k)), (1, .int (nI (B (o + 1) - B o))), (0, .ref mo)]) ?_ (fun x H locs ls hq => by obtain ⟨k, ft, fz⟩ := x; obtain ⟨k1, k2, -⟩ := hq; omega) (c + 1) (0, tf, zf) _ _ _ ⟨by omega, by omega, fun j q => by omega, fun j _ => rfl, fun j q => by omega, fun j _ => rfl, hP, hD, hS, hl⟩
    clear hP hD hS hl
    intro n2 ih x H locs ls hq
    obtain ⟨i, ft, fz⟩ := x
    obtain ⟨i1, i2, i3, i4, i5, i6, hP, hD, hS, hl⟩ := hq
    refine lv_iload_n hx hb d_Md_goes_61 rfl (lv_at hl 0 rfl) ?_
    refine lv_aload_n hx hb d_Md_goes_62 rfl (lv_at hl 2 rfl) ?_
    refine gf_Md_36 hx hb hT hown hK hP 0 rfl rfl d_Md_goes_63 ?_
    refine nv_icmp_ge (tgt := 103) hx hb (by omega) (by omega) d_Md_goes_66 (by decide) (fun c_66 => ?_) (fun c_66 => ?_)
    · exact rw_vret (ft, fz, f) hx hb hr hlk hK hP hD hS d_Md_goes_103 (mdr_drop h ho (fun j q => i3 j (by omega)) (fun j q => i5 j (by omega)) (fun j q => k3 j (by omega)) k5)
    · refine lv_aload_n hx hb d_Md_goes_69 rfl (lv_at hl 2 rfl) ?_
      refine gf_Md_16 hx hb hT hown hK hP 0 rfl rfl d_Md_goes_70 ?_
      refine lv_iload_n hx hb d_Md_goes_73 rfl (lv_at hl 0 rfl) ?_
      refine lv_aload_n hx hb d_Md_goes_74 rfl (lv_at hl 2 rfl) ?_
      refine gf_Md_16 hx hb hT hown hK hP 0 rfl rfl d_Md_goes_75 ?_
      refine lv_iload_n hx hb d_Md_goes_78 rfl (lv_at hl 0 rfl) ?_
      refine lv_iconst (v := nI 1) hx hb d_Md_goes_79 (by decide +kernel) ?_
      refine nv_iadd hx hb d_Md_goes_80 ?_
      refine nv_iald hx hb hK hP 3 2 rfl rfl (by omega) (by omega) d_Md_goes_81 ?_
      refine nv_iast hx hb hK hP hD hS 3 2 rfl rfl (by omega) (by omega) d_Md_goes_82 (fun H locs hP hD hS => ?_)
      have hP : va_P D classes [(mo, .inr (3, [.int (nI 0), .int (nI R), .ref ma, .int (nI tn), .ref mu, .int (nI on), .int (nI (c - (o + 1))), .ref mt, .ref mz, .ref mb, .int (nI (B c - B (o + 1))), .int (nI c), .int (nI dr), .int (nI de), .int g, .int fr, .int to, .int (nI nx)])), (ma, .inl (kX, 512, .inl xf)), (mu, .inl (kO, 512, .inl uf)), (mt, .inl (kT, 16384, .inl (upd ft i (ft (i + 1))))), (mz, .inl (kZ, 16384, .inl fz)), (mb, .inl (kB, 16384, .inl f))] H := hP
      have hD : va_D A [(mo, .inr (3, [.int (nI 0), .int (nI R), .ref ma, .int (nI tn), .ref mu, .int (nI on), .int (nI (c - (o + 1))), .ref mt, .ref mz, .ref mb, .int (nI (B c - B (o + 1))), .int (nI c), .int (nI dr), .int (nI de), .int g, .int fr, .int to, .int (nI nx)])), (ma, .inl (kX, 512, .inl xf)), (mu, .inl (kO, 512, .inl uf)), (mt, .inl (kT, 16384, .inl (upd ft i (ft (i + 1))))), (mz, .inl (kZ, 16384, .inl fz)), (mb, .inl (kB, 16384, .inl f))] := hD
      refine lv_aload_n hx hb d_Md_goes_83 rfl (lv_at hl 2 rfl) ?_
      refine gf_Md_20 hx hb hT hown hK hP 0 rfl rfl d_Md_goes_84 ?_
      refine lv_iload_n hx hb d_Md_goes_87 rfl (lv_at hl 0 rfl) ?_
      refine lv_aload_n hx hb d_Md_goes_88 rfl (lv_at hl 2 rfl) ?_
      refine gf_Md_20 hx hb hT hown hK hP 0 rfl rfl d_Md_goes_89 ?_
      refine lv_iload_n hx hb d_Md_goes_92 rfl (lv_at hl 0 rfl) ?_
      refine lv_iconst (v := nI 1) hx hb d_Md_goes_93 (by decide +kernel) ?_
      refine nv_iadd hx hb d_Md_goes_94 ?_
      refine nv_iald hx hb hK hP 4 3 rfl rfl (by omega) (by omega) d_Md_goes_95 ?_
      refine nv_iast hx hb hK hP hD hS 4 3 rfl rfl (by omega) (by omega) d_Md_goes_96 (fun H locs hP hD hS => ?_)
      have hP : va_P D classes [(mo, .inr (3, [.int (nI 0), .int (nI R), .ref ma, .int (nI tn), .ref mu, .int (nI on), .int (nI (c - (o + 1))), .ref mt, .ref mz, .ref mb, .int (nI (B c - B (o + 1))), .int (nI c), .int (nI dr), .int (nI de), .int g, .int fr, .int to, .int (nI nx)])), (ma, .inl (kX, 512, .inl xf)), (mu, .inl (kO, 512, .inl uf)), (mt, .inl (kT, 16384, .inl (upd ft i (ft (i + 1))))), (mz, .inl (kZ, 16384, .inl (upd fz i (fz (i + 1))))), (mb, .inl (kB, 16384, .inl f))] H := hP
      have hD : va_D A [(mo, .inr (3, [.int (nI 0), .int (nI R), .ref ma, .int (nI tn), .ref mu, .int (nI on), .int (nI (c - (o + 1))), .ref mt, .ref mz, .ref mb, .int (nI (B c - B (o + 1))), .int (nI c), .int (nI dr), .int (nI de), .int g, .int fr, .int to, .int (nI nx)])), (ma, .inl (kX, 512, .inl xf)), (mu, .inl (kO, 512, .inl uf)), (mt, .inl (kT, 16384, .inl (upd ft i (ft (i + 1))))), (mz, .inl (kZ, 16384, .inl (upd fz i (fz (i + 1))))), (mb, .inl (kB, 16384, .inl f))] := hD
      refine nv_iinc (lv' := [(2, .int (nI (i + 1))), (1, .int (nI (B (o + 1) - B o))), (0, .ref mo)]) hx hb d_Md_goes_97 hl (k := 0) rfl (by decide) rfl (fun ls hl => ?_)
      refine lv_goto (tgt := 61) hx hb d_Md_goes_100 (by decide) ?_
      exact ih (i + 1, (upd ft i (ft (i + 1))), (upd fz i (fz (i + 1)))) _ _ _ ⟨by omega, by omega, fun j q => by
          rcases Nat.lt_or_ge j i with z | z
          · rw [pk_un (by omega), i3 j z]
          · rw [show j = i by omega, pk_us, i4 _ (by omega)], fun j q => by rw [pk_un (by omega), i4 j (by omega)], fun j q => by
          rcases Nat.lt_or_ge j i with z | z
          · rw [pk_un (by omega), i5 j z]
          · rw [show j = i by omega, pk_us, i6 _ (by omega)], fun j q => by rw [pk_un (by omega), i6 j (by omega)], hP, hD, hS, hl⟩
  · refine lv_aload_n hx hb d_Md_goes_19 rfl (lv_at hl 2 rfl) ?_
    refine gf_Md_23 hx hb hT hown hK hP 0 rfl rfl d_Md_goes_20 ?_
    refine lv_iload_n hx hb d_Md_goes_23 rfl (lv_at hl 0 rfl) ?_
    refine lv_aload_n hx hb d_Md_goes_24 rfl (lv_at hl 2 rfl) ?_
    refine gf_Md_23 hx hb hT hown hK hP 0 rfl rfl d_Md_goes_25 ?_
    refine lv_iload_n hx hb d_Md_goes_28 rfl (lv_at hl 0 rfl) ?_
    refine lv_iload_n hx hb d_Md_goes_29 rfl (lv_at hl 1 rfl) ?_
    refine nv_iadd hx hb d_Md_goes_30 ?_
    refine nv_bald hx hb hK hP 5 4 rfl rfl (by omega) (by omega) d_Md_goes_31 ?_
    refine nv_bast hx hb hK hP hD hS 5 4 rfl rfl (by omega) (by omega) (by8_nar k5 _) d_Md_goes_32 (fun H locs hP hD hS => ?_)
    have hP : va_P D classes [(mo, .inr (3, [.int (nI 0), .int (nI R), .ref ma, .int (nI tn), .ref mu, .int (nI on), .int (nI (c - o)), .ref mt, .ref mz, .ref mb, .int (nI (B c - B o)), .int (nI c), .int (nI dr), .int (nI de), .int g, .int fr, .int to, .int (nI nx)])), (ma, .inl (kX, 512, .inl xf)), (mu, .inl (kO, 512, .inl uf)), (mt, .inl (kT, 16384, .inl tf)), (mz, .inl (kZ, 16384, .inl zf)), (mb, .inl (kB, 16384, .inl (upd f k (f (k + (B (o + 1) - B o))))))] H := hP
    have hD : va_D A [(mo, .inr (3, [.int (nI 0), .int (nI R), .ref ma, .int (nI tn), .ref mu, .int (nI on), .int (nI (c - o)), .ref mt, .ref mz, .ref mb, .int (nI (B c - B o)), .int (nI c), .int (nI dr), .int (nI de), .int g, .int fr, .int to, .int (nI nx)])), (ma, .inl (kX, 512, .inl xf)), (mu, .inl (kO, 512, .inl uf)), (mt, .inl (kT, 16384, .inl tf)), (mz, .inl (kZ, 16384, .inl zf)), (mb, .inl (kB, 16384, .inl (upd f k (f (k + (B (o + 1) - B o))))))] := hD
    refine nv_iinc (lv' := [(2, .int (nI (k + 1))), (1, .int (nI (B (o + 1) - B o))), (0, .ref mo)]) hx hb d_Md_goes_33 hl (k := 0) rfl (by decide) rfl (fun ls hl => ?_)
    refine lv_goto (tgt := 9) hx hb d_Md_goes_36 (by decide) ?_
    exact ih (k + 1, (upd f k (f (k + (B (o + 1) - B o))))) _ _ _ ⟨by omega, by omega, fun j q => by
        rcases Nat.lt_or_ge j k with z | z
        · rw [pk_un (by omega), k3 j z]
        · rw [show j = k by omega, pk_us, k4 _ (by omega)], fun j q => by rw [pk_un (by omega), k4 j (by omega)], by8_upd k5 (k5 _), hP, hD, hS, hl⟩
set_option maxHeartbeats 4000000 in
set_option maxRecDepth 100000 in
/-- put(b) -/
theorem c_Md_put (l : Launch) (D : va_G) (mo ma mu mt mz mb : Nat) (kX kO kT kZ kB : ClassId) (R tn on : Nat) (g fr to : Int32) (nx o c : Nat) (T : Nat → Int32) (B : Nat → Nat) (S : Nat → Int32) (dr de : Nat) (xf uf tf zf bf : Nat → Int32) (sz : Nat) (b : Int32) (htn : tn ≤ 512) : Met l y_Md_put (wc y_Md_put b_Md_put 2 (some .int)) ({ frames := 0, cells := 0, slots := 0, locals := 0 }) (va_Pc [.ref mo, .int b] (rwB D (vM mo ma mu mt mz mb kX kO kT kZ kB R tn on (c - o) (B c - B o) c dr de g fr to nx xf uf tf zf bf) (yM kX kO kT kZ kB) sz)) (QI (fun (r : Int32) (u : Nat × (Nat → Int32)) => PtS tn xf b r u.1 u.2) D (fun u => (yM kX kO kT kZ kB)) (fun u => (vM mo ma mu mt mz mb kX kO kT kZ kB R (u.1) on (c - o) (B c - B o) c dr de g fr to nx (u.2) uf tf zf bf)) (va_A (vM mo ma mu mt mz mb kX kO kT kZ kB R tn on (c - o) (B c - B o) c dr de g fr to nx xf uf tf zf bf) sz)) 0 0 (va_A (vM mo ma mu mt mz mb kX kO kT kZ kB R tn on (c - o) (B c - B o) c dr de g fr to nx xf uf tf zf bf) sz) := by
  refine rw_startI (by decide) (Nat.le_of_ble_eq_true rfl) ?_
  intro p e s m below meth cd A hx hb hr hT hown hlk hml hnm hA hP hK hD hS ls hl
  have hown : s.vm.findClass R_Md = some m.cls := hown
  have hP : va_P D classes [(mo, .inr (3, [.int (nI 0), .int (nI R), .ref ma, .int (nI tn), .ref mu, .int (nI on), .int (nI (c - o)), .ref mt, .ref mz, .ref mb, .int (nI (B c - B o)), .int (nI c), .int (nI dr), .int (nI de), .int g, .int fr, .int to, .int (nI nx)])), (ma, .inl (kX, 512, .inl xf)), (mu, .inl (kO, 512, .inl uf)), (mt, .inl (kT, 16384, .inl tf)), (mz, .inl (kZ, 16384, .inl zf)), (mb, .inl (kB, 16384, .inl bf))] s.heap := hP
  have hD : va_D A [(mo, .inr (3, [.int (nI 0), .int (nI R), .ref ma, .int (nI tn), .ref mu, .int (nI on), .int (nI (c - o)), .ref mt, .ref mz, .ref mb, .int (nI (B c - B o)), .int (nI c), .int (nI dr), .int (nI de), .int g, .int fr, .int to, .int (nI nx)])), (ma, .inl (kX, 512, .inl xf)), (mu, .inl (kO, 512, .inl uf)), (mt, .inl (kT, 16384, .inl tf)), (mz, .inl (kZ, 16384, .inl zf)), (mb, .inl (kB, 16384, .inl bf))] := hD
  have hK : va_K D classes [(kX, .byte), (kO, .byte), (kT, .int), (kZ, .int), (kB, .byte)] s := hK
  have hl : lv_has ls 2 [(0, .ref mo), (1, .int b)] := hl
  refine lv_aload_n hx hb d_Md_put_0 rfl (lv_at hl 0 rfl) ?_
  refine lv_iconst (v := nI 0) hx hb d_Md_put_1 (by decide +kernel) ?_
  refine pf_Md_30 hx hb hT hown hK hP hD hS 0 rfl (Nat.le_of_ble_eq_true rfl) d_Md_put_2 (fun H locs hP hD hS => ?_)
  have hP : va_P D classes [(mo, .inr (3, [.int (nI 0), .int (nI R), .ref ma, .int (nI tn), .ref mu, .int (nI on), .int (nI (c - o)), .ref mt, .ref mz, .ref mb, .int (nI (B c - B o)), .int (nI c), .int (nI dr), .int (nI de), .int g, .int fr, .int to, .int (nI nx)])), (ma, .inl (kX, 512, .inl xf)), (mu, .inl (kO, 512, .inl uf)), (mt, .inl (kT, 16384, .inl tf)), (mz, .inl (kZ, 16384, .inl zf)), (mb, .inl (kB, 16384, .inl bf))] H := hP
  have hD : va_D A [(mo, .inr (3, [.int (nI 0), .int (nI R), .ref ma, .int (nI tn), .ref mu, .int (nI on), .int (nI (c - o)), .ref mt, .ref mz, .ref mb, .int (nI (B c - B o)), .int (nI c), .int (nI dr), .int (nI de), .int g, .int fr, .int to, .int (nI nx)])), (ma, .inl (kX, 512, .inl xf)), (mu, .inl (kO, 512, .inl uf)), (mt, .inl (kT, 16384, .inl tf)), (mz, .inl (kZ, 16384, .inl zf)), (mb, .inl (kB, 16384, .inl bf))] := hD
  refine lv_aload_n hx hb d_Md_put_5 rfl (lv_at hl 0 rfl) ?_
  refine gf_Md_39 hx hb hT hown hK hP 0 rfl rfl d_Md_put_6 ?_
  refine lv_sipush (v := nI 512) hx hb d_Md_put_9 (by decide +kernel) ?_
  refine nv_icmp_ne (tgt := 17) hx hb (by omega) (by omega) d_Md_put_12 (by decide) (fun c_12 => ?_) (fun c_12 => ?_)
  · refine lv_aload_n hx hb d_Md_put_17 rfl (lv_at hl 0 rfl) ?_
    refine gf_Md_7 hx hb hT hown hK hP 0 rfl rfl d_Md_put_18 ?_
    refine lv_aload_n hx hb d_Md_put_21 rfl (lv_at hl 0 rfl) ?_
    refine gf_Md_39 hx hb hT hown hK hP 0 rfl rfl d_Md_put_22 ?_
    refine lv_iload_n hx hb d_Md_put_25 rfl (lv_at hl 1 rfl) ?_
    refine lv_i2b hx hb d_Md_put_26 rfl ?_
    refine nv_bast hx hb hK hP hD hS 1 0 rfl rfl (by omega) (by omega) (pk_vb b) d_Md_put_27 (fun H locs hP hD hS => ?_)
    have hP : va_P D classes [(mo, .inr (3, [.int (nI 0), .int (nI R), .ref ma, .int (nI tn), .ref mu, .int (nI on), .int (nI (c - o)), .ref mt, .ref mz, .ref mb, .int (nI (B c - B o)), .int (nI c), .int (nI dr), .int (nI de), .int g, .int fr, .int to, .int (nI nx)])), (ma, .inl (kX, 512, .inl (upd xf tn ((b).toInt8.toInt32)))), (mu, .inl (kO, 512, .inl uf)), (mt, .inl (kT, 16384, .inl tf)), (mz, .inl (kZ, 16384, .inl zf)), (mb, .inl (kB, 16384, .inl bf))] H := hP
    have hD : va_D A [(mo, .inr (3, [.int (nI 0), .int (nI R), .ref ma, .int (nI tn), .ref mu, .int (nI on), .int (nI (c - o)), .ref mt, .ref mz, .ref mb, .int (nI (B c - B o)), .int (nI c), .int (nI dr), .int (nI de), .int g, .int fr, .int to, .int (nI nx)])), (ma, .inl (kX, 512, .inl (upd xf tn ((b).toInt8.toInt32)))), (mu, .inl (kO, 512, .inl uf)), (mt, .inl (kT, 16384, .inl tf)), (mz, .inl (kZ, 16384, .inl zf)), (mb, .inl (kB, 16384, .inl bf))] := hD
    refine lv_aload_n hx hb d_Md_put_28 rfl (lv_at hl 0 rfl) ?_
    refine lv_dup hx hb d_Md_put_29 rfl ?_
    refine gf_Md_39 hx hb hT hown hK hP 0 rfl rfl d_Md_put_30 ?_
    refine lv_iconst (v := nI 1) hx hb d_Md_put_33 (by decide +kernel) ?_
    refine nv_iadd hx hb d_Md_put_34 ?_
    refine pf_Md_39 hx hb hT hown hK hP hD hS 0 rfl (Nat.le_of_ble_eq_true rfl) d_Md_put_35 (fun H locs hP hD hS => ?_)
    have hP : va_P D classes [(mo, .inr (3, [.int (nI 0), .int (nI R), .ref ma, .int (nI (tn + 1)), .ref mu, .int (nI on), .int (nI (c - o)), .ref mt, .ref mz, .ref mb, .int (nI (B c - B o)), .int (nI c), .int (nI dr), .int (nI de), .int g, .int fr, .int to, .int (nI nx)])), (ma, .inl (kX, 512, .inl (upd xf tn ((b).toInt8.toInt32)))), (mu, .inl (kO, 512, .inl uf)), (mt, .inl (kT, 16384, .inl tf)), (mz, .inl (kZ, 16384, .inl zf)), (mb, .inl (kB, 16384, .inl bf))] H := hP
    have hD : va_D A [(mo, .inr (3, [.int (nI 0), .int (nI R), .ref ma, .int (nI (tn + 1)), .ref mu, .int (nI on), .int (nI (c - o)), .ref mt, .ref mz, .ref mb, .int (nI (B c - B o)), .int (nI c), .int (nI dr), .int (nI de), .int g, .int fr, .int to, .int (nI nx)])), (ma, .inl (kX, 512, .inl (upd xf tn ((b).toInt8.toInt32)))), (mu, .inl (kO, 512, .inl uf)), (mt, .inl (kT, 16384, .inl tf)), (mz, .inl (kZ, 16384, .inl zf)), (mb, .inl (kB, 16384, .inl bf))] := hD
    refine lv_aload_n hx hb d_Md_put_38 rfl (lv_at hl 0 rfl) ?_
    refine gf_Md_39 hx hb hT hown hK hP 0 rfl rfl d_Md_put_39 ?_
    exact rw_iret (tn + 1, upd xf tn b.toInt8.toInt32) hx hb hr hlk hK hP hD hS d_Md_put_42 (Or.inr ⟨by omega, rfl, rfl, rfl⟩)
  · refine lv_iconst (v := (-1)) hx hb d_Md_put_15 (by decide +kernel) ?_
    exact rw_iret (tn, xf) hx hb hr hlk hK hP hD hS d_Md_put_16 (Or.inl ⟨c_12, rfl, rfl, rfl⟩)
set_option maxHeartbeats 4000000 in
set_option maxRecDepth 100000 in
/-- keep(t) -/
theorem c_Md_keep (l : Launch) (D : va_G) (mo ma mu mt mz mb : Nat) (kX kO kT kZ kB : ClassId) (R tn on : Nat) (g fr to : Int32) (nx o c : Nat) (T : Nat → Int32) (B : Nat → Nat) (S : Nat → Int32) (dr de : Nat) (xf uf tf zf bf : Nat → Int32) (sz : Nat) (t : Int32) (h : MdR R o c T B S tf zf bf) (htn : tn ≤ 512) (hcc : c < 1000) (hB : B c + tn ≤ 1000000) (hxf : by8 xf) : Met l y_Md_keep (wc y_Md_keep b_Md_keep 5 (some .int)) ({ frames := 1, cells := 0, slots := 0, locals := 22 }) (va_Pc [.ref mo, .int t] (rwB D (vM mo ma mu mt mz mb kX kO kT kZ kB R tn on (c - o) (B c - B o) c dr de g fr to nx xf uf tf zf bf) (yM kX kO kT kZ kB) sz)) (QI (fun (r : Int32) (u : Nat × Nat × (Nat → Int32) × (Nat → Nat) × (Nat → Int32) × Nat × (Nat → Int32) × (Nat → Int32) × (Nat → Int32)) => KpS R o c T B S dr tn xf t r u.1 u.2.1 u.2.2.1 u.2.2.2.1 u.2.2.2.2.1 u.2.2.2.2.2.1 ∧ MdR R u.1 u.2.1 u.2.2.1 u.2.2.2.1 u.2.2.2.2.1 u.2.2.2.2.2.2.1 u.2.2.2.2.2.2.2.1 u.2.2.2.2.2.2.2.2) D (fun u => (yM kX kO kT kZ kB)) (fun u => (vM mo ma mu mt mz mb kX kO kT kZ kB R 0 on (u.2.1 - (u.1)) (u.2.2.2.1 u.2.1 - u.2.2.2.1 (u.1)) (u.2.1) (u.2.2.2.2.2.1) de g fr to nx xf uf (u.2.2.2.2.2.2.1) (u.2.2.2.2.2.2.2.1) (u.2.2.2.2.2.2.2.2))) (va_A (vM mo ma mu mt mz mb kX kO kT kZ kB R tn on (c - o) (B c - B o) c dr de g fr to nx xf uf tf zf bf) sz)) 0 0 (va_A (vM mo ma mu mt mz mb kX kO kT kZ kB R tn on (c - o) (B c - B o) c dr de g fr to nx xf uf tf zf bf) sz) := by
  refine rw_startI (by decide) (Nat.le_of_ble_eq_true rfl) ?_
  intro p e s m below meth cd A hx hb hr hT hown hlk hml hnm hA hP hK hD hS ls hl
  have hown : s.vm.findClass R_Md = some m.cls := hown
  have hP : va_P D classes [(mo, .inr (3, [.int (nI 0), .int (nI R), .ref ma, .int (nI tn), .ref mu, .int (nI on), .int (nI (c - o)), .ref mt, .ref mz, .ref mb, .int (nI (B c - B o)), .int (nI c), .int (nI dr), .int (nI de), .int g, .int fr, .int to, .int (nI nx)])), (ma, .inl (kX, 512, .inl xf)), (mu, .inl (kO, 512, .inl uf)), (mt, .inl (kT, 16384, .inl tf)), (mz, .inl (kZ, 16384, .inl zf)), (mb, .inl (kB, 16384, .inl bf))] s.heap := hP
  have hD : va_D A [(mo, .inr (3, [.int (nI 0), .int (nI R), .ref ma, .int (nI tn), .ref mu, .int (nI on), .int (nI (c - o)), .ref mt, .ref mz, .ref mb, .int (nI (B c - B o)), .int (nI c), .int (nI dr), .int (nI de), .int g, .int fr, .int to, .int (nI nx)])), (ma, .inl (kX, 512, .inl xf)), (mu, .inl (kO, 512, .inl uf)), (mt, .inl (kT, 16384, .inl tf)), (mz, .inl (kZ, 16384, .inl zf)), (mb, .inl (kB, 16384, .inl bf))] := hD
  have hK : va_K D classes [(kX, .byte), (kO, .byte), (kT, .int), (kZ, .int), (kB, .byte)] s := hK
  have hl : lv_has ls 5 [(0, .ref mo), (1, .int t)] := hl
  obtain ⟨hs, hgT, hgZ, hgS, h8⟩ := id h
  obtain ⟨a1, a2, a3, a4, a5, a6, a7⟩ := id hs
  have hm := hs_mono hs
  have hoc := hm c o a3 (Nat.le_refl c)
  refine lv_aload_n hx hb d_Md_keep_0 rfl (lv_at hl 0 rfl) ?_
  refine lv_iconst (v := nI 0) hx hb d_Md_keep_1 (by decide +kernel) ?_
  refine pf_Md_30 hx hb hT hown hK hP hD hS 0 rfl (Nat.le_of_ble_eq_true rfl) d_Md_keep_2 (fun H locs hP hD hS => ?_)
  have hP : va_P D classes [(mo, .inr (3, [.int (nI 0), .int (nI R), .ref ma, .int (nI tn), .ref mu, .int (nI on), .int (nI (c - o)), .ref mt, .ref mz, .ref mb, .int (nI (B c - B o)), .int (nI c), .int (nI dr), .int (nI de), .int g, .int fr, .int to, .int (nI nx)])), (ma, .inl (kX, 512, .inl xf)), (mu, .inl (kO, 512, .inl uf)), (mt, .inl (kT, 16384, .inl tf)), (mz, .inl (kZ, 16384, .inl zf)), (mb, .inl (kB, 16384, .inl bf))] H := hP
  have hD : va_D A [(mo, .inr (3, [.int (nI 0), .int (nI R), .ref ma, .int (nI tn), .ref mu, .int (nI on), .int (nI (c - o)), .ref mt, .ref mz, .ref mb, .int (nI (B c - B o)), .int (nI c), .int (nI dr), .int (nI de), .int g, .int fr, .int to, .int (nI nx)])), (ma, .inl (kX, 512, .inl xf)), (mu, .inl (kO, 512, .inl uf)), (mt, .inl (kT, 16384, .inl tf)), (mz, .inl (kZ, 16384, .inl zf)), (mb, .inl (kB, 16384, .inl bf))] := hD
  refine lv_aload_n hx hb d_Md_keep_5 rfl (lv_at hl 0 rfl) ?_
  refine gf_Md_39 hx hb hT hown hK hP 0 rfl rfl d_Md_keep_6 ?_
  refine lv_istore_n (lv' := [(2, .int (nI tn)), (0, .ref mo), (1, .int t)]) hx hb d_Md_keep_9 rfl hl (by decide) rfl (fun ls hl => ?_)
  refine lv_aload_n hx hb d_Md_keep_10 rfl (lv_at hl 1 rfl) ?_
  refine lv_iconst (v := nI 0) hx hb d_Md_keep_11 (by decide +kernel) ?_
  refine pf_Md_39 hx hb hT hown hK hP hD hS 0 rfl (Nat.le_of_ble_eq_true rfl) d_Md_keep_12 (fun H locs hP hD hS => ?_)
  have hP : va_P D classes [(mo, .inr (3, [.int (nI 0), .int (nI R), .ref ma, .int (nI 0), .ref mu, .int (nI on), .int (nI (c - o)), .ref mt, .ref mz, .ref mb, .int (nI (B c - B o)), .int (nI c), .int (nI dr), .int (nI de), .int g, .int fr, .int to, .int (nI nx)])), (ma, .inl (kX, 512, .inl xf)), (mu, .inl (kO, 512, .inl uf)), (mt, .inl (kT, 16384, .inl tf)), (mz, .inl (kZ, 16384, .inl zf)), (mb, .inl (kB, 16384, .inl bf))] H := hP
  have hD : va_D A [(mo, .inr (3, [.int (nI 0), .int (nI R), .ref ma, .int (nI 0), .ref mu, .int (nI on), .int (nI (c - o)), .ref mt, .ref mz, .ref mb, .int (nI (B c - B o)), .int (nI c), .int (nI dr), .int (nI de), .int g, .int fr, .int to, .int (nI nx)])), (ma, .inl (kX, 512, .inl xf)), (mu, .inl (kO, 512, .inl uf)), (mt, .inl (kT, 16384, .inl tf)), (mz, .inl (kZ, 16384, .inl zf)), (mb, .inl (kB, 16384, .inl bf))] := hD
  refine lv_iload_n hx hb d_Md_keep_15 rfl (lv_at hl 0 rfl) ?_
  refine nv_if_ne (tgt := 21) hx hb (by omega) d_Md_keep_16 (by decide) (fun c_16 => ?_) (fun c_16 => ?_)
  · refine lv_iload_n hx hb d_Md_keep_21 rfl (lv_at hl 0 rfl) ?_
    refine lv_aload_n hx hb d_Md_keep_22 rfl (lv_at hl 1 rfl) ?_
    refine gf_Md_26 hx hb hT hown hK hP 0 rfl rfl d_Md_keep_23 ?_
    refine nv_icmp_le (tgt := 32) hx hb (by omega) (by omega) d_Md_keep_26 (by decide) (fun c_26 => ?_) (fun c_26 => ?_)
    · refine lv_iconst (v := nI 0) hx hb d_Md_keep_32 (by decide +kernel) ?_
      refine lv_istore_n (lv' := [(3, .int (nI 0)), (2, .int (nI tn)), (0, .ref mo), (1, .int t)]) hx hb d_Md_keep_33 rfl hl (by decide) rfl (fun ls hl => ?_)
      refine lp_ind (α := Nat × (Nat → Int32) × (Nat → Int32) × (Nat → Int32)) (fun n x H locs ls => match x with
        | (k, ft, fz, fb) => o ≤ k ∧ k ≤ c ∧ c < k + n ∧ (∀ i, o ≤ i → i < k → R < B c - B i + tn) ∧ MdR R k c T B S ft fz fb ∧ va_P D classes [(mo, .inr (3, [.int (nI 0), .int (nI R), .ref ma, .int (nI 0), .ref mu, .int (nI on), .int (nI (c - k)), .ref mt, .ref mz, .ref mb, .int (nI (B c - B k)), .int (nI c), .int (nI dr), .int (nI de), .int g, .int fr, .int to, .int (nI nx)])), (ma, .inl (kX, 512, .inl xf)), (mu, .inl (kO, 512, .inl uf)), (mt, .inl (kT, 16384, .inl ft)), (mz, .inl (kZ, 16384, .inl fz)), (mb, .inl (kB, 16384, .inl fb))] H ∧ va_D A [(mo, .inr (3, [.int (nI 0), .int (nI R), .ref ma, .int (nI 0), .ref mu, .int (nI on), .int (nI (c - k)), .ref mt, .ref mz, .ref mb, .int (nI (B c - B k)), .int (nI c), .int (nI dr), .int (nI de), .int g, .int fr, .int to, .int (nI nx)])), (ma, .inl (kX, 512, .inl xf)), (mu, .inl (kO, 512, .inl uf)), (mt, .inl (kT, 16384, .inl ft)), (mz, .inl (kZ, 16384, .inl fz)), (mb, .inl (kB, 16384, .inl fb))] ∧ va_S A s.heap H locs ∧ lv_has ls 5 [(3, .int (nI (k - o))), (2, .int (nI tn)), (0, .ref mo), (1, .int t)]) ?_ (fun x H locs ls hq => by obtain ⟨k, ft, fz, fb⟩ := x; obtain ⟨k1, k2, k3, -⟩ := hq; omega) (c + 1) (o, tf, zf, bf) _ _ _ ⟨Nat.le_refl o, a3, by omega, fun i p q => by omega, h, hP, hD, hS, by rw [Nat.sub_self]; exact hl⟩
      clear hP hD hS hl
      intro n1 ih x H locs ls hq
      obtain ⟨k, ft, fz, fb⟩ := x
      obtain ⟨k1, k2, k3, k4, h, hP, hD, hS, hl⟩ := hq
      obtain ⟨hs, hgT, hgZ, hgS, h8⟩ := id h
      have mk := hs_mono hs c k k2 (Nat.le_refl c)
      have mr := hs.2.2.2.2.2.1
      refine lv_aload_n hx hb d_Md_keep_34 rfl (lv_at hl 2 rfl) ?_
      refine gf_Md_33 hx hb hT hown hK hP 0 rfl rfl d_Md_keep_35 ?_
      refine lv_iload_n hx hb d_Md_keep_38 rfl (lv_at hl 1 rfl) ?_
      refine nv_iadd hx hb d_Md_keep_39 ?_
      refine lv_aload_n hx hb d_Md_keep_40 rfl (lv_at hl 2 rfl) ?_
      refine gf_Md_26 hx hb hT hown hK hP 0 rfl rfl d_Md_keep_41 ?_
      refine nv_icmp_le (tgt := 57) hx hb (by omega) (by omega) d_Md_keep_44 (by decide) (fun c_44 => ?_) (fun c_44 => ?_)
      · clear ih
        refine lv_aload_n hx hb d_Md_keep_57 rfl (lv_at hl 2 rfl) ?_
        refine lv_dup hx hb d_Md_keep_58 rfl ?_
        refine gf_Md_45 hx hb hT hown hK hP 0 rfl rfl d_Md_keep_59 ?_
        refine lv_iload_n hx hb d_Md_keep_62 rfl (lv_at hl 0 rfl) ?_
        refine nv_iadd hx hb d_Md_keep_63 ?_
        refine pf_Md_45 hx hb hT hown hK hP hD hS 0 rfl (Nat.le_of_ble_eq_true rfl) d_Md_keep_64 (fun H locs hP hD hS => ?_)
        have hP : va_P D classes [(mo, .inr (3, [.int (nI 0), .int (nI R), .ref ma, .int (nI 0), .ref mu, .int (nI on), .int (nI (c - k)), .ref mt, .ref mz, .ref mb, .int (nI (B c - B k)), .int (nI c), .int (nI (dr + (k - o))), .int (nI de), .int g, .int fr, .int to, .int (nI nx)])), (ma, .inl (kX, 512, .inl xf)), (mu, .inl (kO, 512, .inl uf)), (mt, .inl (kT, 16384, .inl ft)), (mz, .inl (kZ, 16384, .inl fz)), (mb, .inl (kB, 16384, .inl fb))] H := hP
        have hD : va_D A [(mo, .inr (3, [.int (nI 0), .int (nI R), .ref ma, .int (nI 0), .ref mu, .int (nI on), .int (nI (c - k)), .ref mt, .ref mz, .ref mb, .int (nI (B c - B k)), .int (nI c), .int (nI (dr + (k - o))), .int (nI de), .int g, .int fr, .int to, .int (nI nx)])), (ma, .inl (kX, 512, .inl xf)), (mu, .inl (kO, 512, .inl uf)), (mt, .inl (kT, 16384, .inl ft)), (mz, .inl (kZ, 16384, .inl fz)), (mb, .inl (kB, 16384, .inl fb))] := hD
        refine lv_iconst (v := nI 0) hx hb d_Md_keep_67 (by decide +kernel) ?_
        refine lv_istore (lv' := [(4, .int (nI 0)), (3, .int (nI (k - o))), (2, .int (nI tn)), (0, .ref mo), (1, .int t)]) hx hb d_Md_keep_68 hl (by decide) rfl (fun ls hl => ?_)
        refine lp_ind (α := Nat × (Nat → Int32)) (fun n x H locs ls => match x with
          | (j, f) => j ≤ tn ∧ tn < j + n ∧ (∀ i, i < B c - B k → f i = fb i) ∧ (∀ i, i < j → f (B c - B k + i) = xf i) ∧ by8 f ∧ va_P D classes [(mo, .inr (3, [.int (nI 0), .int (nI R), .ref ma, .int (nI 0), .ref mu, .int (nI on), .int (nI (c - k)), .ref mt, .ref mz, .ref mb, .int (nI (B c - B k)), .int (nI c), .int (nI (dr + (k - o))), .int (nI de), .int g, .int fr, .int to, .int (nI nx)])), (ma, .inl (kX, 512, .inl xf)), (mu, .inl (kO, 512, .inl uf)), (mt, .inl (kT, 16384, .inl ft)), (mz, .inl (kZ, 16384, .inl fz)), (mb, .inl (kB, 16384, .inl f))] H ∧ va_D A [(mo, .inr (3, [.int (nI 0), .int (nI R), .ref ma, .int (nI 0), .ref mu, .int (nI on), .int (nI (c - k)), .ref mt, .ref mz, .ref mb, .int (nI (B c - B k)), .int (nI c), .int (nI (dr + (k - o))), .int (nI de), .int g, .int fr, .int to, .int (nI nx)])), (ma, .inl (kX, 512, .inl xf)), (mu, .inl (kO, 512, .inl uf)), (mt, .inl (kT, 16384, .inl ft)), (mz, .inl (kZ, 16384, .inl fz)), (mb, .inl (kB, 16384, .inl f))] ∧ va_S A s.heap H locs ∧ lv_has ls 5 [(4, .int (nI j)), (3, .int (nI (k - o))), (2, .int (nI tn)), (0, .ref mo), (1, .int t)]) ?_ (fun x H locs ls hq => by obtain ⟨j, f⟩ := x; obtain ⟨k1, k2, -⟩ := hq; omega) (tn + 1) (0, fb) _ _ _ ⟨by omega, by omega, fun i _ => rfl, fun i q => by omega, h8, hP, hD, hS, hl⟩
        clear hP hD hS hl
        intro n2 ih x H locs ls hq
        obtain ⟨j, f⟩ := x
        obtain ⟨j1, j2, j3, j4, j5, hP, hD, hS, hl⟩ := hq
        refine lv_iload hx hb d_Md_keep_70 (lv_at hl 0 rfl) ?_
        refine lv_iload_n hx hb d_Md_keep_72 rfl (lv_at hl 2 rfl) ?_
        refine nv_icmp_ge (tgt := 101) hx hb (by omega) (by omega) d_Md_keep_73 (by decide) (fun c_73 => ?_) (fun c_73 => ?_)
        · refine lv_aload_n hx hb d_Md_keep_101 rfl (lv_at hl 3 rfl) ?_
          refine lv_dup hx hb d_Md_keep_102 rfl ?_
          refine gf_Md_33 hx hb hT hown hK hP 0 rfl rfl d_Md_keep_103 ?_
          refine lv_iload_n hx hb d_Md_keep_106 rfl (lv_at hl 2 rfl) ?_
          refine nv_iadd hx hb d_Md_keep_107 ?_
          refine nv_as (y := (updB B (c + 1) (B c + tn)) (c + 1) - (updB B (c + 1) (B c + tn)) k) (by rw [updB_s, updB_n (show k ≠ c + 1 by omega)]; omega) ?_
          refine pf_Md_33 hx hb hT hown hK hP hD hS 0 rfl (Nat.le_of_ble_eq_true rfl) d_Md_keep_108 (fun H locs hP hD hS => ?_)
          have hP : va_P D classes [(mo, .inr (3, [.int (nI 0), .int (nI R), .ref ma, .int (nI 0), .ref mu, .int (nI on), .int (nI (c - k)), .ref mt, .ref mz, .ref mb, .int (nI ((updB B (c + 1) (B c + tn)) (c + 1) - (updB B (c + 1) (B c + tn)) k)), .int (nI c), .int (nI (dr + (k - o))), .int (nI de), .int g, .int fr, .int to, .int (nI nx)])), (ma, .inl (kX, 512, .inl xf)), (mu, .inl (kO, 512, .inl uf)), (mt, .inl (kT, 16384, .inl ft)), (mz, .inl (kZ, 16384, .inl fz)), (mb, .inl (kB, 16384, .inl f))] H := hP
          have hD : va_D A [(mo, .inr (3, [.int (nI 0), .int (nI R), .ref ma, .int (nI 0), .ref mu, .int (nI on), .int (nI (c - k)), .ref mt, .ref mz, .ref mb, .int (nI ((updB B (c + 1) (B c + tn)) (c + 1) - (updB B (c + 1) (B c + tn)) k)), .int (nI c), .int (nI (dr + (k - o))), .int (nI de), .int g, .int fr, .int to, .int (nI nx)])), (ma, .inl (kX, 512, .inl xf)), (mu, .inl (kO, 512, .inl uf)), (mt, .inl (kT, 16384, .inl ft)), (mz, .inl (kZ, 16384, .inl fz)), (mb, .inl (kB, 16384, .inl f))] := hD
          refine lv_aload_n hx hb d_Md_keep_111 rfl (lv_at hl 3 rfl) ?_
          refine gf_Md_16 hx hb hT hown hK hP 0 rfl rfl d_Md_keep_112 ?_
          refine lv_aload_n hx hb d_Md_keep_115 rfl (lv_at hl 3 rfl) ?_
          refine gf_Md_36 hx hb hT hown hK hP 0 rfl rfl d_Md_keep_116 ?_
          refine lv_iload_n hx hb d_Md_keep_119 rfl (lv_at hl 4 rfl) ?_
          refine nv_iast hx hb hK hP hD hS 3 2 rfl rfl (by omega) (by omega) d_Md_keep_120 (fun H locs hP hD hS => ?_)
          have hP : va_P D classes [(mo, .inr (3, [.int (nI 0), .int (nI R), .ref ma, .int (nI 0), .ref mu, .int (nI on), .int (nI (c - k)), .ref mt, .ref mz, .ref mb, .int (nI ((updB B (c + 1) (B c + tn)) (c + 1) - (updB B (c + 1) (B c + tn)) k)), .int (nI c), .int (nI (dr + (k - o))), .int (nI de), .int g, .int fr, .int to, .int (nI nx)])), (ma, .inl (kX, 512, .inl xf)), (mu, .inl (kO, 512, .inl uf)), (mt, .inl (kT, 16384, .inl (upd ft (c - k) t))), (mz, .inl (kZ, 16384, .inl fz)), (mb, .inl (kB, 16384, .inl f))] H := hP
          have hD : va_D A [(mo, .inr (3, [.int (nI 0), .int (nI R), .ref ma, .int (nI 0), .ref mu, .int (nI on), .int (nI (c - k)), .ref mt, .ref mz, .ref mb, .int (nI ((updB B (c + 1) (B c + tn)) (c + 1) - (updB B (c + 1) (B c + tn)) k)), .int (nI c), .int (nI (dr + (k - o))), .int (nI de), .int g, .int fr, .int to, .int (nI nx)])), (ma, .inl (kX, 512, .inl xf)), (mu, .inl (kO, 512, .inl uf)), (mt, .inl (kT, 16384, .inl (upd ft (c - k) t))), (mz, .inl (kZ, 16384, .inl fz)), (mb, .inl (kB, 16384, .inl f))] := hD
          refine lv_aload_n hx hb d_Md_keep_121 rfl (lv_at hl 3 rfl) ?_
          refine gf_Md_20 hx hb hT hown hK hP 0 rfl rfl d_Md_keep_122 ?_
          refine lv_aload_n hx hb d_Md_keep_125 rfl (lv_at hl 3 rfl) ?_
          refine gf_Md_36 hx hb hT hown hK hP 0 rfl rfl d_Md_keep_126 ?_
          refine lv_iload_n hx hb d_Md_keep_129 rfl (lv_at hl 2 rfl) ?_
          refine nv_iast hx hb hK hP hD hS 4 3 rfl rfl (by omega) (by omega) d_Md_keep_130 (fun H locs hP hD hS => ?_)
          have hP : va_P D classes [(mo, .inr (3, [.int (nI 0), .int (nI R), .ref ma, .int (nI 0), .ref mu, .int (nI on), .int (nI (c - k)), .ref mt, .ref mz, .ref mb, .int (nI ((updB B (c + 1) (B c + tn)) (c + 1) - (updB B (c + 1) (B c + tn)) k)), .int (nI c), .int (nI (dr + (k - o))), .int (nI de), .int g, .int fr, .int to, .int (nI nx)])), (ma, .inl (kX, 512, .inl xf)), (mu, .inl (kO, 512, .inl uf)), (mt, .inl (kT, 16384, .inl (upd ft (c - k) t))), (mz, .inl (kZ, 16384, .inl (upd fz (c - k) (nI tn)))), (mb, .inl (kB, 16384, .inl f))] H := hP
          have hD : va_D A [(mo, .inr (3, [.int (nI 0), .int (nI R), .ref ma, .int (nI 0), .ref mu, .int (nI on), .int (nI (c - k)), .ref mt, .ref mz, .ref mb, .int (nI ((updB B (c + 1) (B c + tn)) (c + 1) - (updB B (c + 1) (B c + tn)) k)), .int (nI c), .int (nI (dr + (k - o))), .int (nI de), .int g, .int fr, .int to, .int (nI nx)])), (ma, .inl (kX, 512, .inl xf)), (mu, .inl (kO, 512, .inl uf)), (mt, .inl (kT, 16384, .inl (upd ft (c - k) t))), (mz, .inl (kZ, 16384, .inl (upd fz (c - k) (nI tn)))), (mb, .inl (kB, 16384, .inl f))] := hD
          refine lv_aload_n hx hb d_Md_keep_131 rfl (lv_at hl 3 rfl) ?_
          refine lv_dup hx hb d_Md_keep_132 rfl ?_
          refine gf_Md_36 hx hb hT hown hK hP 0 rfl rfl d_Md_keep_133 ?_
          refine lv_iconst (v := nI 1) hx hb d_Md_keep_136 (by decide +kernel) ?_
          refine nv_iadd hx hb d_Md_keep_137 ?_
          refine nv_as (y := c + 1 - k) (by omega) ?_
          refine pf_Md_36 hx hb hT hown hK hP hD hS 0 rfl (Nat.le_of_ble_eq_true rfl) d_Md_keep_138 (fun H locs hP hD hS => ?_)
          have hP : va_P D classes [(mo, .inr (3, [.int (nI 0), .int (nI R), .ref ma, .int (nI 0), .ref mu, .int (nI on), .int (nI (c + 1 - k)), .ref mt, .ref mz, .ref mb, .int (nI ((updB B (c + 1) (B c + tn)) (c + 1) - (updB B (c + 1) (B c + tn)) k)), .int (nI c), .int (nI (dr + (k - o))), .int (nI de), .int g, .int fr, .int to, .int (nI nx)])), (ma, .inl (kX, 512, .inl xf)), (mu, .inl (kO, 512, .inl uf)), (mt, .inl (kT, 16384, .inl (upd ft (c - k) t))), (mz, .inl (kZ, 16384, .inl (upd fz (c - k) (nI tn)))), (mb, .inl (kB, 16384, .inl f))] H := hP
          have hD : va_D A [(mo, .inr (3, [.int (nI 0), .int (nI R), .ref ma, .int (nI 0), .ref mu, .int (nI on), .int (nI (c + 1 - k)), .ref mt, .ref mz, .ref mb, .int (nI ((updB B (c + 1) (B c + tn)) (c + 1) - (updB B (c + 1) (B c + tn)) k)), .int (nI c), .int (nI (dr + (k - o))), .int (nI de), .int g, .int fr, .int to, .int (nI nx)])), (ma, .inl (kX, 512, .inl xf)), (mu, .inl (kO, 512, .inl uf)), (mt, .inl (kT, 16384, .inl (upd ft (c - k) t))), (mz, .inl (kZ, 16384, .inl (upd fz (c - k) (nI tn)))), (mb, .inl (kB, 16384, .inl f))] := hD
          refine lv_aload_n hx hb d_Md_keep_141 rfl (lv_at hl 3 rfl) ?_
          refine lv_dup hx hb d_Md_keep_142 rfl ?_
          refine gf_Md_48 hx hb hT hown hK hP 0 rfl rfl d_Md_keep_143 ?_
          refine lv_iconst (v := nI 1) hx hb d_Md_keep_146 (by decide +kernel) ?_
          refine nv_iadd hx hb d_Md_keep_147 ?_
          refine pf_Md_48 hx hb hT hown hK hP hD hS 0 rfl (Nat.le_of_ble_eq_true rfl) d_Md_keep_148 (fun H locs hP hD hS => ?_)
          have hP : va_P D classes [(mo, .inr (3, [.int (nI 0), .int (nI R), .ref ma, .int (nI 0), .ref mu, .int (nI on), .int (nI (c + 1 - k)), .ref mt, .ref mz, .ref mb, .int (nI ((updB B (c + 1) (B c + tn)) (c + 1) - (updB B (c + 1) (B c + tn)) k)), .int (nI (c + 1)), .int (nI (dr + (k - o))), .int (nI de), .int g, .int fr, .int to, .int (nI nx)])), (ma, .inl (kX, 512, .inl xf)), (mu, .inl (kO, 512, .inl uf)), (mt, .inl (kT, 16384, .inl (upd ft (c - k) t))), (mz, .inl (kZ, 16384, .inl (upd fz (c - k) (nI tn)))), (mb, .inl (kB, 16384, .inl f))] H := hP
          have hD : va_D A [(mo, .inr (3, [.int (nI 0), .int (nI R), .ref ma, .int (nI 0), .ref mu, .int (nI on), .int (nI (c + 1 - k)), .ref mt, .ref mz, .ref mb, .int (nI ((updB B (c + 1) (B c + tn)) (c + 1) - (updB B (c + 1) (B c + tn)) k)), .int (nI (c + 1)), .int (nI (dr + (k - o))), .int (nI de), .int g, .int fr, .int to, .int (nI nx)])), (ma, .inl (kX, 512, .inl xf)), (mu, .inl (kO, 512, .inl uf)), (mt, .inl (kT, 16384, .inl (upd ft (c - k) t))), (mz, .inl (kZ, 16384, .inl (upd fz (c - k) (nI tn)))), (mb, .inl (kB, 16384, .inl f))] := hD
          refine lv_iload_n hx hb d_Md_keep_151 rfl (lv_at hl 1 rfl) ?_
          exact rw_iret (k, c + 1, upd T c t, (updB B (c + 1) (B c + tn)), apS S (B c) tn xf, dr + (k - o), (upd ft (c - k) t), (upd fz (c - k) (nI tn)), f) hx hb hr hlk hK hP hD hS d_Md_keep_152 ⟨Or.inr (Or.inr ⟨by omega, c_26, ⟨k1, k2, c_44, k4⟩, rfl, rfl, rfl, rfl, rfl, rfl⟩), mdr_keep h (by omega) htn c_44 hcc hB j3 (fun i q => j4 i (by omega)) j5⟩
        · refine lv_aload_n hx hb d_Md_keep_76 rfl (lv_at hl 3 rfl) ?_
          refine gf_Md_23 hx hb hT hown hK hP 0 rfl rfl d_Md_keep_77 ?_
          refine lv_aload_n hx hb d_Md_keep_80 rfl (lv_at hl 3 rfl) ?_
          refine gf_Md_33 hx hb hT hown hK hP 0 rfl rfl d_Md_keep_81 ?_
          refine lv_iload hx hb d_Md_keep_84 (lv_at hl 0 rfl) ?_
          refine nv_iadd hx hb d_Md_keep_86 ?_
          refine lv_aload_n hx hb d_Md_keep_87 rfl (lv_at hl 3 rfl) ?_
          refine gf_Md_7 hx hb hT hown hK hP 0 rfl rfl d_Md_keep_88 ?_
          refine lv_iload hx hb d_Md_keep_91 (lv_at hl 0 rfl) ?_
          refine nv_bald hx hb hK hP 1 0 rfl rfl (by omega) (by omega) d_Md_keep_93 ?_
          refine nv_bast hx hb hK hP hD hS 5 4 rfl rfl (by omega) (by omega) (by8_nar hxf _) d_Md_keep_94 (fun H locs hP hD hS => ?_)
          have hP : va_P D classes [(mo, .inr (3, [.int (nI 0), .int (nI R), .ref ma, .int (nI 0), .ref mu, .int (nI on), .int (nI (c - k)), .ref mt, .ref mz, .ref mb, .int (nI (B c - B k)), .int (nI c), .int (nI (dr + (k - o))), .int (nI de), .int g, .int fr, .int to, .int (nI nx)])), (ma, .inl (kX, 512, .inl xf)), (mu, .inl (kO, 512, .inl uf)), (mt, .inl (kT, 16384, .inl ft)), (mz, .inl (kZ, 16384, .inl fz)), (mb, .inl (kB, 16384, .inl (upd f ((B c - B k) + j) (xf j))))] H := hP
          have hD : va_D A [(mo, .inr (3, [.int (nI 0), .int (nI R), .ref ma, .int (nI 0), .ref mu, .int (nI on), .int (nI (c - k)), .ref mt, .ref mz, .ref mb, .int (nI (B c - B k)), .int (nI c), .int (nI (dr + (k - o))), .int (nI de), .int g, .int fr, .int to, .int (nI nx)])), (ma, .inl (kX, 512, .inl xf)), (mu, .inl (kO, 512, .inl uf)), (mt, .inl (kT, 16384, .inl ft)), (mz, .inl (kZ, 16384, .inl fz)), (mb, .inl (kB, 16384, .inl (upd f ((B c - B k) + j) (xf j))))] := hD
          refine nv_iinc (lv' := [(4, .int (nI (j + 1))), (3, .int (nI (k - o))), (2, .int (nI tn)), (0, .ref mo), (1, .int t)]) hx hb d_Md_keep_95 hl (k := 0) rfl (by decide) rfl (fun ls hl => ?_)
          refine lv_goto (tgt := 70) hx hb d_Md_keep_98 (by decide) ?_
          exact ih (j + 1, (upd f ((B c - B k) + j) (xf j))) _ _ _ ⟨by omega, by omega, fun i q => by rw [pk_un (by omega), j3 i q], fun i q => by
              rcases Nat.lt_or_ge i j with z | z
              · rw [pk_un (by omega), j4 i z]
              · rw [show i = j by omega, pk_us], by8_upd j5 (hxf _), hP, hD, hS, hl⟩
      · have kc : k < c := by
          rcases Nat.lt_or_ge k c with z | z
          · exact z
          · rw [show k = c by omega] at c_44; omega
        refine lv_aload_n hx hb d_Md_keep_47 rfl (lv_at hl 2 rfl) ?_
        refine rw_callv (ci := 3) (As := []) (rest := []) (wr := []) hx hb hml hT hown (c_Md_goes l D mo ma mu mt mz mb kX kO kT kZ kB R 0 on g fr to nx k c T B S dr de xf uf ft fz fb H.size h kc) (cs_Md_42 hT ⟨(Nat.le_of_ble_eq_true rfl), (Nat.le_of_ble_eq_true rfl)⟩) (hK.sub [0, 1, 2, 3, 4] rfl) hP hD hS hA [0, 1, 2, 3, 4, 5] [] rfl rfl (by decide) (by decide) (by decide) 0 rfl rfl rfl hl.1 rfl (Nat.le_of_ble_eq_true rfl) d_Md_keep_48 ⟨(Nat.le_of_ble_eq_true rfl), (Nat.le_of_ble_eq_true rfl)⟩ (fun u H locs hw hKn hP hD hS => ?_)
        obtain ⟨ft2, fz2, fb2⟩ := u
        dsimp only at hw
        have hP : va_P D classes [(mo, .inr (3, [.int (nI 0), .int (nI R), .ref ma, .int (nI 0), .ref mu, .int (nI on), .int (nI (c - (k + 1))), .ref mt, .ref mz, .ref mb, .int (nI (B c - B (k + 1))), .int (nI c), .int (nI dr), .int (nI de), .int g, .int fr, .int to, .int (nI nx)])), (ma, .inl (kX, 512, .inl xf)), (mu, .inl (kO, 512, .inl uf)), (mt, .inl (kT, 16384, .inl ft2)), (mz, .inl (kZ, 16384, .inl fz2)), (mb, .inl (kB, 16384, .inl fb2))] H := hP.sub [0, 1, 2, 3, 4, 5] rfl
        have hD : va_D A [(mo, .inr (3, [.int (nI 0), .int (nI R), .ref ma, .int (nI 0), .ref mu, .int (nI on), .int (nI (c - (k + 1))), .ref mt, .ref mz, .ref mb, .int (nI (B c - B (k + 1))), .int (nI c), .int (nI dr), .int (nI de), .int g, .int fr, .int to, .int (nI nx)])), (ma, .inl (kX, 512, .inl xf)), (mu, .inl (kO, 512, .inl uf)), (mt, .inl (kT, 16384, .inl ft2)), (mz, .inl (kZ, 16384, .inl fz2)), (mb, .inl (kB, 16384, .inl fb2))] := hD.sub [0, 1, 2, 3, 4, 5] (by decide) rfl
        refine nv_iinc (lv' := [(3, .int (nI ((k - o) + 1))), (2, .int (nI tn)), (0, .ref mo), (1, .int t)]) hx hb d_Md_keep_51 hl (k := 0) rfl (by decide) rfl (fun ls hl => ?_)
        refine lv_goto (tgt := 34) hx hb d_Md_keep_54 (by decide) ?_
        exact ih (k + 1, ft2, fz2, fb2) _ _ _ ⟨by omega, by omega, by omega, fun i p q => by
            rcases Nat.lt_or_ge i k with z | z
            · exact k4 i p z
            · rw [show i = k by omega]; exact c_44, hw, hP, hD, hS, by rw [show k + 1 - o = k - o + 1 by omega]; exact hl⟩
    · refine lv_bipush (v := (-2)) hx hb d_Md_keep_29 (by decide +kernel) ?_
      exact rw_iret (o, c, T, B, S, dr, tf, zf, bf) hx hb hr hlk hK hP hD hS d_Md_keep_31 ⟨Or.inr (Or.inl ⟨by omega, c_26, rfl, rfl, rfl, rfl, rfl, rfl, rfl⟩), h⟩
  · refine lv_iconst (v := (-1)) hx hb d_Md_keep_19 (by decide +kernel) ?_
    exact rw_iret (o, c, T, B, S, dr, tf, zf, bf) hx hb hr hlk hK hP hD hS d_Md_keep_20 ⟨Or.inl ⟨c_16, rfl, rfl, rfl, rfl, rfl, rfl, rfl⟩, h⟩
set_option maxHeartbeats 4000000 in
set_option maxRecDepth 100000 in
/-- delete(t) -/
theorem c_Md_delete (l : Launch) (D : va_G) (mo ma mu mt mz mb : Nat) (kX kO kT kZ kB : ClassId) (R tn on : Nat) (g fr to : Int32) (nx o c : Nat) (T : Nat → Int32) (B : Nat → Nat) (S : Nat → Int32) (dr de : Nat) (xf uf tf zf bf : Nat → Int32) (sz : Nat) (t : Int32) (h : MdR R o c T B S tf zf bf) : Met l y_Md_delete (wc y_Md_delete b_Md_delete 3 (some .int)) ({ frames := 1, cells := 0, slots := 0, locals := 22 }) (va_Pc [.ref mo, .int t] (rwB D (vM mo ma mu mt mz mb kX kO kT kZ kB R tn on (c - o) (B c - B o) c dr de g fr to nx xf uf tf zf bf) (yM kX kO kT kZ kB) sz)) (QI (fun (r : Int32) (u : Nat × (Nat → Int32) × (Nat → Int32) × (Nat → Int32)) => r = nI (u.1 - o) ∧ DelTo c T t o u.1 ∧ MdR R u.1 c T B S u.2.1 u.2.2.1 u.2.2.2) D (fun u => (yM kX kO kT kZ kB)) (fun u => (vM mo ma mu mt mz mb kX kO kT kZ kB R tn on (c - (u.1)) (B c - B (u.1)) c dr (de + (u.1 - o)) g fr to nx xf uf (u.2.1) (u.2.2.1) (u.2.2.2))) (va_A (vM mo ma mu mt mz mb kX kO kT kZ kB R tn on (c - o) (B c - B o) c dr de g fr to nx xf uf tf zf bf) sz)) 0 0 (va_A (vM mo ma mu mt mz mb kX kO kT kZ kB R tn on (c - o) (B c - B o) c dr de g fr to nx xf uf tf zf bf) sz) := by
  refine rw_startI (by decide) (Nat.le_of_ble_eq_true rfl) ?_
  intro p e s m below meth cd A hx hb hr hT hown hlk hml hnm hA hP hK hD hS ls hl
  have hown : s.vm.findClass R_Md = some m.cls := hown
  have hP : va_P D classes [(mo, .inr (3, [.int (nI 0), .int (nI R), .ref ma, .int (nI tn), .ref mu, .int (nI on), .int (nI (c - o)), .ref mt, .ref mz, .ref mb, .int (nI (B c - B o)), .int (nI c), .int (nI dr), .int (nI de), .int g, .int fr, .int to, .int (nI nx)])), (ma, .inl (kX, 512, .inl xf)), (mu, .inl (kO, 512, .inl uf)), (mt, .inl (kT, 16384, .inl tf)), (mz, .inl (kZ, 16384, .inl zf)), (mb, .inl (kB, 16384, .inl bf))] s.heap := hP
  have hD : va_D A [(mo, .inr (3, [.int (nI 0), .int (nI R), .ref ma, .int (nI tn), .ref mu, .int (nI on), .int (nI (c - o)), .ref mt, .ref mz, .ref mb, .int (nI (B c - B o)), .int (nI c), .int (nI dr), .int (nI de), .int g, .int fr, .int to, .int (nI nx)])), (ma, .inl (kX, 512, .inl xf)), (mu, .inl (kO, 512, .inl uf)), (mt, .inl (kT, 16384, .inl tf)), (mz, .inl (kZ, 16384, .inl zf)), (mb, .inl (kB, 16384, .inl bf))] := hD
  have hK : va_K D classes [(kX, .byte), (kO, .byte), (kT, .int), (kZ, .int), (kB, .byte)] s := hK
  have hl : lv_has ls 3 [(0, .ref mo), (1, .int t)] := hl
  obtain ⟨hs, hgT, hgZ, hgS, h8⟩ := id h
  obtain ⟨a1, a2, a3, a4, a5, a6, a7⟩ := id hs
  have hm := hs_mono hs
  have hoc := hm c o a3 (Nat.le_refl c)
  refine lv_aload_n hx hb d_Md_delete_0 rfl (lv_at hl 0 rfl) ?_
  refine lv_iconst (v := nI 0) hx hb d_Md_delete_1 (by decide +kernel) ?_
  refine pf_Md_30 hx hb hT hown hK hP hD hS 0 rfl (Nat.le_of_ble_eq_true rfl) d_Md_delete_2 (fun H locs hP hD hS => ?_)
  have hP : va_P D classes [(mo, .inr (3, [.int (nI 0), .int (nI R), .ref ma, .int (nI tn), .ref mu, .int (nI on), .int (nI (c - o)), .ref mt, .ref mz, .ref mb, .int (nI (B c - B o)), .int (nI c), .int (nI dr), .int (nI de), .int g, .int fr, .int to, .int (nI nx)])), (ma, .inl (kX, 512, .inl xf)), (mu, .inl (kO, 512, .inl uf)), (mt, .inl (kT, 16384, .inl tf)), (mz, .inl (kZ, 16384, .inl zf)), (mb, .inl (kB, 16384, .inl bf))] H := hP
  have hD : va_D A [(mo, .inr (3, [.int (nI 0), .int (nI R), .ref ma, .int (nI tn), .ref mu, .int (nI on), .int (nI (c - o)), .ref mt, .ref mz, .ref mb, .int (nI (B c - B o)), .int (nI c), .int (nI dr), .int (nI de), .int g, .int fr, .int to, .int (nI nx)])), (ma, .inl (kX, 512, .inl xf)), (mu, .inl (kO, 512, .inl uf)), (mt, .inl (kT, 16384, .inl tf)), (mz, .inl (kZ, 16384, .inl zf)), (mb, .inl (kB, 16384, .inl bf))] := hD
  refine lv_iconst (v := nI 0) hx hb d_Md_delete_5 (by decide +kernel) ?_
  refine lv_istore_n (lv' := [(2, .int (nI 0)), (0, .ref mo), (1, .int t)]) hx hb d_Md_delete_6 rfl hl (by decide) rfl (fun ls hl => ?_)
  refine lp_ind (α := Nat × (Nat → Int32) × (Nat → Int32) × (Nat → Int32)) (fun n x H locs ls => match x with
    | (k, ft, fz, fb) => o ≤ k ∧ k ≤ c ∧ c < k + n ∧ (∀ i, o ≤ i → i < k → T i ≤ t) ∧ MdR R k c T B S ft fz fb ∧ va_P D classes [(mo, .inr (3, [.int (nI 0), .int (nI R), .ref ma, .int (nI tn), .ref mu, .int (nI on), .int (nI (c - k)), .ref mt, .ref mz, .ref mb, .int (nI (B c - B k)), .int (nI c), .int (nI dr), .int (nI de), .int g, .int fr, .int to, .int (nI nx)])), (ma, .inl (kX, 512, .inl xf)), (mu, .inl (kO, 512, .inl uf)), (mt, .inl (kT, 16384, .inl ft)), (mz, .inl (kZ, 16384, .inl fz)), (mb, .inl (kB, 16384, .inl fb))] H ∧ va_D A [(mo, .inr (3, [.int (nI 0), .int (nI R), .ref ma, .int (nI tn), .ref mu, .int (nI on), .int (nI (c - k)), .ref mt, .ref mz, .ref mb, .int (nI (B c - B k)), .int (nI c), .int (nI dr), .int (nI de), .int g, .int fr, .int to, .int (nI nx)])), (ma, .inl (kX, 512, .inl xf)), (mu, .inl (kO, 512, .inl uf)), (mt, .inl (kT, 16384, .inl ft)), (mz, .inl (kZ, 16384, .inl fz)), (mb, .inl (kB, 16384, .inl fb))] ∧ va_S A s.heap H locs ∧ lv_has ls 3 [(2, .int (nI (k - o))), (0, .ref mo), (1, .int t)]) ?_ (fun x H locs ls hq => by obtain ⟨k, ft, fz, fb⟩ := x; obtain ⟨k1, k2, k3, -⟩ := hq; omega) (c + 1) (o, tf, zf, bf) _ _ _ ⟨Nat.le_refl o, a3, by omega, fun i p q => by omega, h, hP, hD, hS, by rw [Nat.sub_self]; exact hl⟩
  clear hP hD hS hl
  intro n1 ih x H locs ls hq
  obtain ⟨k, ft, fz, fb⟩ := x
  obtain ⟨k1, k2, k3, k4, h, hP, hD, hS, hl⟩ := hq
  obtain ⟨hs, hgT, hgZ, hgS, h8⟩ := id h
  refine lv_aload_n hx hb d_Md_delete_7 rfl (lv_at hl 1 rfl) ?_
  refine gf_Md_36 hx hb hT hown hK hP 0 rfl rfl d_Md_delete_8 ?_
  refine nv_if_le (tgt := 34) hx hb (by omega) d_Md_delete_11 (by decide) (fun c_11 => ?_) (fun c_11 => ?_)
  · refine lv_aload_n hx hb d_Md_delete_34 rfl (lv_at hl 1 rfl) ?_
    refine lv_dup hx hb d_Md_delete_35 rfl ?_
    refine gf_Md_51 hx hb hT hown hK hP 0 rfl rfl d_Md_delete_36 ?_
    refine lv_iload_n hx hb d_Md_delete_39 rfl (lv_at hl 0 rfl) ?_
    refine nv_iadd hx hb d_Md_delete_40 ?_
    refine pf_Md_51 hx hb hT hown hK hP hD hS 0 rfl (Nat.le_of_ble_eq_true rfl) d_Md_delete_41 (fun H locs hP hD hS => ?_)
    have hP : va_P D classes [(mo, .inr (3, [.int (nI 0), .int (nI R), .ref ma, .int (nI tn), .ref mu, .int (nI on), .int (nI (c - k)), .ref mt, .ref mz, .ref mb, .int (nI (B c - B k)), .int (nI c), .int (nI dr), .int (nI (de + (k - o))), .int g, .int fr, .int to, .int (nI nx)])), (ma, .inl (kX, 512, .inl xf)), (mu, .inl (kO, 512, .inl uf)), (mt, .inl (kT, 16384, .inl ft)), (mz, .inl (kZ, 16384, .inl fz)), (mb, .inl (kB, 16384, .inl fb))] H := hP
    have hD : va_D A [(mo, .inr (3, [.int (nI 0), .int (nI R), .ref ma, .int (nI tn), .ref mu, .int (nI on), .int (nI (c - k)), .ref mt, .ref mz, .ref mb, .int (nI (B c - B k)), .int (nI c), .int (nI dr), .int (nI (de + (k - o))), .int g, .int fr, .int to, .int (nI nx)])), (ma, .inl (kX, 512, .inl xf)), (mu, .inl (kO, 512, .inl uf)), (mt, .inl (kT, 16384, .inl ft)), (mz, .inl (kZ, 16384, .inl fz)), (mb, .inl (kB, 16384, .inl fb))] := hD
    refine lv_iload_n hx hb d_Md_delete_44 rfl (lv_at hl 0 rfl) ?_
    exact rw_iret (k, ft, fz, fb) hx hb hr hlk hK hP hD hS d_Md_delete_45 ⟨rfl, ⟨k1, k2, k4, fun q => by omega⟩, h⟩
  · have w0 : ft 0 = T k := hgT 0 (by omega)
    refine lv_aload_n hx hb d_Md_delete_14 rfl (lv_at hl 1 rfl) ?_
    refine gf_Md_16 hx hb hT hown hK hP 0 rfl rfl d_Md_delete_15 ?_
    refine lv_iconst (v := nI 0) hx hb d_Md_delete_18 (by decide +kernel) ?_
    refine nv_iald hx hb hK hP 3 2 rfl rfl (by omega) (by omega) d_Md_delete_19 ?_
    refine nv_asX (y := T k) w0 ?_
    refine lv_iload_n hx hb d_Md_delete_20 rfl (lv_at hl 2 rfl) ?_
    refine lv_icmp_gt (tgt := 34) hx hb d_Md_delete_21 (by decide) (fun c_21 => ?_) (fun c_21 => ?_)
    · refine lv_aload_n hx hb d_Md_delete_34 rfl (lv_at hl 1 rfl) ?_
      refine lv_dup hx hb d_Md_delete_35 rfl ?_
      refine gf_Md_51 hx hb hT hown hK hP 0 rfl rfl d_Md_delete_36 ?_
      refine lv_iload_n hx hb d_Md_delete_39 rfl (lv_at hl 0 rfl) ?_
      refine nv_iadd hx hb d_Md_delete_40 ?_
      refine pf_Md_51 hx hb hT hown hK hP hD hS 0 rfl (Nat.le_of_ble_eq_true rfl) d_Md_delete_41 (fun H locs hP hD hS => ?_)
      have hP : va_P D classes [(mo, .inr (3, [.int (nI 0), .int (nI R), .ref ma, .int (nI tn), .ref mu, .int (nI on), .int (nI (c - k)), .ref mt, .ref mz, .ref mb, .int (nI (B c - B k)), .int (nI c), .int (nI dr), .int (nI (de + (k - o))), .int g, .int fr, .int to, .int (nI nx)])), (ma, .inl (kX, 512, .inl xf)), (mu, .inl (kO, 512, .inl uf)), (mt, .inl (kT, 16384, .inl ft)), (mz, .inl (kZ, 16384, .inl fz)), (mb, .inl (kB, 16384, .inl fb))] H := hP
      have hD : va_D A [(mo, .inr (3, [.int (nI 0), .int (nI R), .ref ma, .int (nI tn), .ref mu, .int (nI on), .int (nI (c - k)), .ref mt, .ref mz, .ref mb, .int (nI (B c - B k)), .int (nI c), .int (nI dr), .int (nI (de + (k - o))), .int g, .int fr, .int to, .int (nI nx)])), (ma, .inl (kX, 512, .inl xf)), (mu, .inl (kO, 512, .inl uf)), (mt, .inl (kT, 16384, .inl ft)), (mz, .inl (kZ, 16384, .inl fz)), (mb, .inl (kB, 16384, .inl fb))] := hD
      refine lv_iload_n hx hb d_Md_delete_44 rfl (lv_at hl 0 rfl) ?_
      exact rw_iret (k, ft, fz, fb) hx hb hr hlk hK hP hD hS d_Md_delete_45 ⟨rfl, ⟨k1, k2, k4, fun _ => Int32.not_le.mpr c_21⟩, h⟩
    · refine lv_aload_n hx hb d_Md_delete_24 rfl (lv_at hl 1 rfl) ?_
      refine rw_callv (ci := 3) (As := []) (rest := []) (wr := []) hx hb hml hT hown (c_Md_goes l D mo ma mu mt mz mb kX kO kT kZ kB R tn on g fr to nx k c T B S dr de xf uf ft fz fb H.size h (by omega)) (cs_Md_42 hT ⟨(Nat.le_of_ble_eq_true rfl), (Nat.le_of_ble_eq_true rfl)⟩) (hK.sub [0, 1, 2, 3, 4] rfl) hP hD hS hA [0, 1, 2, 3, 4, 5] [] rfl rfl (by decide) (by decide) (by decide) 0 rfl rfl rfl hl.1 rfl (Nat.le_of_ble_eq_true rfl) d_Md_delete_25 ⟨(Nat.le_of_ble_eq_true rfl), (Nat.le_of_ble_eq_true rfl)⟩ (fun u H locs hw hKn hP hD hS => ?_)
      obtain ⟨ft2, fz2, fb2⟩ := u
      dsimp only at hw
      have hP : va_P D classes [(mo, .inr (3, [.int (nI 0), .int (nI R), .ref ma, .int (nI tn), .ref mu, .int (nI on), .int (nI (c - (k + 1))), .ref mt, .ref mz, .ref mb, .int (nI (B c - B (k + 1))), .int (nI c), .int (nI dr), .int (nI de), .int g, .int fr, .int to, .int (nI nx)])), (ma, .inl (kX, 512, .inl xf)), (mu, .inl (kO, 512, .inl uf)), (mt, .inl (kT, 16384, .inl ft2)), (mz, .inl (kZ, 16384, .inl fz2)), (mb, .inl (kB, 16384, .inl fb2))] H := hP.sub [0, 1, 2, 3, 4, 5] rfl
      have hD : va_D A [(mo, .inr (3, [.int (nI 0), .int (nI R), .ref ma, .int (nI tn), .ref mu, .int (nI on), .int (nI (c - (k + 1))), .ref mt, .ref mz, .ref mb, .int (nI (B c - B (k + 1))), .int (nI c), .int (nI dr), .int (nI de), .int g, .int fr, .int to, .int (nI nx)])), (ma, .inl (kX, 512, .inl xf)), (mu, .inl (kO, 512, .inl uf)), (mt, .inl (kT, 16384, .inl ft2)), (mz, .inl (kZ, 16384, .inl fz2)), (mb, .inl (kB, 16384, .inl fb2))] := hD.sub [0, 1, 2, 3, 4, 5] (by decide) rfl
      refine nv_iinc (lv' := [(2, .int (nI ((k - o) + 1))), (0, .ref mo), (1, .int t)]) hx hb d_Md_delete_28 hl (k := 0) rfl (by decide) rfl (fun ls hl => ?_)
      refine lv_goto (tgt := 7) hx hb d_Md_delete_31 (by decide) ?_
      exact ih (k + 1, ft2, fz2, fb2) _ _ _ ⟨by omega, by omega, by omega, fun i p q => by
          rcases Nat.lt_or_ge i k with z | z
          · exact k4 i p z
          · rw [show i = k by omega]; exact Int32.not_lt.mp c_21, hw, hP, hD, hS, by rw [show k + 1 - o = k - o + 1 by omega]; exact hl⟩
set_option maxHeartbeats 4000000 in
set_option maxRecDepth 100000 in
/-- begin(a, b) -/
theorem c_Md_begin (l : Launch) (D : va_G) (mo ma mu mt mz mb : Nat) (kX kO kT kZ kB : ClassId) (R tn on : Nat) (g fr to : Int32) (nx o c : Nat) (T : Nat → Int32) (B : Nat → Nat) (S : Nat → Int32) (dr de : Nat) (xf uf tf zf bf : Nat → Int32) (sz : Nat) (a b : Int32) (hoc : o ≤ c) : Met l y_Md_begin (wc y_Md_begin b_Md_begin 3 (some .boolean)) ({ frames := 0, cells := 0, slots := 0, locals := 0 }) (va_Pc [.ref mo, .int a, .int b] (rwB D (vM mo ma mu mt mz mb kX kO kT kZ kB R tn on (c - o) (B c - B o) c dr de g fr to nx xf uf tf zf bf) (yM kX kO kT kZ kB) sz)) (QI (fun (r : Int32) (u : Int32 × Int32 × Int32 × Nat) => BgS o g fr to a b nx r u.1 u.2.1 u.2.2.1 u.2.2.2) D (fun u => (yM kX kO kT kZ kB)) (fun u => (vM mo ma mu mt mz mb kX kO kT kZ kB R tn on (c - o) (B c - B o) c dr de (u.1) (u.2.1) (u.2.2.1) (u.2.2.2) xf uf tf zf bf)) (va_A (vM mo ma mu mt mz mb kX kO kT kZ kB R tn on (c - o) (B c - B o) c dr de g fr to nx xf uf tf zf bf) sz)) 0 0 (va_A (vM mo ma mu mt mz mb kX kO kT kZ kB R tn on (c - o) (B c - B o) c dr de g fr to nx xf uf tf zf bf) sz) := by
  refine rw_startI (by decide) (Nat.le_of_ble_eq_true rfl) ?_
  intro p e s m below meth cd A hx hb hr hT hown hlk hml hnm hA hP hK hD hS ls hl
  have hown : s.vm.findClass R_Md = some m.cls := hown
  have hP : va_P D classes [(mo, .inr (3, [.int (nI 0), .int (nI R), .ref ma, .int (nI tn), .ref mu, .int (nI on), .int (nI (c - o)), .ref mt, .ref mz, .ref mb, .int (nI (B c - B o)), .int (nI c), .int (nI dr), .int (nI de), .int g, .int fr, .int to, .int (nI nx)])), (ma, .inl (kX, 512, .inl xf)), (mu, .inl (kO, 512, .inl uf)), (mt, .inl (kT, 16384, .inl tf)), (mz, .inl (kZ, 16384, .inl zf)), (mb, .inl (kB, 16384, .inl bf))] s.heap := hP
  have hD : va_D A [(mo, .inr (3, [.int (nI 0), .int (nI R), .ref ma, .int (nI tn), .ref mu, .int (nI on), .int (nI (c - o)), .ref mt, .ref mz, .ref mb, .int (nI (B c - B o)), .int (nI c), .int (nI dr), .int (nI de), .int g, .int fr, .int to, .int (nI nx)])), (ma, .inl (kX, 512, .inl xf)), (mu, .inl (kO, 512, .inl uf)), (mt, .inl (kT, 16384, .inl tf)), (mz, .inl (kZ, 16384, .inl zf)), (mb, .inl (kB, 16384, .inl bf))] := hD
  have hK : va_K D classes [(kX, .byte), (kO, .byte), (kT, .int), (kZ, .int), (kB, .byte)] s := hK
  have hl : lv_has ls 3 [(0, .ref mo), (1, .int a), (2, .int b)] := hl
  refine lv_aload_n hx hb d_Md_begin_0 rfl (lv_at hl 0 rfl) ?_
  refine lv_iconst (v := nI 0) hx hb d_Md_begin_1 (by decide +kernel) ?_
  refine pf_Md_30 hx hb hT hown hK hP hD hS 0 rfl (Nat.le_of_ble_eq_true rfl) d_Md_begin_2 (fun H locs hP hD hS => ?_)
  have hP : va_P D classes [(mo, .inr (3, [.int (nI 0), .int (nI R), .ref ma, .int (nI tn), .ref mu, .int (nI on), .int (nI (c - o)), .ref mt, .ref mz, .ref mb, .int (nI (B c - B o)), .int (nI c), .int (nI dr), .int (nI de), .int g, .int fr, .int to, .int (nI nx)])), (ma, .inl (kX, 512, .inl xf)), (mu, .inl (kO, 512, .inl uf)), (mt, .inl (kT, 16384, .inl tf)), (mz, .inl (kZ, 16384, .inl zf)), (mb, .inl (kB, 16384, .inl bf))] H := hP
  have hD : va_D A [(mo, .inr (3, [.int (nI 0), .int (nI R), .ref ma, .int (nI tn), .ref mu, .int (nI on), .int (nI (c - o)), .ref mt, .ref mz, .ref mb, .int (nI (B c - B o)), .int (nI c), .int (nI dr), .int (nI de), .int g, .int fr, .int to, .int (nI nx)])), (ma, .inl (kX, 512, .inl xf)), (mu, .inl (kO, 512, .inl uf)), (mt, .inl (kT, 16384, .inl tf)), (mz, .inl (kZ, 16384, .inl zf)), (mb, .inl (kB, 16384, .inl bf))] := hD
  refine lv_aload_n hx hb d_Md_begin_5 rfl (lv_at hl 0 rfl) ?_
  refine gf_Md_54 hx hb hT hown hK hP 0 rfl rfl d_Md_begin_6 ?_
  refine lv_if_eq (tgt := 14) hx hb d_Md_begin_9 (by decide) (fun c_9 => ?_) (fun c_9 => ?_)
  · refine lv_aload_n hx hb d_Md_begin_14 rfl (lv_at hl 0 rfl) ?_
    refine lv_iconst (v := nI 1) hx hb d_Md_begin_15 (by decide +kernel) ?_
    refine pf_Md_54 hx hb hT hown hK hP hD hS 0 rfl (by decide +kernel) (by decide +kernel) (Nat.le_of_ble_eq_true rfl) d_Md_begin_16 (fun H locs hP hD hS => ?_)
    have hP : va_P D classes [(mo, .inr (3, [.int (nI 0), .int (nI R), .ref ma, .int (nI tn), .ref mu, .int (nI on), .int (nI (c - o)), .ref mt, .ref mz, .ref mb, .int (nI (B c - B o)), .int (nI c), .int (nI dr), .int (nI de), .int (nI 1), .int fr, .int to, .int (nI nx)])), (ma, .inl (kX, 512, .inl xf)), (mu, .inl (kO, 512, .inl uf)), (mt, .inl (kT, 16384, .inl tf)), (mz, .inl (kZ, 16384, .inl zf)), (mb, .inl (kB, 16384, .inl bf))] H := hP
    have hD : va_D A [(mo, .inr (3, [.int (nI 0), .int (nI R), .ref ma, .int (nI tn), .ref mu, .int (nI on), .int (nI (c - o)), .ref mt, .ref mz, .ref mb, .int (nI (B c - B o)), .int (nI c), .int (nI dr), .int (nI de), .int (nI 1), .int fr, .int to, .int (nI nx)])), (ma, .inl (kX, 512, .inl xf)), (mu, .inl (kO, 512, .inl uf)), (mt, .inl (kT, 16384, .inl tf)), (mz, .inl (kZ, 16384, .inl zf)), (mb, .inl (kB, 16384, .inl bf))] := hD
    refine lv_aload_n hx hb d_Md_begin_19 rfl (lv_at hl 0 rfl) ?_
    refine lv_iload_n hx hb d_Md_begin_20 rfl (lv_at hl 1 rfl) ?_
    refine pf_Md_58 hx hb hT hown hK hP hD hS 0 rfl (Nat.le_of_ble_eq_true rfl) d_Md_begin_21 (fun H locs hP hD hS => ?_)
    have hP : va_P D classes [(mo, .inr (3, [.int (nI 0), .int (nI R), .ref ma, .int (nI tn), .ref mu, .int (nI on), .int (nI (c - o)), .ref mt, .ref mz, .ref mb, .int (nI (B c - B o)), .int (nI c), .int (nI dr), .int (nI de), .int (nI 1), .int a, .int to, .int (nI nx)])), (ma, .inl (kX, 512, .inl xf)), (mu, .inl (kO, 512, .inl uf)), (mt, .inl (kT, 16384, .inl tf)), (mz, .inl (kZ, 16384, .inl zf)), (mb, .inl (kB, 16384, .inl bf))] H := hP
    have hD : va_D A [(mo, .inr (3, [.int (nI 0), .int (nI R), .ref ma, .int (nI tn), .ref mu, .int (nI on), .int (nI (c - o)), .ref mt, .ref mz, .ref mb, .int (nI (B c - B o)), .int (nI c), .int (nI dr), .int (nI de), .int (nI 1), .int a, .int to, .int (nI nx)])), (ma, .inl (kX, 512, .inl xf)), (mu, .inl (kO, 512, .inl uf)), (mt, .inl (kT, 16384, .inl tf)), (mz, .inl (kZ, 16384, .inl zf)), (mb, .inl (kB, 16384, .inl bf))] := hD
    refine lv_aload_n hx hb d_Md_begin_24 rfl (lv_at hl 0 rfl) ?_
    refine lv_iload_n hx hb d_Md_begin_25 rfl (lv_at hl 2 rfl) ?_
    refine pf_Md_61 hx hb hT hown hK hP hD hS 0 rfl (Nat.le_of_ble_eq_true rfl) d_Md_begin_26 (fun H locs hP hD hS => ?_)
    have hP : va_P D classes [(mo, .inr (3, [.int (nI 0), .int (nI R), .ref ma, .int (nI tn), .ref mu, .int (nI on), .int (nI (c - o)), .ref mt, .ref mz, .ref mb, .int (nI (B c - B o)), .int (nI c), .int (nI dr), .int (nI de), .int (nI 1), .int a, .int b, .int (nI nx)])), (ma, .inl (kX, 512, .inl xf)), (mu, .inl (kO, 512, .inl uf)), (mt, .inl (kT, 16384, .inl tf)), (mz, .inl (kZ, 16384, .inl zf)), (mb, .inl (kB, 16384, .inl bf))] H := hP
    have hD : va_D A [(mo, .inr (3, [.int (nI 0), .int (nI R), .ref ma, .int (nI tn), .ref mu, .int (nI on), .int (nI (c - o)), .ref mt, .ref mz, .ref mb, .int (nI (B c - B o)), .int (nI c), .int (nI dr), .int (nI de), .int (nI 1), .int a, .int b, .int (nI nx)])), (ma, .inl (kX, 512, .inl xf)), (mu, .inl (kO, 512, .inl uf)), (mt, .inl (kT, 16384, .inl tf)), (mz, .inl (kZ, 16384, .inl zf)), (mb, .inl (kB, 16384, .inl bf))] := hD
    refine lv_aload_n hx hb d_Md_begin_29 rfl (lv_at hl 0 rfl) ?_
    refine lv_aload_n hx hb d_Md_begin_30 rfl (lv_at hl 0 rfl) ?_
    refine gf_Md_48 hx hb hT hown hK hP 0 rfl rfl d_Md_begin_31 ?_
    refine lv_aload_n hx hb d_Md_begin_34 rfl (lv_at hl 0 rfl) ?_
    refine gf_Md_36 hx hb hT hown hK hP 0 rfl rfl d_Md_begin_35 ?_
    refine nv_isub hx hb (by omega) d_Md_begin_38 ?_
    refine nv_as (y := o) (by omega) ?_
    refine pf_Md_64 hx hb hT hown hK hP hD hS 0 rfl (Nat.le_of_ble_eq_true rfl) d_Md_begin_39 (fun H locs hP hD hS => ?_)
    have hP : va_P D classes [(mo, .inr (3, [.int (nI 0), .int (nI R), .ref ma, .int (nI tn), .ref mu, .int (nI on), .int (nI (c - o)), .ref mt, .ref mz, .ref mb, .int (nI (B c - B o)), .int (nI c), .int (nI dr), .int (nI de), .int (nI 1), .int a, .int b, .int (nI o)])), (ma, .inl (kX, 512, .inl xf)), (mu, .inl (kO, 512, .inl uf)), (mt, .inl (kT, 16384, .inl tf)), (mz, .inl (kZ, 16384, .inl zf)), (mb, .inl (kB, 16384, .inl bf))] H := hP
    have hD : va_D A [(mo, .inr (3, [.int (nI 0), .int (nI R), .ref ma, .int (nI tn), .ref mu, .int (nI on), .int (nI (c - o)), .ref mt, .ref mz, .ref mb, .int (nI (B c - B o)), .int (nI c), .int (nI dr), .int (nI de), .int (nI 1), .int a, .int b, .int (nI o)])), (ma, .inl (kX, 512, .inl xf)), (mu, .inl (kO, 512, .inl uf)), (mt, .inl (kT, 16384, .inl tf)), (mz, .inl (kZ, 16384, .inl zf)), (mb, .inl (kB, 16384, .inl bf))] := hD
    refine lv_iconst (v := nI 1) hx hb d_Md_begin_42 (by decide +kernel) ?_
    exact rw_zret (nI 1, a, b, o) hx hb hr hlk (by decide +kernel) hK hP hD hS d_Md_begin_43 (Or.inr ⟨c_9, rfl, rfl, rfl, rfl, rfl⟩)
  · refine lv_iconst (v := nI 0) hx hb d_Md_begin_12 (by decide +kernel) ?_
    exact rw_zret (g, fr, to, nx) hx hb hr hlk (by decide +kernel) hK hP hD hS d_Md_begin_13 (Or.inl ⟨c_9, rfl, rfl, rfl, rfl, rfl⟩)
set_option maxHeartbeats 4000000 in
set_option maxRecDepth 100000 in
/-- stop() -/
theorem c_Md_stop (l : Launch) (D : va_G) (mo ma mu mt mz mb : Nat) (kX kO kT kZ kB : ClassId) (R tn on : Nat) (g fr to : Int32) (nx o c : Nat) (T : Nat → Int32) (B : Nat → Nat) (S : Nat → Int32) (dr de : Nat) (xf uf tf zf bf : Nat → Int32) (sz : Nat) (hg : narrow .boolean (.int g) = .int g) : Met l y_Md_stop (wc y_Md_stop b_Md_stop 2 (some .boolean)) ({ frames := 0, cells := 0, slots := 0, locals := 0 }) (va_Pc [.ref mo] (rwB D (vM mo ma mu mt mz mb kX kO kT kZ kB R tn on (c - o) (B c - B o) c dr de g fr to nx xf uf tf zf bf) (yM kX kO kT kZ kB) sz)) (QI (fun (r : Int32) (u : Unit) => r = g) D (fun u => (yM kX kO kT kZ kB)) (fun u => (vM mo ma mu mt mz mb kX kO kT kZ kB R tn on (c - o) (B c - B o) c dr de (nI 0) fr to nx xf uf tf zf bf)) (va_A (vM mo ma mu mt mz mb kX kO kT kZ kB R tn on (c - o) (B c - B o) c dr de g fr to nx xf uf tf zf bf) sz)) 0 0 (va_A (vM mo ma mu mt mz mb kX kO kT kZ kB R tn on (c - o) (B c - B o) c dr de g fr to nx xf uf tf zf bf) sz) := by
  refine rw_startI (by decide) (Nat.le_of_ble_eq_true rfl) ?_
  intro p e s m below meth cd A hx hb hr hT hown hlk hml hnm hA hP hK hD hS ls hl
  have hown : s.vm.findClass R_Md = some m.cls := hown
  have hP : va_P D classes [(mo, .inr (3, [.int (nI 0), .int (nI R), .ref ma, .int (nI tn), .ref mu, .int (nI on), .int (nI (c - o)), .ref mt, .ref mz, .ref mb, .int (nI (B c - B o)), .int (nI c), .int (nI dr), .int (nI de), .int g, .int fr, .int to, .int (nI nx)])), (ma, .inl (kX, 512, .inl xf)), (mu, .inl (kO, 512, .inl uf)), (mt, .inl (kT, 16384, .inl tf)), (mz, .inl (kZ, 16384, .inl zf)), (mb, .inl (kB, 16384, .inl bf))] s.heap := hP
  have hD : va_D A [(mo, .inr (3, [.int (nI 0), .int (nI R), .ref ma, .int (nI tn), .ref mu, .int (nI on), .int (nI (c - o)), .ref mt, .ref mz, .ref mb, .int (nI (B c - B o)), .int (nI c), .int (nI dr), .int (nI de), .int g, .int fr, .int to, .int (nI nx)])), (ma, .inl (kX, 512, .inl xf)), (mu, .inl (kO, 512, .inl uf)), (mt, .inl (kT, 16384, .inl tf)), (mz, .inl (kZ, 16384, .inl zf)), (mb, .inl (kB, 16384, .inl bf))] := hD
  have hK : va_K D classes [(kX, .byte), (kO, .byte), (kT, .int), (kZ, .int), (kB, .byte)] s := hK
  have hl : lv_has ls 2 [(0, .ref mo)] := hl
  refine lv_aload_n hx hb d_Md_stop_0 rfl (lv_at hl 0 rfl) ?_
  refine lv_iconst (v := nI 0) hx hb d_Md_stop_1 (by decide +kernel) ?_
  refine pf_Md_30 hx hb hT hown hK hP hD hS 0 rfl (Nat.le_of_ble_eq_true rfl) d_Md_stop_2 (fun H locs hP hD hS => ?_)
  have hP : va_P D classes [(mo, .inr (3, [.int (nI 0), .int (nI R), .ref ma, .int (nI tn), .ref mu, .int (nI on), .int (nI (c - o)), .ref mt, .ref mz, .ref mb, .int (nI (B c - B o)), .int (nI c), .int (nI dr), .int (nI de), .int g, .int fr, .int to, .int (nI nx)])), (ma, .inl (kX, 512, .inl xf)), (mu, .inl (kO, 512, .inl uf)), (mt, .inl (kT, 16384, .inl tf)), (mz, .inl (kZ, 16384, .inl zf)), (mb, .inl (kB, 16384, .inl bf))] H := hP
  have hD : va_D A [(mo, .inr (3, [.int (nI 0), .int (nI R), .ref ma, .int (nI tn), .ref mu, .int (nI on), .int (nI (c - o)), .ref mt, .ref mz, .ref mb, .int (nI (B c - B o)), .int (nI c), .int (nI dr), .int (nI de), .int g, .int fr, .int to, .int (nI nx)])), (ma, .inl (kX, 512, .inl xf)), (mu, .inl (kO, 512, .inl uf)), (mt, .inl (kT, 16384, .inl tf)), (mz, .inl (kZ, 16384, .inl zf)), (mb, .inl (kB, 16384, .inl bf))] := hD
  refine lv_aload_n hx hb d_Md_stop_5 rfl (lv_at hl 0 rfl) ?_
  refine gf_Md_54 hx hb hT hown hK hP 0 rfl rfl d_Md_stop_6 ?_
  refine lv_istore_n (lv' := [(1, .int g), (0, .ref mo)]) hx hb d_Md_stop_9 rfl hl (by decide) rfl (fun ls hl => ?_)
  refine lv_aload_n hx hb d_Md_stop_10 rfl (lv_at hl 1 rfl) ?_
  refine lv_iconst (v := nI 0) hx hb d_Md_stop_11 (by decide +kernel) ?_
  refine pf_Md_54 hx hb hT hown hK hP hD hS 0 rfl (by decide +kernel) (by decide +kernel) (Nat.le_of_ble_eq_true rfl) d_Md_stop_12 (fun H locs hP hD hS => ?_)
  have hP : va_P D classes [(mo, .inr (3, [.int (nI 0), .int (nI R), .ref ma, .int (nI tn), .ref mu, .int (nI on), .int (nI (c - o)), .ref mt, .ref mz, .ref mb, .int (nI (B c - B o)), .int (nI c), .int (nI dr), .int (nI de), .int (nI 0), .int fr, .int to, .int (nI nx)])), (ma, .inl (kX, 512, .inl xf)), (mu, .inl (kO, 512, .inl uf)), (mt, .inl (kT, 16384, .inl tf)), (mz, .inl (kZ, 16384, .inl zf)), (mb, .inl (kB, 16384, .inl bf))] H := hP
  have hD : va_D A [(mo, .inr (3, [.int (nI 0), .int (nI R), .ref ma, .int (nI tn), .ref mu, .int (nI on), .int (nI (c - o)), .ref mt, .ref mz, .ref mb, .int (nI (B c - B o)), .int (nI c), .int (nI dr), .int (nI de), .int (nI 0), .int fr, .int to, .int (nI nx)])), (ma, .inl (kX, 512, .inl xf)), (mu, .inl (kO, 512, .inl uf)), (mt, .inl (kT, 16384, .inl tf)), (mz, .inl (kZ, 16384, .inl zf)), (mb, .inl (kB, 16384, .inl bf))] := hD
  refine lv_iload_n hx hb d_Md_stop_15 rfl (lv_at hl 0 rfl) ?_
  exact rw_zret () hx hb hr hlk hg hK hP hD hS d_Md_stop_16 rfl
set_option maxHeartbeats 4000000 in
set_option maxRecDepth 100000 in
/-- out(j) -/
theorem c_Md_out (l : Launch) (D : va_G) (mo ma mu mt mz mb : Nat) (kX kO kT kZ kB : ClassId) (R tn on : Nat) (g fr to : Int32) (nx o c : Nat) (T : Nat → Int32) (B : Nat → Nat) (S : Nat → Int32) (dr de : Nat) (xf uf tf zf bf : Nat → Int32) (sz : Nat) (j : Int32) (hon : on ≤ 512) : Met l y_Md_out (wc y_Md_out b_Md_out 2 (some .int)) ({ frames := 0, cells := 0, slots := 0, locals := 0 }) (va_Pc [.ref mo, .int j] (rwB D (vM mo ma mu mt mz mb kX kO kT kZ kB R tn on (c - o) (B c - B o) c dr de g fr to nx xf uf tf zf bf) (yM kX kO kT kZ kB) sz)) (QI (fun (r : Int32) (u : Unit) => r = outF on uf j) D (fun u => (yM kX kO kT kZ kB)) (fun u => (vM mo ma mu mt mz mb kX kO kT kZ kB R tn on (c - o) (B c - B o) c dr de g fr to nx xf uf tf zf bf)) (va_A (vM mo ma mu mt mz mb kX kO kT kZ kB R tn on (c - o) (B c - B o) c dr de g fr to nx xf uf tf zf bf) sz)) 0 0 (va_A (vM mo ma mu mt mz mb kX kO kT kZ kB R tn on (c - o) (B c - B o) c dr de g fr to nx xf uf tf zf bf) sz) := by
  refine rw_startI (by decide) (Nat.le_of_ble_eq_true rfl) ?_
  intro p e s m below meth cd A hx hb hr hT hown hlk hml hnm hA hP hK hD hS ls hl
  have hown : s.vm.findClass R_Md = some m.cls := hown
  have hP : va_P D classes [(mo, .inr (3, [.int (nI 0), .int (nI R), .ref ma, .int (nI tn), .ref mu, .int (nI on), .int (nI (c - o)), .ref mt, .ref mz, .ref mb, .int (nI (B c - B o)), .int (nI c), .int (nI dr), .int (nI de), .int g, .int fr, .int to, .int (nI nx)])), (ma, .inl (kX, 512, .inl xf)), (mu, .inl (kO, 512, .inl uf)), (mt, .inl (kT, 16384, .inl tf)), (mz, .inl (kZ, 16384, .inl zf)), (mb, .inl (kB, 16384, .inl bf))] s.heap := hP
  have hD : va_D A [(mo, .inr (3, [.int (nI 0), .int (nI R), .ref ma, .int (nI tn), .ref mu, .int (nI on), .int (nI (c - o)), .ref mt, .ref mz, .ref mb, .int (nI (B c - B o)), .int (nI c), .int (nI dr), .int (nI de), .int g, .int fr, .int to, .int (nI nx)])), (ma, .inl (kX, 512, .inl xf)), (mu, .inl (kO, 512, .inl uf)), (mt, .inl (kT, 16384, .inl tf)), (mz, .inl (kZ, 16384, .inl zf)), (mb, .inl (kB, 16384, .inl bf))] := hD
  have hK : va_K D classes [(kX, .byte), (kO, .byte), (kT, .int), (kZ, .int), (kB, .byte)] s := hK
  have hl : lv_has ls 2 [(0, .ref mo), (1, .int j)] := hl
  refine lv_aload_n hx hb d_Md_out_0 rfl (lv_at hl 0 rfl) ?_
  refine lv_iconst (v := nI 0) hx hb d_Md_out_1 (by decide +kernel) ?_
  refine pf_Md_30 hx hb hT hown hK hP hD hS 0 rfl (Nat.le_of_ble_eq_true rfl) d_Md_out_2 (fun H locs hP hD hS => ?_)
  have hP : va_P D classes [(mo, .inr (3, [.int (nI 0), .int (nI R), .ref ma, .int (nI tn), .ref mu, .int (nI on), .int (nI (c - o)), .ref mt, .ref mz, .ref mb, .int (nI (B c - B o)), .int (nI c), .int (nI dr), .int (nI de), .int g, .int fr, .int to, .int (nI nx)])), (ma, .inl (kX, 512, .inl xf)), (mu, .inl (kO, 512, .inl uf)), (mt, .inl (kT, 16384, .inl tf)), (mz, .inl (kZ, 16384, .inl zf)), (mb, .inl (kB, 16384, .inl bf))] H := hP
  have hD : va_D A [(mo, .inr (3, [.int (nI 0), .int (nI R), .ref ma, .int (nI tn), .ref mu, .int (nI on), .int (nI (c - o)), .ref mt, .ref mz, .ref mb, .int (nI (B c - B o)), .int (nI c), .int (nI dr), .int (nI de), .int g, .int fr, .int to, .int (nI nx)])), (ma, .inl (kX, 512, .inl xf)), (mu, .inl (kO, 512, .inl uf)), (mt, .inl (kT, 16384, .inl tf)), (mz, .inl (kZ, 16384, .inl zf)), (mb, .inl (kB, 16384, .inl bf))] := hD
  refine lv_iload_n hx hb d_Md_out_5 rfl (lv_at hl 1 rfl) ?_
  refine lv_if_lt (tgt := 17) hx hb d_Md_out_6 (by decide) (fun c_6 => ?_) (fun c_6 => ?_)
  · refine lv_iconst (v := (-1)) hx hb d_Md_out_17 (by decide +kernel) ?_
    refine lv_goto (tgt := 31) hx hb d_Md_out_18 (by decide) ?_
    exact rw_iret () hx hb hr hlk hK hP hD hS d_Md_out_31 (outF_lo c_6).symm
  · refine lv_iload_n hx hb d_Md_out_9 rfl (lv_at hl 1 rfl) ?_
    refine lv_aload_n hx hb d_Md_out_10 rfl (lv_at hl 0 rfl) ?_
    refine gf_Md_71 hx hb hT hown hK hP 0 rfl rfl d_Md_out_11 ?_
    refine lv_icmp_lt (tgt := 21) hx hb d_Md_out_14 (by decide) (fun c_14 => ?_) (fun c_14 => ?_)
    · obtain ⟨n, n1, n3⟩ := nI_of c_6
      rw [n3] at hl c_14
      have n2 := (nI_ltI n1 (by omega)).mp c_14
      refine lv_aload_n hx hb d_Md_out_21 rfl (lv_at hl 0 rfl) ?_
      refine gf_Md_13 hx hb hT hown hK hP 0 rfl rfl d_Md_out_22 ?_
      refine lv_iload_n hx hb d_Md_out_25 rfl (lv_at hl 1 rfl) ?_
      refine nv_bald hx hb hK hP 2 1 rfl rfl (by omega) (by omega) d_Md_out_26 ?_
      refine lv_sipush (v := nI 255) hx hb d_Md_out_27 (by decide +kernel) ?_
      refine lv_iand hx hb d_Md_out_30 ?_
      exact rw_iret () hx hb hr hlk hK hP hD hS d_Md_out_31 (by rw [n3]; exact (outF_in n2 (by omega)).symm)
    · refine lv_iconst (v := (-1)) hx hb d_Md_out_17 (by decide +kernel) ?_
      refine lv_goto (tgt := 31) hx hb d_Md_out_18 (by decide) ?_
      exact rw_iret () hx hb hr hlk hK hP hD hS d_Md_out_31 (outF_hi c_14).symm
set_option maxHeartbeats 4000000 in
set_option maxRecDepth 100000 in
/-- count(w) -/
theorem c_Md_count (l : Launch) (D : va_G) (mo ma mu mt mz mb : Nat) (kX kO kT kZ kB : ClassId) (R tn on : Nat) (g fr to : Int32) (nx o c : Nat) (T : Nat → Int32) (B : Nat → Nat) (S : Nat → Int32) (dr de : Nat) (xf uf tf zf bf : Nat → Int32) (sz : Nat) (w : Int32) : Met l y_Md_count (wc y_Md_count b_Md_count 2 (some .int)) ({ frames := 0, cells := 0, slots := 0, locals := 0 }) (va_Pc [.ref mo, .int w] (rwB D (vM mo ma mu mt mz mb kX kO kT kZ kB R tn on (c - o) (B c - B o) c dr de g fr to nx xf uf tf zf bf) (yM kX kO kT kZ kB) sz)) (QI (fun (r : Int32) (u : Unit) => r = cntF R o c B dr de on g w) D (fun u => (yM kX kO kT kZ kB)) (fun u => (vM mo ma mu mt mz mb kX kO kT kZ kB R tn on (c - o) (B c - B o) c dr de g fr to nx xf uf tf zf bf)) (va_A (vM mo ma mu mt mz mb kX kO kT kZ kB R tn on (c - o) (B c - B o) c dr de g fr to nx xf uf tf zf bf) sz)) 0 0 (va_A (vM mo ma mu mt mz mb kX kO kT kZ kB R tn on (c - o) (B c - B o) c dr de g fr to nx xf uf tf zf bf) sz) := by
  refine rw_startI (by decide) (Nat.le_of_ble_eq_true rfl) ?_
  intro p e s m below meth cd A hx hb hr hT hown hlk hml hnm hA hP hK hD hS ls hl
  have hown : s.vm.findClass R_Md = some m.cls := hown
  have hP : va_P D classes [(mo, .inr (3, [.int (nI 0), .int (nI R), .ref ma, .int (nI tn), .ref mu, .int (nI on), .int (nI (c - o)), .ref mt, .ref mz, .ref mb, .int (nI (B c - B o)), .int (nI c), .int (nI dr), .int (nI de), .int g, .int fr, .int to, .int (nI nx)])), (ma, .inl (kX, 512, .inl xf)), (mu, .inl (kO, 512, .inl uf)), (mt, .inl (kT, 16384, .inl tf)), (mz, .inl (kZ, 16384, .inl zf)), (mb, .inl (kB, 16384, .inl bf))] s.heap := hP
  have hD : va_D A [(mo, .inr (3, [.int (nI 0), .int (nI R), .ref ma, .int (nI tn), .ref mu, .int (nI on), .int (nI (c - o)), .ref mt, .ref mz, .ref mb, .int (nI (B c - B o)), .int (nI c), .int (nI dr), .int (nI de), .int g, .int fr, .int to, .int (nI nx)])), (ma, .inl (kX, 512, .inl xf)), (mu, .inl (kO, 512, .inl uf)), (mt, .inl (kT, 16384, .inl tf)), (mz, .inl (kZ, 16384, .inl zf)), (mb, .inl (kB, 16384, .inl bf))] := hD
  have hK : va_K D classes [(kX, .byte), (kO, .byte), (kT, .int), (kZ, .int), (kB, .byte)] s := hK
  have hl : lv_has ls 2 [(0, .ref mo), (1, .int w)] := hl
  refine lv_aload_n hx hb d_Md_count_0 rfl (lv_at hl 0 rfl) ?_
  refine lv_iconst (v := nI 0) hx hb d_Md_count_1 (by decide +kernel) ?_
  refine pf_Md_30 hx hb hT hown hK hP hD hS 0 rfl (Nat.le_of_ble_eq_true rfl) d_Md_count_2 (fun H locs hP hD hS => ?_)
  have hP : va_P D classes [(mo, .inr (3, [.int (nI 0), .int (nI R), .ref ma, .int (nI tn), .ref mu, .int (nI on), .int (nI (c - o)), .ref mt, .ref mz, .ref mb, .int (nI (B c - B o)), .int (nI c), .int (nI dr), .int (nI de), .int g, .int fr, .int to, .int (nI nx)])), (ma, .inl (kX, 512, .inl xf)), (mu, .inl (kO, 512, .inl uf)), (mt, .inl (kT, 16384, .inl tf)), (mz, .inl (kZ, 16384, .inl zf)), (mb, .inl (kB, 16384, .inl bf))] H := hP
  have hD : va_D A [(mo, .inr (3, [.int (nI 0), .int (nI R), .ref ma, .int (nI tn), .ref mu, .int (nI on), .int (nI (c - o)), .ref mt, .ref mz, .ref mb, .int (nI (B c - B o)), .int (nI c), .int (nI dr), .int (nI de), .int g, .int fr, .int to, .int (nI nx)])), (ma, .inl (kX, 512, .inl xf)), (mu, .inl (kO, 512, .inl uf)), (mt, .inl (kT, 16384, .inl tf)), (mz, .inl (kZ, 16384, .inl zf)), (mb, .inl (kB, 16384, .inl bf))] := hD
  refine lv_iload_n hx hb d_Md_count_5 rfl (lv_at hl 1 rfl) ?_
  by_cases w0 : w = 0
  · refine nv_asX (y := 0) w0 ?_
    refine lv_tableIn (tgt := 52) (off := 46) hx hb d_Md_count_6 (by decide) (by decide) (by decide +kernel) (by decide) ?_
    refine lv_aload_n hx hb d_Md_count_52 rfl (lv_at hl 0 rfl) ?_
    refine gf_Md_36 hx hb hT hown hK hP 0 rfl rfl d_Md_count_53 ?_
    exact rw_iret () hx hb hr hlk hK hP hD hS d_Md_count_56 (by rw [w0]; exact cnt_0.symm)
  by_cases w1 : w = 1
  · refine nv_asX (y := 1) w1 ?_
    refine lv_tableIn (tgt := 57) (off := 51) hx hb d_Md_count_6 (by decide) (by decide) (by decide +kernel) (by decide) ?_
    refine lv_aload_n hx hb d_Md_count_57 rfl (lv_at hl 0 rfl) ?_
    refine gf_Md_33 hx hb hT hown hK hP 0 rfl rfl d_Md_count_58 ?_
    exact rw_iret () hx hb hr hlk hK hP hD hS d_Md_count_61 (by rw [w1]; exact cnt_1.symm)
  by_cases w2 : w = 2
  · refine nv_asX (y := 2) w2 ?_
    refine lv_tableIn (tgt := 62) (off := 56) hx hb d_Md_count_6 (by decide) (by decide) (by decide +kernel) (by decide) ?_
    refine lv_aload_n hx hb d_Md_count_62 rfl (lv_at hl 0 rfl) ?_
    refine gf_Md_48 hx hb hT hown hK hP 0 rfl rfl d_Md_count_63 ?_
    exact rw_iret () hx hb hr hlk hK hP hD hS d_Md_count_66 (by rw [w2]; exact cnt_2.symm)
  by_cases w3 : w = 3
  · refine nv_asX (y := 3) w3 ?_
    refine lv_tableIn (tgt := 67) (off := 61) hx hb d_Md_count_6 (by decide) (by decide) (by decide +kernel) (by decide) ?_
    refine lv_aload_n hx hb d_Md_count_67 rfl (lv_at hl 0 rfl) ?_
    refine gf_Md_45 hx hb hT hown hK hP 0 rfl rfl d_Md_count_68 ?_
    exact rw_iret () hx hb hr hlk hK hP hD hS d_Md_count_71 (by rw [w3]; exact cnt_3.symm)
  by_cases w4 : w = 4
  · refine nv_asX (y := 4) w4 ?_
    refine lv_tableIn (tgt := 72) (off := 66) hx hb d_Md_count_6 (by decide) (by decide) (by decide +kernel) (by decide) ?_
    refine lv_aload_n hx hb d_Md_count_72 rfl (lv_at hl 0 rfl) ?_
    refine gf_Md_51 hx hb hT hown hK hP 0 rfl rfl d_Md_count_73 ?_
    exact rw_iret () hx hb hr hlk hK hP hD hS d_Md_count_76 (by rw [w4]; exact cnt_4.symm)
  by_cases w5 : w = 5
  · refine nv_asX (y := 5) w5 ?_
    refine lv_tableIn (tgt := 77) (off := 71) hx hb d_Md_count_6 (by decide) (by decide) (by decide +kernel) (by decide) ?_
    refine lv_aload_n hx hb d_Md_count_77 rfl (lv_at hl 0 rfl) ?_
    refine gf_Md_54 hx hb hT hown hK hP 0 rfl rfl d_Md_count_78 ?_
    refine lv_if_eq (tgt := 88) hx hb d_Md_count_81 (by decide) (fun c_81 => ?_) (fun c_81 => ?_)
    · refine lv_iconst (v := nI 0) hx hb d_Md_count_88 (by decide +kernel) ?_
      exact rw_iret () hx hb hr hlk hK hP hD hS d_Md_count_89 (by rw [w5]; exact (cnt_5a c_81).symm)
    · refine lv_iconst (v := nI 1) hx hb d_Md_count_84 (by decide +kernel) ?_
      refine lv_goto (tgt := 89) hx hb d_Md_count_85 (by decide) ?_
      exact rw_iret () hx hb hr hlk hK hP hD hS d_Md_count_89 (by rw [w5]; exact (cnt_5b c_81).symm)
  by_cases w6 : w = 6
  · refine nv_asX (y := 6) w6 ?_
    refine lv_tableIn (tgt := 90) (off := 84) hx hb d_Md_count_6 (by decide) (by decide) (by decide +kernel) (by decide) ?_
    refine lv_aload_n hx hb d_Md_count_90 rfl (lv_at hl 0 rfl) ?_
    refine gf_Md_71 hx hb hT hown hK hP 0 rfl rfl d_Md_count_91 ?_
    exact rw_iret () hx hb hr hlk hK hP hD hS d_Md_count_94 (by rw [w6]; exact cnt_6.symm)
  by_cases w7 : w = 7
  · refine nv_asX (y := 7) w7 ?_
    refine lv_tableIn (tgt := 95) (off := 89) hx hb d_Md_count_6 (by decide) (by decide) (by decide +kernel) (by decide) ?_
    refine lv_aload_n hx hb d_Md_count_95 rfl (lv_at hl 0 rfl) ?_
    refine gf_Md_26 hx hb hT hown hK hP 0 rfl rfl d_Md_count_96 ?_
    exact rw_iret () hx hb hr hlk hK hP hD hS d_Md_count_99 (by rw [w7]; exact cnt_7.symm)
  refine lv_tableOut (tgt := 100) hx hb d_Md_count_6 (sw_out w0 w1 w2 w3 w4 w5 w6 w7) (by decide) ?_
  refine lv_iconst (v := (-1)) hx hb d_Md_count_100 (by decide +kernel) ?_
  exact rw_iret () hx hb hr hlk hK hP hD hS d_Md_count_101 (cnt_8 w0 w1 w2 w3 w4 w5 w6 w7).symm
set_option maxHeartbeats 4000000 in
set_option maxRecDepth 100000 in
/-- about(k, w) -/
theorem c_Md_about (l : Launch) (D : va_G) (mo ma mu mt mz mb : Nat) (kX kO kT kZ kB : ClassId) (R tn on : Nat) (g fr to : Int32) (nx o c : Nat) (T : Nat → Int32) (B : Nat → Nat) (S : Nat → Int32) (dr de : Nat) (xf uf tf zf bf : Nat → Int32) (sz : Nat) (k w : Int32) (h : MdR R o c T B S tf zf bf) : Met l y_Md_about (wc y_Md_about b_Md_about 3 (some .int)) ({ frames := 0, cells := 0, slots := 0, locals := 0 }) (va_Pc [.ref mo, .int k, .int w] (rwB D (vM mo ma mu mt mz mb kX kO kT kZ kB R tn on (c - o) (B c - B o) c dr de g fr to nx xf uf tf zf bf) (yM kX kO kT kZ kB) sz)) (QI (fun (r : Int32) (u : Unit) => r = aboF o c T B k w) D (fun u => (yM kX kO kT kZ kB)) (fun u => (vM mo ma mu mt mz mb kX kO kT kZ kB R tn on (c - o) (B c - B o) c dr de g fr to nx xf uf tf zf bf)) (va_A (vM mo ma mu mt mz mb kX kO kT kZ kB R tn on (c - o) (B c - B o) c dr de g fr to nx xf uf tf zf bf) sz)) 0 0 (va_A (vM mo ma mu mt mz mb kX kO kT kZ kB R tn on (c - o) (B c - B o) c dr de g fr to nx xf uf tf zf bf) sz) := by
  refine rw_startI (by decide) (Nat.le_of_ble_eq_true rfl) ?_
  intro p e s m below meth cd A hx hb hr hT hown hlk hml hnm hA hP hK hD hS ls hl
  have hown : s.vm.findClass R_Md = some m.cls := hown
  have hP : va_P D classes [(mo, .inr (3, [.int (nI 0), .int (nI R), .ref ma, .int (nI tn), .ref mu, .int (nI on), .int (nI (c - o)), .ref mt, .ref mz, .ref mb, .int (nI (B c - B o)), .int (nI c), .int (nI dr), .int (nI de), .int g, .int fr, .int to, .int (nI nx)])), (ma, .inl (kX, 512, .inl xf)), (mu, .inl (kO, 512, .inl uf)), (mt, .inl (kT, 16384, .inl tf)), (mz, .inl (kZ, 16384, .inl zf)), (mb, .inl (kB, 16384, .inl bf))] s.heap := hP
  have hD : va_D A [(mo, .inr (3, [.int (nI 0), .int (nI R), .ref ma, .int (nI tn), .ref mu, .int (nI on), .int (nI (c - o)), .ref mt, .ref mz, .ref mb, .int (nI (B c - B o)), .int (nI c), .int (nI dr), .int (nI de), .int g, .int fr, .int to, .int (nI nx)])), (ma, .inl (kX, 512, .inl xf)), (mu, .inl (kO, 512, .inl uf)), (mt, .inl (kT, 16384, .inl tf)), (mz, .inl (kZ, 16384, .inl zf)), (mb, .inl (kB, 16384, .inl bf))] := hD
  have hK : va_K D classes [(kX, .byte), (kO, .byte), (kT, .int), (kZ, .int), (kB, .byte)] s := hK
  have hl : lv_has ls 3 [(0, .ref mo), (1, .int k), (2, .int w)] := hl
  obtain ⟨hs, hgT, hgZ, hgS, h8⟩ := id h
  obtain ⟨a1, a2, a3, a4, a5, a6, a7⟩ := id hs
  have hm := hs_mono hs
  have hoc := hm c o a3 (Nat.le_refl c)
  refine lv_aload_n hx hb d_Md_about_0 rfl (lv_at hl 0 rfl) ?_
  refine lv_iconst (v := nI 0) hx hb d_Md_about_1 (by decide +kernel) ?_
  refine pf_Md_30 hx hb hT hown hK hP hD hS 0 rfl (Nat.le_of_ble_eq_true rfl) d_Md_about_2 (fun H locs hP hD hS => ?_)
  have hP : va_P D classes [(mo, .inr (3, [.int (nI 0), .int (nI R), .ref ma, .int (nI tn), .ref mu, .int (nI on), .int (nI (c - o)), .ref mt, .ref mz, .ref mb, .int (nI (B c - B o)), .int (nI c), .int (nI dr), .int (nI de), .int g, .int fr, .int to, .int (nI nx)])), (ma, .inl (kX, 512, .inl xf)), (mu, .inl (kO, 512, .inl uf)), (mt, .inl (kT, 16384, .inl tf)), (mz, .inl (kZ, 16384, .inl zf)), (mb, .inl (kB, 16384, .inl bf))] H := hP
  have hD : va_D A [(mo, .inr (3, [.int (nI 0), .int (nI R), .ref ma, .int (nI tn), .ref mu, .int (nI on), .int (nI (c - o)), .ref mt, .ref mz, .ref mb, .int (nI (B c - B o)), .int (nI c), .int (nI dr), .int (nI de), .int g, .int fr, .int to, .int (nI nx)])), (ma, .inl (kX, 512, .inl xf)), (mu, .inl (kO, 512, .inl uf)), (mt, .inl (kT, 16384, .inl tf)), (mz, .inl (kZ, 16384, .inl zf)), (mb, .inl (kB, 16384, .inl bf))] := hD
  refine lv_iload_n hx hb d_Md_about_5 rfl (lv_at hl 1 rfl) ?_
  refine lv_if_lt (tgt := 17) hx hb d_Md_about_6 (by decide) (fun c_6 => ?_) (fun c_6 => ?_)
  · refine lv_iconst (v := (-1)) hx hb d_Md_about_17 (by decide +kernel) ?_
    refine lv_goto (tgt := 49) hx hb d_Md_about_18 (by decide) ?_
    exact rw_iret () hx hb hr hlk hK hP hD hS d_Md_about_49 (aboF_lo c_6).symm
  · refine lv_iload_n hx hb d_Md_about_9 rfl (lv_at hl 1 rfl) ?_
    refine lv_aload_n hx hb d_Md_about_10 rfl (lv_at hl 0 rfl) ?_
    refine gf_Md_36 hx hb hT hown hK hP 0 rfl rfl d_Md_about_11 ?_
    refine lv_icmp_lt (tgt := 21) hx hb d_Md_about_14 (by decide) (fun c_14 => ?_) (fun c_14 => ?_)
    · obtain ⟨n, n1, n3⟩ := nI_of c_6
      rw [n3] at hl c_14
      have n2 := (nI_ltI n1 (by omega)).mp c_14
      refine lv_iload_n hx hb d_Md_about_21 rfl (lv_at hl 2 rfl) ?_
      refine lv_if_ne (tgt := 34) hx hb d_Md_about_22 (by decide) (fun c_22 => ?_) (fun c_22 => ?_)
      · refine lv_iload_n hx hb d_Md_about_34 rfl (lv_at hl 2 rfl) ?_
        refine lv_iconst (v := nI 1) hx hb d_Md_about_35 (by decide +kernel) ?_
        refine lv_icmp_ne (tgt := 48) hx hb d_Md_about_36 (by decide) (fun c_36 => ?_) (fun c_36 => ?_)
        · refine lv_iconst (v := (-1)) hx hb d_Md_about_48 (by decide +kernel) ?_
          exact rw_iret () hx hb hr hlk hK hP hD hS d_Md_about_49 (by rw [n3]; exact (aboF_2 n2 (by omega) c_22 c_36).symm)
        · refine lv_aload_n hx hb d_Md_about_39 rfl (lv_at hl 0 rfl) ?_
          refine gf_Md_20 hx hb hT hown hK hP 0 rfl rfl d_Md_about_40 ?_
          refine lv_iload_n hx hb d_Md_about_43 rfl (lv_at hl 1 rfl) ?_
          refine nv_iald hx hb hK hP 4 3 rfl rfl (by omega) (by omega) d_Md_about_44 ?_
          refine nv_asI (y := B (o + n + 1) - B (o + n)) (hgZ n (by omega)) ?_
          refine lv_goto (tgt := 49) hx hb d_Md_about_45 (by decide) ?_
          exact rw_iret () hx hb hr hlk hK hP hD hS d_Md_about_49 (by rw [n3]; exact (aboF_1 n2 (by omega) c_22 c_36).symm)
      · refine lv_aload_n hx hb d_Md_about_25 rfl (lv_at hl 0 rfl) ?_
        refine gf_Md_16 hx hb hT hown hK hP 0 rfl rfl d_Md_about_26 ?_
        refine lv_iload_n hx hb d_Md_about_29 rfl (lv_at hl 1 rfl) ?_
        refine nv_iald hx hb hK hP 3 2 rfl rfl (by omega) (by omega) d_Md_about_30 ?_
        refine nv_asX (y := T (o + n)) (hgT n (by omega)) ?_
        refine lv_goto (tgt := 49) hx hb d_Md_about_31 (by decide) ?_
        exact rw_iret () hx hb hr hlk hK hP hD hS d_Md_about_49 (by rw [n3]; exact (aboF_0 n2 (by omega) c_22).symm)
    · refine lv_iconst (v := (-1)) hx hb d_Md_about_17 (by decide +kernel) ?_
      refine lv_goto (tgt := 49) hx hb d_Md_about_18 (by decide) ?_
      exact rw_iret () hx hb hr hlk hK hP hD hS d_Md_about_49 (aboF_hi c_14).symm
set_option maxHeartbeats 4000000 in
set_option maxRecDepth 100000 in
/-- byteAt(k, j) -/
theorem c_Md_byteAt (l : Launch) (D : va_G) (mo ma mu mt mz mb : Nat) (kX kO kT kZ kB : ClassId) (R tn on : Nat) (g fr to : Int32) (nx o c : Nat) (T : Nat → Int32) (B : Nat → Nat) (S : Nat → Int32) (dr de : Nat) (xf uf tf zf bf : Nat → Int32) (sz : Nat) (k j : Int32) (h : MdR R o c T B S tf zf bf) : Met l y_Md_byteAt (wc y_Md_byteAt b_Md_byteAt 3 (some .int)) ({ frames := 1, cells := 0, slots := 0, locals := 23 }) (va_Pc [.ref mo, .int k, .int j] (rwB D (vM mo ma mu mt mz mb kX kO kT kZ kB R tn on (c - o) (B c - B o) c dr de g fr to nx xf uf tf zf bf) (yM kX kO kT kZ kB) sz)) (QI (fun (r : Int32) (u : Unit) => r = bytF o c B S k j) D (fun u => (yM kX kO kT kZ kB)) (fun u => (vM mo ma mu mt mz mb kX kO kT kZ kB R tn on (c - o) (B c - B o) c dr de g fr to nx xf uf tf zf bf)) (va_A (vM mo ma mu mt mz mb kX kO kT kZ kB R tn on (c - o) (B c - B o) c dr de g fr to nx xf uf tf zf bf) sz)) 0 0 (va_A (vM mo ma mu mt mz mb kX kO kT kZ kB R tn on (c - o) (B c - B o) c dr de g fr to nx xf uf tf zf bf) sz) := by
  refine rw_startI (by decide) (Nat.le_of_ble_eq_true rfl) ?_
  intro p e s m below meth cd A hx hb hr hT hown hlk hml hnm hA hP hK hD hS ls hl
  have hown : s.vm.findClass R_Md = some m.cls := hown
  have hP : va_P D classes [(mo, .inr (3, [.int (nI 0), .int (nI R), .ref ma, .int (nI tn), .ref mu, .int (nI on), .int (nI (c - o)), .ref mt, .ref mz, .ref mb, .int (nI (B c - B o)), .int (nI c), .int (nI dr), .int (nI de), .int g, .int fr, .int to, .int (nI nx)])), (ma, .inl (kX, 512, .inl xf)), (mu, .inl (kO, 512, .inl uf)), (mt, .inl (kT, 16384, .inl tf)), (mz, .inl (kZ, 16384, .inl zf)), (mb, .inl (kB, 16384, .inl bf))] s.heap := hP
  have hD : va_D A [(mo, .inr (3, [.int (nI 0), .int (nI R), .ref ma, .int (nI tn), .ref mu, .int (nI on), .int (nI (c - o)), .ref mt, .ref mz, .ref mb, .int (nI (B c - B o)), .int (nI c), .int (nI dr), .int (nI de), .int g, .int fr, .int to, .int (nI nx)])), (ma, .inl (kX, 512, .inl xf)), (mu, .inl (kO, 512, .inl uf)), (mt, .inl (kT, 16384, .inl tf)), (mz, .inl (kZ, 16384, .inl zf)), (mb, .inl (kB, 16384, .inl bf))] := hD
  have hK : va_K D classes [(kX, .byte), (kO, .byte), (kT, .int), (kZ, .int), (kB, .byte)] s := hK
  have hl : lv_has ls 3 [(0, .ref mo), (1, .int k), (2, .int j)] := hl
  obtain ⟨hs, hgT, hgZ, hgS, h8⟩ := id h
  obtain ⟨a1, a2, a3, a4, a5, a6, a7⟩ := id hs
  have hm := hs_mono hs
  have hoc := hm c o a3 (Nat.le_refl c)
  refine lv_aload_n hx hb d_Md_byteAt_0 rfl (lv_at hl 0 rfl) ?_
  refine lv_iconst (v := nI 0) hx hb d_Md_byteAt_1 (by decide +kernel) ?_
  refine pf_Md_30 hx hb hT hown hK hP hD hS 0 rfl (Nat.le_of_ble_eq_true rfl) d_Md_byteAt_2 (fun H locs hP hD hS => ?_)
  have hP : va_P D classes [(mo, .inr (3, [.int (nI 0), .int (nI R), .ref ma, .int (nI tn), .ref mu, .int (nI on), .int (nI (c - o)), .ref mt, .ref mz, .ref mb, .int (nI (B c - B o)), .int (nI c), .int (nI dr), .int (nI de), .int g, .int fr, .int to, .int (nI nx)])), (ma, .inl (kX, 512, .inl xf)), (mu, .inl (kO, 512, .inl uf)), (mt, .inl (kT, 16384, .inl tf)), (mz, .inl (kZ, 16384, .inl zf)), (mb, .inl (kB, 16384, .inl bf))] H := hP
  have hD : va_D A [(mo, .inr (3, [.int (nI 0), .int (nI R), .ref ma, .int (nI tn), .ref mu, .int (nI on), .int (nI (c - o)), .ref mt, .ref mz, .ref mb, .int (nI (B c - B o)), .int (nI c), .int (nI dr), .int (nI de), .int g, .int fr, .int to, .int (nI nx)])), (ma, .inl (kX, 512, .inl xf)), (mu, .inl (kO, 512, .inl uf)), (mt, .inl (kT, 16384, .inl tf)), (mz, .inl (kZ, 16384, .inl zf)), (mb, .inl (kB, 16384, .inl bf))] := hD
  refine lv_iload_n hx hb d_Md_byteAt_5 rfl (lv_at hl 1 rfl) ?_
  refine lv_if_lt (tgt := 31) hx hb d_Md_byteAt_6 (by decide) (fun c_6 => ?_) (fun c_6 => ?_)
  · refine lv_iconst (v := (-1)) hx hb d_Md_byteAt_31 (by decide +kernel) ?_
    refine lv_goto (tgt := 51) hx hb d_Md_byteAt_32 (by decide) ?_
    exact rw_iret () hx hb hr hlk hK hP hD hS d_Md_byteAt_51 (bytF_lo c_6).symm
  · refine lv_iload_n hx hb d_Md_byteAt_9 rfl (lv_at hl 1 rfl) ?_
    refine lv_aload_n hx hb d_Md_byteAt_10 rfl (lv_at hl 0 rfl) ?_
    refine gf_Md_36 hx hb hT hown hK hP 0 rfl rfl d_Md_byteAt_11 ?_
    refine lv_icmp_ge (tgt := 31) hx hb d_Md_byteAt_14 (by decide) (fun c_14 => ?_) (fun c_14 => ?_)
    · refine lv_iconst (v := (-1)) hx hb d_Md_byteAt_31 (by decide +kernel) ?_
      refine lv_goto (tgt := 51) hx hb d_Md_byteAt_32 (by decide) ?_
      exact rw_iret () hx hb hr hlk hK hP hD hS d_Md_byteAt_51 (bytF_hi c_14).symm
    · obtain ⟨n, n1, n3⟩ := nI_of c_6
      rw [n3] at hl c_14
      have n2 := (nI_ltI n1 (by omega)).mp (Int32.not_le.mp c_14)
      have b0 := a7 (o + n) (by omega)
      have m1 := hm (o + n) o (by omega) (by omega)
      have m2 := hm c (o + n + 1) (by omega) (Nat.le_refl c)
      refine lv_iload_n hx hb d_Md_byteAt_17 rfl (lv_at hl 2 rfl) ?_
      refine lv_if_lt (tgt := 31) hx hb d_Md_byteAt_18 (by decide) (fun c_18 => ?_) (fun c_18 => ?_)
      · refine lv_iconst (v := (-1)) hx hb d_Md_byteAt_31 (by decide +kernel) ?_
        refine lv_goto (tgt := 51) hx hb d_Md_byteAt_32 (by decide) ?_
        exact rw_iret () hx hb hr hlk hK hP hD hS d_Md_byteAt_51 (by rw [n3]; exact (bytF_jl n2 (by omega) c_18).symm)
      · refine lv_iload_n hx hb d_Md_byteAt_21 rfl (lv_at hl 2 rfl) ?_
        refine lv_aload_n hx hb d_Md_byteAt_22 rfl (lv_at hl 0 rfl) ?_
        refine gf_Md_20 hx hb hT hown hK hP 0 rfl rfl d_Md_byteAt_23 ?_
        refine lv_iload_n hx hb d_Md_byteAt_26 rfl (lv_at hl 1 rfl) ?_
        refine nv_iald hx hb hK hP 4 3 rfl rfl (by omega) (by omega) d_Md_byteAt_27 ?_
        refine nv_asI (y := B (o + n + 1) - B (o + n)) (hgZ n (by omega)) ?_
        refine lv_icmp_lt (tgt := 35) hx hb d_Md_byteAt_28 (by decide) (fun c_28 => ?_) (fun c_28 => ?_)
        · obtain ⟨i, i1, i3⟩ := nI_of c_18
          rw [i3] at hl c_28
          have i2 := (nI_ltI i1 (by omega)).mp c_28
          refine lv_aload_n hx hb d_Md_byteAt_35 rfl (lv_at hl 0 rfl) ?_
          refine gf_Md_23 hx hb hT hown hK hP 0 rfl rfl d_Md_byteAt_36 ?_
          refine lv_aload_n hx hb d_Md_byteAt_39 rfl (lv_at hl 0 rfl) ?_
          refine lv_iload_n hx hb d_Md_byteAt_40 rfl (lv_at hl 1 rfl) ?_
          refine ro_calli (ci := 3) (As := [.int (nI n)]) (rest := [.ref mb]) hx hb hml hT hown (c_Md_start l D mo ma mu mt mz mb kX kO kT kZ kB R tn on g fr to nx o c T B S dr de xf uf tf zf bf n h (by omega)) (cs_Md_67 hT ⟨(Nat.le_of_ble_eq_true rfl), (Nat.le_of_ble_eq_true rfl)⟩) (hK.sub [0, 1, 2, 3, 4] rfl) (hP.sub [0, 1, 2, 3, 4, 5] rfl) 0 rfl rfl rfl hl.1 rfl (Nat.le_of_ble_eq_true rfl) d_Md_byteAt_41 ⟨(Nat.le_of_ble_eq_true rfl), (Nat.le_of_ble_eq_true rfl)⟩ (fun r_41 er_41 => ?_)
          subst er_41
          refine lv_iload_n hx hb d_Md_byteAt_44 rfl (lv_at hl 2 rfl) ?_
          refine nv_iadd hx hb d_Md_byteAt_45 ?_
          refine nv_bald hx hb hK hP 5 4 rfl rfl (by omega) (by omega) d_Md_byteAt_46 ?_
          refine nv_asX (y := S (B (o + n) + i)) (by rw [hgS _ (by omega), show B o + (B (o + n) - B o + i) = B (o + n) + i by omega]) ?_
          refine lv_sipush (v := nI 255) hx hb d_Md_byteAt_47 (by decide +kernel) ?_
          refine lv_iand hx hb d_Md_byteAt_50 ?_
          exact rw_iret () hx hb hr hlk hK hP hD hS d_Md_byteAt_51 (by rw [n3, i3]; exact (bytF_in n2 (by omega) i2 (by omega)).symm)
        · refine lv_iconst (v := (-1)) hx hb d_Md_byteAt_31 (by decide +kernel) ?_
          refine lv_goto (tgt := 51) hx hb d_Md_byteAt_32 (by decide) ?_
          exact rw_iret () hx hb hr hlk hK hP hD hS d_Md_byteAt_51 (by rw [n3]; exact (bytF_jh n2 (by omega) c_28).symm)
set_option maxHeartbeats 4000000 in
set_option maxRecDepth 100000 in
/-- next(most) -/
theorem c_Md_next (l : Launch) (D : va_G) (mo ma mu mt mz mb : Nat) (kX kO kT kZ kB : ClassId) (R tn on : Nat) (g fr to : Int32) (nx o c : Nat) (T : Nat → Int32) (B : Nat → Nat) (S : Nat → Int32) (dr de : Nat) (xf uf tf zf bf : Nat → Int32) (sz : Nat) (most : Int32) (h : MdR R o c T B S tf zf bf) (hnx : nx ≤ c) : Met l y_Md_next (wc y_Md_next b_Md_next 5 (some .int)) ({ frames := 1, cells := 0, slots := 0, locals := 23 }) (va_Pc [.ref mo, .int most] (rwB D (vM mo ma mu mt mz mb kX kO kT kZ kB R tn on (c - o) (B c - B o) c dr de g fr to nx xf uf tf zf bf) (yM kX kO kT kZ kB) sz)) (QI (fun (r : Int32) (u : Int32 × Nat × Nat × (Nat → Int32)) => NxS o c T B S most g fr to nx on uf r u.1 u.2.1 u.2.2.1 u.2.2.2) D (fun u => (yM kX kO kT kZ kB)) (fun u => (vM mo ma mu mt mz mb kX kO kT kZ kB R tn (u.2.2.1) (c - o) (B c - B o) c dr de (u.1) fr to (u.2.1) xf (u.2.2.2) tf zf bf)) (va_A (vM mo ma mu mt mz mb kX kO kT kZ kB R tn on (c - o) (B c - B o) c dr de g fr to nx xf uf tf zf bf) sz)) 0 0 (va_A (vM mo ma mu mt mz mb kX kO kT kZ kB R tn on (c - o) (B c - B o) c dr de g fr to nx xf uf tf zf bf) sz) := by
  refine rw_startI (by decide) (Nat.le_of_ble_eq_true rfl) ?_
  intro p e s m below meth cd A hx hb hr hT hown hlk hml hnm hA hP hK hD hS ls hl
  have hown : s.vm.findClass R_Md = some m.cls := hown
  have hP : va_P D classes [(mo, .inr (3, [.int (nI 0), .int (nI R), .ref ma, .int (nI tn), .ref mu, .int (nI on), .int (nI (c - o)), .ref mt, .ref mz, .ref mb, .int (nI (B c - B o)), .int (nI c), .int (nI dr), .int (nI de), .int g, .int fr, .int to, .int (nI nx)])), (ma, .inl (kX, 512, .inl xf)), (mu, .inl (kO, 512, .inl uf)), (mt, .inl (kT, 16384, .inl tf)), (mz, .inl (kZ, 16384, .inl zf)), (mb, .inl (kB, 16384, .inl bf))] s.heap := hP
  have hD : va_D A [(mo, .inr (3, [.int (nI 0), .int (nI R), .ref ma, .int (nI tn), .ref mu, .int (nI on), .int (nI (c - o)), .ref mt, .ref mz, .ref mb, .int (nI (B c - B o)), .int (nI c), .int (nI dr), .int (nI de), .int g, .int fr, .int to, .int (nI nx)])), (ma, .inl (kX, 512, .inl xf)), (mu, .inl (kO, 512, .inl uf)), (mt, .inl (kT, 16384, .inl tf)), (mz, .inl (kZ, 16384, .inl zf)), (mb, .inl (kB, 16384, .inl bf))] := hD
  have hK : va_K D classes [(kX, .byte), (kO, .byte), (kT, .int), (kZ, .int), (kB, .byte)] s := hK
  have hl : lv_has ls 5 [(0, .ref mo), (1, .int most)] := hl
  obtain ⟨hs, hgT, hgZ, hgS, h8⟩ := id h
  obtain ⟨a1, a2, a3, a4, a5, a6, a7⟩ := id hs
  have hm := hs_mono hs
  have hoc := hm c o a3 (Nat.le_refl c)
  refine lv_aload_n hx hb d_Md_next_0 rfl (lv_at hl 0 rfl) ?_
  refine lv_iconst (v := nI 0) hx hb d_Md_next_1 (by decide +kernel) ?_
  refine pf_Md_30 hx hb hT hown hK hP hD hS 0 rfl (Nat.le_of_ble_eq_true rfl) d_Md_next_2 (fun H locs hP hD hS => ?_)
  have hP : va_P D classes [(mo, .inr (3, [.int (nI 0), .int (nI R), .ref ma, .int (nI tn), .ref mu, .int (nI on), .int (nI (c - o)), .ref mt, .ref mz, .ref mb, .int (nI (B c - B o)), .int (nI c), .int (nI dr), .int (nI de), .int g, .int fr, .int to, .int (nI nx)])), (ma, .inl (kX, 512, .inl xf)), (mu, .inl (kO, 512, .inl uf)), (mt, .inl (kT, 16384, .inl tf)), (mz, .inl (kZ, 16384, .inl zf)), (mb, .inl (kB, 16384, .inl bf))] H := hP
  have hD : va_D A [(mo, .inr (3, [.int (nI 0), .int (nI R), .ref ma, .int (nI tn), .ref mu, .int (nI on), .int (nI (c - o)), .ref mt, .ref mz, .ref mb, .int (nI (B c - B o)), .int (nI c), .int (nI dr), .int (nI de), .int g, .int fr, .int to, .int (nI nx)])), (ma, .inl (kX, 512, .inl xf)), (mu, .inl (kO, 512, .inl uf)), (mt, .inl (kT, 16384, .inl tf)), (mz, .inl (kZ, 16384, .inl zf)), (mb, .inl (kB, 16384, .inl bf))] := hD
  refine lv_aload_n hx hb d_Md_next_5 rfl (lv_at hl 0 rfl) ?_
  refine gf_Md_54 hx hb hT hown hK hP 0 rfl rfl d_Md_next_6 ?_
  refine lv_if_ne (tgt := 14) hx hb d_Md_next_9 (by decide) (fun c_9 => ?_) (fun c_9 => ?_)
  · have LP : ∀ (k : Nat) (H : Heap) (locs : List Loc) (ls : Array Slot), o + k = max nx o → va_P D classes [(mo, .inr (3, [.int (nI 0), .int (nI R), .ref ma, .int (nI tn), .ref mu, .int (nI on), .int (nI (c - o)), .ref mt, .ref mz, .ref mb, .int (nI (B c - B o)), .int (nI c), .int (nI dr), .int (nI de), .int g, .int fr, .int to, .int (nI nx)])), (ma, .inl (kX, 512, .inl xf)), (mu, .inl (kO, 512, .inl uf)), (mt, .inl (kT, 16384, .inl tf)), (mz, .inl (kZ, 16384, .inl zf)), (mb, .inl (kB, 16384, .inl bf))] H → va_D A [(mo, .inr (3, [.int (nI 0), .int (nI R), .ref ma, .int (nI tn), .ref mu, .int (nI on), .int (nI (c - o)), .ref mt, .ref mz, .ref mb, .int (nI (B c - B o)), .int (nI c), .int (nI dr), .int (nI de), .int g, .int fr, .int to, .int (nI nx)])), (ma, .inl (kX, 512, .inl xf)), (mu, .inl (kO, 512, .inl uf)), (mt, .inl (kT, 16384, .inl tf)), (mz, .inl (kZ, 16384, .inl zf)), (mb, .inl (kB, 16384, .inl bf))] → va_S A s.heap H locs → lv_has ls 5 [(2, .int (nI k)), (0, .ref mo), (1, .int most)] → W p l e ({ frames := 1, cells := 0, slots := 0, locals := 23 }) s m [.ref mo, .int most].toArray below meth cd H locs 0 0 (MQ below (QI (fun (r : Int32) (u : Int32 × Nat × Nat × (Nat → Int32)) => NxS o c T B S most g fr to nx on uf r u.1 u.2.1 u.2.2.1 u.2.2.2) D (fun u => (yM kX kO kT kZ kB)) (fun u => (vM mo ma mu mt mz mb kX kO kT kZ kB R tn (u.2.2.1) (c - o) (B c - B o) c dr de (u.1) fr to (u.2.1) xf (u.2.2.2) tf zf bf)) A) [.ref mo, .int most].toArray s 0 0 A) (F0 m 39 ls []) := by
      clear hP hD hS hl
      intro k H locs ls hk hP hD hS hl
      refine lp_ind (α := Nat) (fun n k H locs ls => max nx o ≤ o + k ∧ o + k ≤ c ∧ c < o + k + n ∧ (∀ i, max nx o ≤ i → i < o + k → T i < fr ∨ to < T i) ∧ va_P D classes [(mo, .inr (3, [.int (nI 0), .int (nI R), .ref ma, .int (nI tn), .ref mu, .int (nI on), .int (nI (c - o)), .ref mt, .ref mz, .ref mb, .int (nI (B c - B o)), .int (nI c), .int (nI dr), .int (nI de), .int g, .int fr, .int to, .int (nI nx)])), (ma, .inl (kX, 512, .inl xf)), (mu, .inl (kO, 512, .inl uf)), (mt, .inl (kT, 16384, .inl tf)), (mz, .inl (kZ, 16384, .inl zf)), (mb, .inl (kB, 16384, .inl bf))] H ∧ va_D A [(mo, .inr (3, [.int (nI 0), .int (nI R), .ref ma, .int (nI tn), .ref mu, .int (nI on), .int (nI (c - o)), .ref mt, .ref mz, .ref mb, .int (nI (B c - B o)), .int (nI c), .int (nI dr), .int (nI de), .int g, .int fr, .int to, .int (nI nx)])), (ma, .inl (kX, 512, .inl xf)), (mu, .inl (kO, 512, .inl uf)), (mt, .inl (kT, 16384, .inl tf)), (mz, .inl (kZ, 16384, .inl zf)), (mb, .inl (kB, 16384, .inl bf))] ∧ va_S A s.heap H locs ∧ lv_has ls 5 [(2, .int (nI k)), (0, .ref mo), (1, .int most)]) ?_ (fun k H locs ls hq => by obtain ⟨k1, k2, k3, -⟩ := hq; omega) (c + 1) k _ _ _ ⟨by omega, by omega, by omega, fun i p q => by omega, hP, hD, hS, hl⟩
      clear hP hD hS hl hk
      intro n1 ih k H locs ls hq
      obtain ⟨k1, k2, k3, k4, hP, hD, hS, hl⟩ := hq
      refine lv_iload_n hx hb d_Md_next_39 rfl (lv_at hl 0 rfl) ?_
      refine lv_aload_n hx hb d_Md_next_40 rfl (lv_at hl 1 rfl) ?_
      refine gf_Md_36 hx hb hT hown hK hP 0 rfl rfl d_Md_next_41 ?_
      refine nv_icmp_ge (tgt := 79) hx hb (by omega) (by omega) d_Md_next_44 (by decide) (fun c_44 => ?_) (fun c_44 => ?_)
      · clear ih
        refine lv_aload_n hx hb d_Md_next_79 rfl (lv_at hl 1 rfl) ?_
        refine lv_aload_n hx hb d_Md_next_80 rfl (lv_at hl 1 rfl) ?_
        refine gf_Md_48 hx hb hT hown hK hP 0 rfl rfl d_Md_next_81 ?_
        refine lv_aload_n hx hb d_Md_next_84 rfl (lv_at hl 1 rfl) ?_
        refine gf_Md_36 hx hb hT hown hK hP 0 rfl rfl d_Md_next_85 ?_
        refine nv_isub hx hb (by omega) d_Md_next_88 ?_
        refine nv_as (y := o) (by omega) ?_
        refine lv_iload_n hx hb d_Md_next_89 rfl (lv_at hl 0 rfl) ?_
        refine nv_iadd hx hb d_Md_next_90 ?_
        refine pf_Md_64 hx hb hT hown hK hP hD hS 0 rfl (Nat.le_of_ble_eq_true rfl) d_Md_next_91 (fun H locs hP hD hS => ?_)
        have hP : va_P D classes [(mo, .inr (3, [.int (nI 0), .int (nI R), .ref ma, .int (nI tn), .ref mu, .int (nI on), .int (nI (c - o)), .ref mt, .ref mz, .ref mb, .int (nI (B c - B o)), .int (nI c), .int (nI dr), .int (nI de), .int g, .int fr, .int to, .int (nI (o + k))])), (ma, .inl (kX, 512, .inl xf)), (mu, .inl (kO, 512, .inl uf)), (mt, .inl (kT, 16384, .inl tf)), (mz, .inl (kZ, 16384, .inl zf)), (mb, .inl (kB, 16384, .inl bf))] H := hP
        have hD : va_D A [(mo, .inr (3, [.int (nI 0), .int (nI R), .ref ma, .int (nI tn), .ref mu, .int (nI on), .int (nI (c - o)), .ref mt, .ref mz, .ref mb, .int (nI (B c - B o)), .int (nI c), .int (nI dr), .int (nI de), .int g, .int fr, .int to, .int (nI (o + k))])), (ma, .inl (kX, 512, .inl xf)), (mu, .inl (kO, 512, .inl uf)), (mt, .inl (kT, 16384, .inl tf)), (mz, .inl (kZ, 16384, .inl zf)), (mb, .inl (kB, 16384, .inl bf))] := hD
        refine lv_iload_n hx hb d_Md_next_94 rfl (lv_at hl 0 rfl) ?_
        refine lv_aload_n hx hb d_Md_next_95 rfl (lv_at hl 1 rfl) ?_
        refine gf_Md_36 hx hb hT hown hK hP 0 rfl rfl d_Md_next_96 ?_
        refine nv_icmp_ne (tgt := 109) hx hb (by omega) (by omega) d_Md_next_99 (by decide) (fun c_99 => ?_) (fun c_99 => ?_)
        · exact absurd c_99 (by omega)
        · refine lv_aload_n hx hb d_Md_next_102 rfl (lv_at hl 1 rfl) ?_
          refine lv_iconst (v := nI 0) hx hb d_Md_next_103 (by decide +kernel) ?_
          refine pf_Md_54 hx hb hT hown hK hP hD hS 0 rfl (by decide +kernel) (by decide +kernel) (Nat.le_of_ble_eq_true rfl) d_Md_next_104 (fun H locs hP hD hS => ?_)
          have hP : va_P D classes [(mo, .inr (3, [.int (nI 0), .int (nI R), .ref ma, .int (nI tn), .ref mu, .int (nI on), .int (nI (c - o)), .ref mt, .ref mz, .ref mb, .int (nI (B c - B o)), .int (nI c), .int (nI dr), .int (nI de), .int (nI 0), .int fr, .int to, .int (nI (o + k))])), (ma, .inl (kX, 512, .inl xf)), (mu, .inl (kO, 512, .inl uf)), (mt, .inl (kT, 16384, .inl tf)), (mz, .inl (kZ, 16384, .inl zf)), (mb, .inl (kB, 16384, .inl bf))] H := hP
          have hD : va_D A [(mo, .inr (3, [.int (nI 0), .int (nI R), .ref ma, .int (nI tn), .ref mu, .int (nI on), .int (nI (c - o)), .ref mt, .ref mz, .ref mb, .int (nI (B c - B o)), .int (nI c), .int (nI dr), .int (nI de), .int (nI 0), .int fr, .int to, .int (nI (o + k))])), (ma, .inl (kX, 512, .inl xf)), (mu, .inl (kO, 512, .inl uf)), (mt, .inl (kT, 16384, .inl tf)), (mz, .inl (kZ, 16384, .inl zf)), (mb, .inl (kB, 16384, .inl bf))] := hD
          refine lv_iconst (v := (-1)) hx hb d_Md_next_107 (by decide +kernel) ?_
          exact rw_iret (nI 0, o + k, on, uf) hx hb hr hlk hK hP hD hS d_Md_next_108 (Or.inr ⟨c_9, o + k, ⟨k1, k2, k4, fun q => by omega⟩, Or.inl ⟨by omega, rfl, nI_0, by show o + k = c; omega, rfl, fun j _ => rfl⟩⟩)
      · refine lv_aload_n hx hb d_Md_next_47 rfl (lv_at hl 1 rfl) ?_
        refine gf_Md_16 hx hb hT hown hK hP 0 rfl rfl d_Md_next_48 ?_
        refine lv_iload_n hx hb d_Md_next_51 rfl (lv_at hl 0 rfl) ?_
        refine nv_iald hx hb hK hP 3 2 rfl rfl (by omega) (by omega) d_Md_next_52 ?_
        refine nv_asX (y := T (o + k)) (hgT k (by omega)) ?_
        refine lv_aload_n hx hb d_Md_next_53 rfl (lv_at hl 1 rfl) ?_
        refine gf_Md_58 hx hb hT hown hK hP 0 rfl rfl d_Md_next_54 ?_
        refine lv_icmp_lt (tgt := 73) hx hb d_Md_next_57 (by decide) (fun c_57 => ?_) (fun c_57 => ?_)
        · refine nv_iinc (lv' := [(2, .int (nI (k + 1))), (0, .ref mo), (1, .int most)]) hx hb d_Md_next_73 hl (k := 0) rfl (by decide) rfl (fun ls hl => ?_)
          refine lv_goto (tgt := 39) hx hb d_Md_next_76 (by decide) ?_
          exact ih (k + 1) _ _ _ ⟨by omega, by omega, by omega, fun i p q => by
              rcases Nat.lt_or_ge i (o + k) with z | z
              · exact k4 i p z
              · rw [show i = o + k by omega]; exact Or.inl c_57, hP, hD, hS, hl⟩
        · refine lv_aload_n hx hb d_Md_next_60 rfl (lv_at hl 1 rfl) ?_
          refine gf_Md_16 hx hb hT hown hK hP 0 rfl rfl d_Md_next_61 ?_
          refine lv_iload_n hx hb d_Md_next_64 rfl (lv_at hl 0 rfl) ?_
          refine nv_iald hx hb hK hP 3 2 rfl rfl (by omega) (by omega) d_Md_next_65 ?_
          refine nv_asX (y := T (o + k)) (hgT k (by omega)) ?_
          refine lv_aload_n hx hb d_Md_next_66 rfl (lv_at hl 1 rfl) ?_
          refine gf_Md_61 hx hb hT hown hK hP 0 rfl rfl d_Md_next_67 ?_
          refine lv_icmp_le (tgt := 79) hx hb d_Md_next_70 (by decide) (fun c_70 => ?_) (fun c_70 => ?_)
          · clear ih
            refine lv_aload_n hx hb d_Md_next_79 rfl (lv_at hl 1 rfl) ?_
            refine lv_aload_n hx hb d_Md_next_80 rfl (lv_at hl 1 rfl) ?_
            refine gf_Md_48 hx hb hT hown hK hP 0 rfl rfl d_Md_next_81 ?_
            refine lv_aload_n hx hb d_Md_next_84 rfl (lv_at hl 1 rfl) ?_
            refine gf_Md_36 hx hb hT hown hK hP 0 rfl rfl d_Md_next_85 ?_
            refine nv_isub hx hb (by omega) d_Md_next_88 ?_
            refine nv_as (y := o) (by omega) ?_
            refine lv_iload_n hx hb d_Md_next_89 rfl (lv_at hl 0 rfl) ?_
            refine nv_iadd hx hb d_Md_next_90 ?_
            refine pf_Md_64 hx hb hT hown hK hP hD hS 0 rfl (Nat.le_of_ble_eq_true rfl) d_Md_next_91 (fun H locs hP hD hS => ?_)
            have hP : va_P D classes [(mo, .inr (3, [.int (nI 0), .int (nI R), .ref ma, .int (nI tn), .ref mu, .int (nI on), .int (nI (c - o)), .ref mt, .ref mz, .ref mb, .int (nI (B c - B o)), .int (nI c), .int (nI dr), .int (nI de), .int g, .int fr, .int to, .int (nI (o + k))])), (ma, .inl (kX, 512, .inl xf)), (mu, .inl (kO, 512, .inl uf)), (mt, .inl (kT, 16384, .inl tf)), (mz, .inl (kZ, 16384, .inl zf)), (mb, .inl (kB, 16384, .inl bf))] H := hP
            have hD : va_D A [(mo, .inr (3, [.int (nI 0), .int (nI R), .ref ma, .int (nI tn), .ref mu, .int (nI on), .int (nI (c - o)), .ref mt, .ref mz, .ref mb, .int (nI (B c - B o)), .int (nI c), .int (nI dr), .int (nI de), .int g, .int fr, .int to, .int (nI (o + k))])), (ma, .inl (kX, 512, .inl xf)), (mu, .inl (kO, 512, .inl uf)), (mt, .inl (kT, 16384, .inl tf)), (mz, .inl (kZ, 16384, .inl zf)), (mb, .inl (kB, 16384, .inl bf))] := hD
            refine lv_iload_n hx hb d_Md_next_94 rfl (lv_at hl 0 rfl) ?_
            refine lv_aload_n hx hb d_Md_next_95 rfl (lv_at hl 1 rfl) ?_
            refine gf_Md_36 hx hb hT hown hK hP 0 rfl rfl d_Md_next_96 ?_
            refine nv_icmp_ne (tgt := 109) hx hb (by omega) (by omega) d_Md_next_99 (by decide) (fun c_99 => ?_) (fun c_99 => ?_)
            · have kc : o + k < c := by omega
              have b0 := a7 (o + k) kc
              have m1 := hm (o + k) o (by omega) (by omega)
              have m2 := hm c (o + k + 1) (by omega) (Nat.le_refl c)
              have hf : FindTo c T fr to (max nx o) (o + k) := ⟨k1, k2, k4, fun _ => ⟨c_57, Int32.not_lt.mpr c_70⟩⟩
              refine lv_aload_n hx hb d_Md_next_109 rfl (lv_at hl 1 rfl) ?_
              refine gf_Md_20 hx hb hT hown hK hP 0 rfl rfl d_Md_next_110 ?_
              refine lv_iload_n hx hb d_Md_next_113 rfl (lv_at hl 0 rfl) ?_
              refine nv_iald hx hb hK hP 4 3 rfl rfl (by omega) (by omega) d_Md_next_114 ?_
              refine nv_asI (y := B (o + k + 1) - B (o + k)) (hgZ k kc) ?_
              refine lv_iload_n hx hb d_Md_next_115 rfl (lv_at hl 2 rfl) ?_
              refine lv_icmp_le (tgt := 122) hx hb d_Md_next_116 (by decide) (fun c_116 => ?_) (fun c_116 => ?_)
              · refine lv_aload_n hx hb d_Md_next_122 rfl (lv_at hl 1 rfl) ?_
                refine lv_iload_n hx hb d_Md_next_123 rfl (lv_at hl 0 rfl) ?_
                refine ro_calli (ci := 3) (As := [.int (nI k)]) (rest := []) hx hb hml hT hown (c_Md_start l D mo ma mu mt mz mb kX kO kT kZ kB R tn on g fr to (o + k) o c T B S dr de xf uf tf zf bf k h (by omega)) (cs_Md_67 hT ⟨(Nat.le_of_ble_eq_true rfl), (Nat.le_of_ble_eq_true rfl)⟩) (hK.sub [0, 1, 2, 3, 4] rfl) (hP.sub [0, 1, 2, 3, 4, 5] rfl) 0 rfl rfl rfl hl.1 rfl (Nat.le_of_ble_eq_true rfl) d_Md_next_124 ⟨(Nat.le_of_ble_eq_true rfl), (Nat.le_of_ble_eq_true rfl)⟩ (fun r_124 er_124 => ?_)
                subst er_124
                refine lv_istore_n (lv' := [(3, .int (nI (B (o + k) - B o))), (2, .int (nI k)), (0, .ref mo), (1, .int most)]) hx hb d_Md_next_127 rfl hl (by decide) rfl (fun ls hl => ?_)
                refine lv_iconst (v := nI 0) hx hb d_Md_next_128 (by decide +kernel) ?_
                refine lv_istore (lv' := [(4, .int (nI 0)), (3, .int (nI (B (o + k) - B o))), (2, .int (nI k)), (0, .ref mo), (1, .int most)]) hx hb d_Md_next_129 hl (by decide) rfl (fun ls hl => ?_)
                refine lp_ind (α := Nat × (Nat → Int32)) (fun n x H locs ls => match x with
                  | (j, f) => j ≤ B (o + k + 1) - B (o + k) ∧ B (o + k + 1) - B (o + k) < j + n ∧ (∀ i, i < j → f i = S (B (o + k) + i)) ∧ va_P D classes [(mo, .inr (3, [.int (nI 0), .int (nI R), .ref ma, .int (nI tn), .ref mu, .int (nI on), .int (nI (c - o)), .ref mt, .ref mz, .ref mb, .int (nI (B c - B o)), .int (nI c), .int (nI dr), .int (nI de), .int g, .int fr, .int to, .int (nI (o + k))])), (ma, .inl (kX, 512, .inl xf)), (mu, .inl (kO, 512, .inl f)), (mt, .inl (kT, 16384, .inl tf)), (mz, .inl (kZ, 16384, .inl zf)), (mb, .inl (kB, 16384, .inl bf))] H ∧ va_D A [(mo, .inr (3, [.int (nI 0), .int (nI R), .ref ma, .int (nI tn), .ref mu, .int (nI on), .int (nI (c - o)), .ref mt, .ref mz, .ref mb, .int (nI (B c - B o)), .int (nI c), .int (nI dr), .int (nI de), .int g, .int fr, .int to, .int (nI (o + k))])), (ma, .inl (kX, 512, .inl xf)), (mu, .inl (kO, 512, .inl f)), (mt, .inl (kT, 16384, .inl tf)), (mz, .inl (kZ, 16384, .inl zf)), (mb, .inl (kB, 16384, .inl bf))] ∧ va_S A s.heap H locs ∧ lv_has ls 5 [(4, .int (nI j)), (3, .int (nI (B (o + k) - B o))), (2, .int (nI k)), (0, .ref mo), (1, .int most)]) ?_ (fun x H locs ls hq => by obtain ⟨j, f⟩ := x; obtain ⟨q1, q2, -⟩ := hq; omega) (B (o + k + 1) - B (o + k) + 1) (0, uf) _ _ _ ⟨by omega, by omega, fun i q => by omega, hP, hD, hS, hl⟩
                clear hP hD hS hl
                intro n2 ih x H locs ls hq
                obtain ⟨j, f⟩ := x
                obtain ⟨j1, j2, j3, hP, hD, hS, hl⟩ := hq
                refine lv_iload hx hb d_Md_next_131 (lv_at hl 0 rfl) ?_
                refine lv_aload_n hx hb d_Md_next_133 rfl (lv_at hl 3 rfl) ?_
                refine gf_Md_20 hx hb hT hown hK hP 0 rfl rfl d_Md_next_134 ?_
                refine lv_iload_n hx hb d_Md_next_137 rfl (lv_at hl 2 rfl) ?_
                refine nv_iald hx hb hK hP 4 3 rfl rfl (by omega) (by omega) d_Md_next_138 ?_
                refine nv_asI (y := B (o + k + 1) - B (o + k)) (hgZ k kc) ?_
                refine nv_icmp_ge (tgt := 164) hx hb (by omega) (by omega) d_Md_next_139 (by decide) (fun c_139 => ?_) (fun c_139 => ?_)
                · refine lv_aload_n hx hb d_Md_next_164 rfl (lv_at hl 3 rfl) ?_
                  refine lv_aload_n hx hb d_Md_next_165 rfl (lv_at hl 3 rfl) ?_
                  refine gf_Md_20 hx hb hT hown hK hP 0 rfl rfl d_Md_next_166 ?_
                  refine lv_iload_n hx hb d_Md_next_169 rfl (lv_at hl 2 rfl) ?_
                  refine nv_iald hx hb hK hP 4 3 rfl rfl (by omega) (by omega) d_Md_next_170 ?_
                  refine nv_asI (y := B (o + k + 1) - B (o + k)) (hgZ k kc) ?_
                  refine pf_Md_71 hx hb hT hown hK hP hD hS 0 rfl (Nat.le_of_ble_eq_true rfl) d_Md_next_171 (fun H locs hP hD hS => ?_)
                  have hP : va_P D classes [(mo, .inr (3, [.int (nI 0), .int (nI R), .ref ma, .int (nI tn), .ref mu, .int (nI (B (o + k + 1) - B (o + k))), .int (nI (c - o)), .ref mt, .ref mz, .ref mb, .int (nI (B c - B o)), .int (nI c), .int (nI dr), .int (nI de), .int g, .int fr, .int to, .int (nI (o + k))])), (ma, .inl (kX, 512, .inl xf)), (mu, .inl (kO, 512, .inl f)), (mt, .inl (kT, 16384, .inl tf)), (mz, .inl (kZ, 16384, .inl zf)), (mb, .inl (kB, 16384, .inl bf))] H := hP
                  have hD : va_D A [(mo, .inr (3, [.int (nI 0), .int (nI R), .ref ma, .int (nI tn), .ref mu, .int (nI (B (o + k + 1) - B (o + k))), .int (nI (c - o)), .ref mt, .ref mz, .ref mb, .int (nI (B c - B o)), .int (nI c), .int (nI dr), .int (nI de), .int g, .int fr, .int to, .int (nI (o + k))])), (ma, .inl (kX, 512, .inl xf)), (mu, .inl (kO, 512, .inl f)), (mt, .inl (kT, 16384, .inl tf)), (mz, .inl (kZ, 16384, .inl zf)), (mb, .inl (kB, 16384, .inl bf))] := hD
                  refine lv_aload_n hx hb d_Md_next_174 rfl (lv_at hl 3 rfl) ?_
                  refine lv_dup hx hb d_Md_next_175 rfl ?_
                  refine gf_Md_64 hx hb hT hown hK hP 0 rfl rfl d_Md_next_176 ?_
                  refine lv_iconst (v := nI 1) hx hb d_Md_next_179 (by decide +kernel) ?_
                  refine nv_iadd hx hb d_Md_next_180 ?_
                  refine pf_Md_64 hx hb hT hown hK hP hD hS 0 rfl (Nat.le_of_ble_eq_true rfl) d_Md_next_181 (fun H locs hP hD hS => ?_)
                  have hP : va_P D classes [(mo, .inr (3, [.int (nI 0), .int (nI R), .ref ma, .int (nI tn), .ref mu, .int (nI (B (o + k + 1) - B (o + k))), .int (nI (c - o)), .ref mt, .ref mz, .ref mb, .int (nI (B c - B o)), .int (nI c), .int (nI dr), .int (nI de), .int g, .int fr, .int to, .int (nI ((o + k) + 1))])), (ma, .inl (kX, 512, .inl xf)), (mu, .inl (kO, 512, .inl f)), (mt, .inl (kT, 16384, .inl tf)), (mz, .inl (kZ, 16384, .inl zf)), (mb, .inl (kB, 16384, .inl bf))] H := hP
                  have hD : va_D A [(mo, .inr (3, [.int (nI 0), .int (nI R), .ref ma, .int (nI tn), .ref mu, .int (nI (B (o + k + 1) - B (o + k))), .int (nI (c - o)), .ref mt, .ref mz, .ref mb, .int (nI (B c - B o)), .int (nI c), .int (nI dr), .int (nI de), .int g, .int fr, .int to, .int (nI ((o + k) + 1))])), (ma, .inl (kX, 512, .inl xf)), (mu, .inl (kO, 512, .inl f)), (mt, .inl (kT, 16384, .inl tf)), (mz, .inl (kZ, 16384, .inl zf)), (mb, .inl (kB, 16384, .inl bf))] := hD
                  refine lv_aload_n hx hb d_Md_next_184 rfl (lv_at hl 3 rfl) ?_
                  refine gf_Md_71 hx hb hT hown hK hP 0 rfl rfl d_Md_next_185 ?_
                  exact rw_iret (g, o + k + 1, B (o + k + 1) - B (o + k), f) hx hb hr hlk hK hP hD hS d_Md_next_188 (Or.inr ⟨c_9, o + k, hf, Or.inr (Or.inr ⟨kc, Int32.not_lt.mpr c_116, rfl, rfl, rfl, rfl, fun i q => j3 i (by omega)⟩)⟩)
                · refine lv_aload_n hx hb d_Md_next_142 rfl (lv_at hl 3 rfl) ?_
                  refine gf_Md_13 hx hb hT hown hK hP 0 rfl rfl d_Md_next_143 ?_
                  refine lv_iload hx hb d_Md_next_146 (lv_at hl 0 rfl) ?_
                  refine lv_aload_n hx hb d_Md_next_148 rfl (lv_at hl 3 rfl) ?_
                  refine gf_Md_23 hx hb hT hown hK hP 0 rfl rfl d_Md_next_149 ?_
                  refine lv_iload_n hx hb d_Md_next_152 rfl (lv_at hl 1 rfl) ?_
                  refine lv_iload hx hb d_Md_next_153 (lv_at hl 0 rfl) ?_
                  refine nv_iadd hx hb d_Md_next_155 ?_
                  refine nv_bald hx hb hK hP 5 4 rfl rfl (by omega) (by omega) d_Md_next_156 ?_
                  refine nv_bast hx hb hK hP hD hS 2 1 rfl rfl (by omega) (by omega) (by8_nar h8 _) d_Md_next_157 (fun H locs hP hD hS => ?_)
                  have hP : va_P D classes [(mo, .inr (3, [.int (nI 0), .int (nI R), .ref ma, .int (nI tn), .ref mu, .int (nI on), .int (nI (c - o)), .ref mt, .ref mz, .ref mb, .int (nI (B c - B o)), .int (nI c), .int (nI dr), .int (nI de), .int g, .int fr, .int to, .int (nI (o + k))])), (ma, .inl (kX, 512, .inl xf)), (mu, .inl (kO, 512, .inl (upd f j (bf ((B (o + k) - B o) + j))))), (mt, .inl (kT, 16384, .inl tf)), (mz, .inl (kZ, 16384, .inl zf)), (mb, .inl (kB, 16384, .inl bf))] H := hP
                  have hD : va_D A [(mo, .inr (3, [.int (nI 0), .int (nI R), .ref ma, .int (nI tn), .ref mu, .int (nI on), .int (nI (c - o)), .ref mt, .ref mz, .ref mb, .int (nI (B c - B o)), .int (nI c), .int (nI dr), .int (nI de), .int g, .int fr, .int to, .int (nI (o + k))])), (ma, .inl (kX, 512, .inl xf)), (mu, .inl (kO, 512, .inl (upd f j (bf ((B (o + k) - B o) + j))))), (mt, .inl (kT, 16384, .inl tf)), (mz, .inl (kZ, 16384, .inl zf)), (mb, .inl (kB, 16384, .inl bf))] := hD
                  refine nv_iinc (lv' := [(4, .int (nI (j + 1))), (3, .int (nI (B (o + k) - B o))), (2, .int (nI k)), (0, .ref mo), (1, .int most)]) hx hb d_Md_next_158 hl (k := 0) rfl (by decide) rfl (fun ls hl => ?_)
                  refine lv_goto (tgt := 131) hx hb d_Md_next_161 (by decide) ?_
                  exact ih (j + 1, (upd f j (bf ((B (o + k) - B o) + j)))) _ _ _ ⟨by omega, by omega, fun i q => by
                      rcases Nat.lt_or_ge i j with z | z
                      · rw [pk_un (by omega), j3 i z]
                      · rw [show i = j by omega, pk_us, hgS _ (by omega), show B o + (B (o + k) - B o + j) = B (o + k) + j by omega], hP, hD, hS, hl⟩
              · refine lv_bipush (v := (-2)) hx hb d_Md_next_119 (by decide +kernel) ?_
                exact rw_iret (g, o + k, on, uf) hx hb hr hlk hK hP hD hS d_Md_next_121 (Or.inr ⟨c_9, o + k, hf, Or.inr (Or.inl ⟨kc, Int32.not_le.mp c_116, rfl, rfl, rfl, rfl, fun j _ => rfl⟩)⟩)
            · exact absurd c_99 (by omega)
          · refine nv_iinc (lv' := [(2, .int (nI (k + 1))), (0, .ref mo), (1, .int most)]) hx hb d_Md_next_73 hl (k := 0) rfl (by decide) rfl (fun ls hl => ?_)
            refine lv_goto (tgt := 39) hx hb d_Md_next_76 (by decide) ?_
            exact ih (k + 1) _ _ _ ⟨by omega, by omega, by omega, fun i p q => by
                rcases Nat.lt_or_ge i (o + k) with z | z
                · exact k4 i p z
                · rw [show i = o + k by omega]; exact Or.inr (Int32.not_le.mp c_70), hP, hD, hS, hl⟩
    refine lv_aload_n hx hb d_Md_next_14 rfl (lv_at hl 0 rfl) ?_
    refine gf_Md_64 hx hb hT hown hK hP 0 rfl rfl d_Md_next_15 ?_
    refine lv_aload_n hx hb d_Md_next_18 rfl (lv_at hl 0 rfl) ?_
    refine gf_Md_48 hx hb hT hown hK hP 0 rfl rfl d_Md_next_19 ?_
    refine lv_aload_n hx hb d_Md_next_22 rfl (lv_at hl 0 rfl) ?_
    refine gf_Md_36 hx hb hT hown hK hP 0 rfl rfl d_Md_next_23 ?_
    refine nv_isub hx hb (by omega) d_Md_next_26 ?_
    refine nv_as (y := o) (by omega) ?_
    rcases Nat.lt_or_ge nx o with hno | hno
    · refine lv_isub hx hb d_Md_next_27 ?_
      refine lv_istore_n (lv' := [(2, .int (nI nx - nI o)), (0, .ref mo), (1, .int most)]) hx hb d_Md_next_28 rfl hl (by decide) rfl (fun ls hl => ?_)
      refine lv_iload_n hx hb d_Md_next_29 rfl (lv_at hl 0 rfl) ?_
      refine lv_if_ge (tgt := 37) hx hb d_Md_next_30 (by decide) (fun c_30 => ?_) (fun c_30 => ?_)
      · exact absurd c_30 (Int32.not_le.mpr (pk_sneg (by omega) hno))
      · refine lv_iconst (v := nI 0) hx hb d_Md_next_33 (by decide +kernel) ?_
        refine lv_goto (tgt := 38) hx hb d_Md_next_34 (by decide) ?_
        refine lv_istore_n (lv' := [(2, .int (nI 0)), (0, .ref mo), (1, .int most)]) hx hb d_Md_next_38 rfl hl (by decide) rfl (fun ls hl => ?_)
        exact LP 0 _ _ _ (by omega) hP hD hS hl
    · refine nv_isub hx hb (by omega) d_Md_next_27 ?_
      refine lv_istore_n (lv' := [(2, .int (nI (nx - o))), (0, .ref mo), (1, .int most)]) hx hb d_Md_next_28 rfl hl (by decide) rfl (fun ls hl => ?_)
      refine lv_iload_n hx hb d_Md_next_29 rfl (lv_at hl 0 rfl) ?_
      refine nv_if_ge (tgt := 37) hx hb (by omega) d_Md_next_30 (by decide) (fun c_30 => ?_) (fun c_30 => ?_)
      · refine lv_iload_n hx hb d_Md_next_37 rfl (lv_at hl 0 rfl) ?_
        refine lv_istore_n (lv' := [(2, .int (nI (nx - o))), (0, .ref mo), (1, .int most)]) hx hb d_Md_next_38 rfl hl (by decide) rfl (fun ls hl => ?_)
        exact LP (nx - o) _ _ _ (by omega) hP hD hS hl
      · exact absurd c_30 (by omega)
  · refine lv_iconst (v := (-1)) hx hb d_Md_next_12 (by decide +kernel) ?_
    exact rw_iret (g, nx, on, uf) hx hb hr hlk hK hP hD hS d_Md_next_13 (Or.inl ⟨c_9, rfl, c_9, rfl, rfl, fun j _ => rfl⟩)
set_option maxHeartbeats 4000000 in
set_option maxRecDepth 100000 in
/-- PacketStoreModel(v) -/
theorem c_Md_init (l : Launch) (D : va_G) (mo sz : Nat) (v : Int32) : Met l y_Md_init (wc y_Md_init b_Md_init 2 none) ({ frames := 1, cells := 5, slots := 50176, locals := 12 }) (va_Pc [.ref mo, .int v] (rwB D [(mo, .inr (3, [.int (nI 0), .int (nI 0), .null, .int (nI 0), .null, .int (nI 0), .int (nI 0), .null, .null, .null, .int (nI 0), .int (nI 0), .int (nI 0), .int (nI 0), .int (nI 0), .int (nI 0), .int (nI 0), .int (nI 0)]))] ([] : List (ClassId × FieldType)) sz)) (QV (fun (u : (Nat × Nat × Nat × Nat × Nat) × (ClassId × ClassId × ClassId × ClassId × ClassId)) => True) D (fun u => (yM u.2.1 u.2.2.1 u.2.2.2.1 u.2.2.2.2.1 u.2.2.2.2.2)) (fun u => (vM mo u.1.1 u.1.2.1 u.1.2.2.1 u.1.2.2.2.1 u.1.2.2.2.2 u.2.1 u.2.2.1 u.2.2.2.1 u.2.2.2.2.1 u.2.2.2.2.2 (rmF v) 0 0 0 0 0 0 0 (nI 0) (nI 0) (nI 0) 0 (fun _ => 0) (fun _ => 0) (fun _ => 0) (fun _ => 0) (fun _ => 0))) (va_A [(mo, .inr (3, [.int (nI 0), .int (nI 0), .null, .int (nI 0), .null, .int (nI 0), .int (nI 0), .null, .null, .null, .int (nI 0), .int (nI 0), .int (nI 0), .int (nI 0), .int (nI 0), .int (nI 0), .int (nI 0), .int (nI 0)]))] sz)) 5 50176 (va_A [(mo, .inr (3, [.int (nI 0), .int (nI 0), .null, .int (nI 0), .null, .int (nI 0), .int (nI 0), .null, .null, .null, .int (nI 0), .int (nI 0), .int (nI 0), .int (nI 0), .int (nI 0), .int (nI 0), .int (nI 0), .int (nI 0)]))] sz) := by
  refine rw_startV (by decide) (Nat.le_of_ble_eq_true rfl) ?_
  intro p e s m below meth cd A hx hb hr hT hown hlk hml hnm hA hP hK hD hS ls hl
  have hown : s.vm.findClass R_Md = some m.cls := hown
  have hP : va_P D classes [(mo, .inr (3, [.int (nI 0), .int (nI 0), .null, .int (nI 0), .null, .int (nI 0), .int (nI 0), .null, .null, .null, .int (nI 0), .int (nI 0), .int (nI 0), .int (nI 0), .int (nI 0), .int (nI 0), .int (nI 0), .int (nI 0)]))] s.heap := hP
  have hD : va_D A [(mo, .inr (3, [.int (nI 0), .int (nI 0), .null, .int (nI 0), .null, .int (nI 0), .int (nI 0), .null, .null, .null, .int (nI 0), .int (nI 0), .int (nI 0), .int (nI 0), .int (nI 0), .int (nI 0), .int (nI 0), .int (nI 0)]))] := hD
  have hK : va_K D classes [] s := hK
  have hl : lv_has ls 2 [(0, .ref mo), (1, .int v)] := hl
  refine lv_aload_n hx hb d_Md_init_0 rfl (lv_at hl 0 rfl) ?_
  refine W.objInit hx hb hown (hT _ tb_1_213) (hT _ tb_1_13) (hT _ tb_1_14) rfl (by rw [hml]; exact hl.1) rfl d_Md_init_1 (Nat.le_of_ble_eq_true rfl) (Nat.le_of_ble_eq_true rfl) ?_
  refine W.eq (g2 := F0 m 4 ls []) rfl ?_
  refine lv_aload_n hx hb d_Md_init_4 rfl (lv_at hl 0 rfl) ?_
  refine lv_sipush (v := nI 512) hx hb d_Md_init_5 (by decide +kernel) ?_
  refine va_newa (atype := .byte) (N' := 512) (a0 := (512, .inl (fun _ => 0))) hx hb (hT _ tb_1_62) rfl hK hP hD hS hA (fun _ => rfl) (nI_pos (by omega)) (nI_clamp (by omega)) (by show _ * 1 ≤ _; omega) (Nat.le_of_ble_eq_true rfl) (Nat.le_of_ble_eq_true rfl) d_Md_init_8 (fun ma kX H hK hP hD hS => ?_)
  have hP : va_P D classes [(mo, .inr (3, [.int (nI 0), .int (nI 0), .null, .int (nI 0), .null, .int (nI 0), .int (nI 0), .null, .null, .null, .int (nI 0), .int (nI 0), .int (nI 0), .int (nI 0), .int (nI 0), .int (nI 0), .int (nI 0), .int (nI 0)])), (ma, .inl (kX, 512, .inl (fun _ => 0)))] H := hP
  have hD : va_D A [(mo, .inr (3, [.int (nI 0), .int (nI 0), .null, .int (nI 0), .null, .int (nI 0), .int (nI 0), .null, .null, .null, .int (nI 0), .int (nI 0), .int (nI 0), .int (nI 0), .int (nI 0), .int (nI 0), .int (nI 0), .int (nI 0)])), (ma, .inl (kX, 512, .inl (fun _ => 0)))] := hD
  have hK : va_K D classes [(kX, .byte)] s := hK
  refine pf_Md_7 hx hb hT hown hK hP hD hS 0 rfl hnm (Nat.le_of_ble_eq_true rfl) d_Md_init_10 (fun H locs hP hD hS => ?_)
  have hP : va_P D classes [(mo, .inr (3, [.int (nI 0), .int (nI 0), .ref ma, .int (nI 0), .null, .int (nI 0), .int (nI 0), .null, .null, .null, .int (nI 0), .int (nI 0), .int (nI 0), .int (nI 0), .int (nI 0), .int (nI 0), .int (nI 0), .int (nI 0)])), (ma, .inl (kX, 512, .inl (fun _ => 0)))] H := hP
  have hD : va_D A [(mo, .inr (3, [.int (nI 0), .int (nI 0), .ref ma, .int (nI 0), .null, .int (nI 0), .int (nI 0), .null, .null, .null, .int (nI 0), .int (nI 0), .int (nI 0), .int (nI 0), .int (nI 0), .int (nI 0), .int (nI 0), .int (nI 0)])), (ma, .inl (kX, 512, .inl (fun _ => 0)))] := hD
  refine lv_aload_n hx hb d_Md_init_13 rfl (lv_at hl 0 rfl) ?_
  refine lv_sipush (v := nI 512) hx hb d_Md_init_14 (by decide +kernel) ?_
  refine va_newa (atype := .byte) (N' := 512) (a0 := (512, .inl (fun _ => 0))) hx hb (hT _ tb_1_62) rfl hK hP hD hS hA (fun _ => rfl) (nI_pos (by omega)) (nI_clamp (by omega)) (by show _ * 1 ≤ _; omega) (Nat.le_of_ble_eq_true rfl) (Nat.le_of_ble_eq_true rfl) d_Md_init_17 (fun mu kO H hK hP hD hS => ?_)
  have hP : va_P D classes [(mo, .inr (3, [.int (nI 0), .int (nI 0), .ref ma, .int (nI 0), .null, .int (nI 0), .int (nI 0), .null, .null, .null, .int (nI 0), .int (nI 0), .int (nI 0), .int (nI 0), .int (nI 0), .int (nI 0), .int (nI 0), .int (nI 0)])), (ma, .inl (kX, 512, .inl (fun _ => 0))), (mu, .inl (kO, 512, .inl (fun _ => 0)))] H := hP
  have hD : va_D A [(mo, .inr (3, [.int (nI 0), .int (nI 0), .ref ma, .int (nI 0), .null, .int (nI 0), .int (nI 0), .null, .null, .null, .int (nI 0), .int (nI 0), .int (nI 0), .int (nI 0), .int (nI 0), .int (nI 0), .int (nI 0), .int (nI 0)])), (ma, .inl (kX, 512, .inl (fun _ => 0))), (mu, .inl (kO, 512, .inl (fun _ => 0)))] := hD
  have hK : va_K D classes [(kX, .byte), (kO, .byte)] s := hK
  refine pf_Md_13 hx hb hT hown hK hP hD hS 0 rfl hnm (Nat.le_of_ble_eq_true rfl) d_Md_init_19 (fun H locs hP hD hS => ?_)
  have hP : va_P D classes [(mo, .inr (3, [.int (nI 0), .int (nI 0), .ref ma, .int (nI 0), .ref mu, .int (nI 0), .int (nI 0), .null, .null, .null, .int (nI 0), .int (nI 0), .int (nI 0), .int (nI 0), .int (nI 0), .int (nI 0), .int (nI 0), .int (nI 0)])), (ma, .inl (kX, 512, .inl (fun _ => 0))), (mu, .inl (kO, 512, .inl (fun _ => 0)))] H := hP
  have hD : va_D A [(mo, .inr (3, [.int (nI 0), .int (nI 0), .ref ma, .int (nI 0), .ref mu, .int (nI 0), .int (nI 0), .null, .null, .null, .int (nI 0), .int (nI 0), .int (nI 0), .int (nI 0), .int (nI 0), .int (nI 0), .int (nI 0), .int (nI 0)])), (ma, .inl (kX, 512, .inl (fun _ => 0))), (mu, .inl (kO, 512, .inl (fun _ => 0)))] := hD
  refine lv_aload_n hx hb d_Md_init_22 rfl (lv_at hl 0 rfl) ?_
  refine lv_sipush (v := nI 16384) hx hb d_Md_init_23 (by decide +kernel) ?_
  refine va_newa (atype := .int) (N' := 16384) (a0 := (16384, .inl (fun _ => 0))) hx hb (hT _ tb_1_63) rfl hK hP hD hS hA (fun _ => rfl) (nI_pos (by omega)) (nI_clamp (by omega)) (by show _ * 4 ≤ _; omega) (Nat.le_of_ble_eq_true rfl) (Nat.le_of_ble_eq_true rfl) d_Md_init_26 (fun mt kT H hK hP hD hS => ?_)
  have hP : va_P D classes [(mo, .inr (3, [.int (nI 0), .int (nI 0), .ref ma, .int (nI 0), .ref mu, .int (nI 0), .int (nI 0), .null, .null, .null, .int (nI 0), .int (nI 0), .int (nI 0), .int (nI 0), .int (nI 0), .int (nI 0), .int (nI 0), .int (nI 0)])), (ma, .inl (kX, 512, .inl (fun _ => 0))), (mu, .inl (kO, 512, .inl (fun _ => 0))), (mt, .inl (kT, 16384, .inl (fun _ => 0)))] H := hP
  have hD : va_D A [(mo, .inr (3, [.int (nI 0), .int (nI 0), .ref ma, .int (nI 0), .ref mu, .int (nI 0), .int (nI 0), .null, .null, .null, .int (nI 0), .int (nI 0), .int (nI 0), .int (nI 0), .int (nI 0), .int (nI 0), .int (nI 0), .int (nI 0)])), (ma, .inl (kX, 512, .inl (fun _ => 0))), (mu, .inl (kO, 512, .inl (fun _ => 0))), (mt, .inl (kT, 16384, .inl (fun _ => 0)))] := hD
  have hK : va_K D classes [(kX, .byte), (kO, .byte), (kT, .int)] s := hK
  refine pf_Md_16 hx hb hT hown hK hP hD hS 0 rfl hnm (Nat.le_of_ble_eq_true rfl) d_Md_init_28 (fun H locs hP hD hS => ?_)
  have hP : va_P D classes [(mo, .inr (3, [.int (nI 0), .int (nI 0), .ref ma, .int (nI 0), .ref mu, .int (nI 0), .int (nI 0), .ref mt, .null, .null, .int (nI 0), .int (nI 0), .int (nI 0), .int (nI 0), .int (nI 0), .int (nI 0), .int (nI 0), .int (nI 0)])), (ma, .inl (kX, 512, .inl (fun _ => 0))), (mu, .inl (kO, 512, .inl (fun _ => 0))), (mt, .inl (kT, 16384, .inl (fun _ => 0)))] H := hP
  have hD : va_D A [(mo, .inr (3, [.int (nI 0), .int (nI 0), .ref ma, .int (nI 0), .ref mu, .int (nI 0), .int (nI 0), .ref mt, .null, .null, .int (nI 0), .int (nI 0), .int (nI 0), .int (nI 0), .int (nI 0), .int (nI 0), .int (nI 0), .int (nI 0)])), (ma, .inl (kX, 512, .inl (fun _ => 0))), (mu, .inl (kO, 512, .inl (fun _ => 0))), (mt, .inl (kT, 16384, .inl (fun _ => 0)))] := hD
  refine lv_aload_n hx hb d_Md_init_31 rfl (lv_at hl 0 rfl) ?_
  refine lv_sipush (v := nI 16384) hx hb d_Md_init_32 (by decide +kernel) ?_
  refine va_newa (atype := .int) (N' := 16384) (a0 := (16384, .inl (fun _ => 0))) hx hb (hT _ tb_1_63) rfl hK hP hD hS hA (fun _ => rfl) (nI_pos (by omega)) (nI_clamp (by omega)) (by show _ * 4 ≤ _; omega) (Nat.le_of_ble_eq_true rfl) (Nat.le_of_ble_eq_true rfl) d_Md_init_35 (fun mz kZ H hK hP hD hS => ?_)
  have hP : va_P D classes [(mo, .inr (3, [.int (nI 0), .int (nI 0), .ref ma, .int (nI 0), .ref mu, .int (nI 0), .int (nI 0), .ref mt, .null, .null, .int (nI 0), .int (nI 0), .int (nI 0), .int (nI 0), .int (nI 0), .int (nI 0), .int (nI 0), .int (nI 0)])), (ma, .inl (kX, 512, .inl (fun _ => 0))), (mu, .inl (kO, 512, .inl (fun _ => 0))), (mt, .inl (kT, 16384, .inl (fun _ => 0))), (mz, .inl (kZ, 16384, .inl (fun _ => 0)))] H := hP
  have hD : va_D A [(mo, .inr (3, [.int (nI 0), .int (nI 0), .ref ma, .int (nI 0), .ref mu, .int (nI 0), .int (nI 0), .ref mt, .null, .null, .int (nI 0), .int (nI 0), .int (nI 0), .int (nI 0), .int (nI 0), .int (nI 0), .int (nI 0), .int (nI 0)])), (ma, .inl (kX, 512, .inl (fun _ => 0))), (mu, .inl (kO, 512, .inl (fun _ => 0))), (mt, .inl (kT, 16384, .inl (fun _ => 0))), (mz, .inl (kZ, 16384, .inl (fun _ => 0)))] := hD
  have hK : va_K D classes [(kX, .byte), (kO, .byte), (kT, .int), (kZ, .int)] s := hK
  refine pf_Md_20 hx hb hT hown hK hP hD hS 0 rfl hnm (Nat.le_of_ble_eq_true rfl) d_Md_init_37 (fun H locs hP hD hS => ?_)
  have hP : va_P D classes [(mo, .inr (3, [.int (nI 0), .int (nI 0), .ref ma, .int (nI 0), .ref mu, .int (nI 0), .int (nI 0), .ref mt, .ref mz, .null, .int (nI 0), .int (nI 0), .int (nI 0), .int (nI 0), .int (nI 0), .int (nI 0), .int (nI 0), .int (nI 0)])), (ma, .inl (kX, 512, .inl (fun _ => 0))), (mu, .inl (kO, 512, .inl (fun _ => 0))), (mt, .inl (kT, 16384, .inl (fun _ => 0))), (mz, .inl (kZ, 16384, .inl (fun _ => 0)))] H := hP
  have hD : va_D A [(mo, .inr (3, [.int (nI 0), .int (nI 0), .ref ma, .int (nI 0), .ref mu, .int (nI 0), .int (nI 0), .ref mt, .ref mz, .null, .int (nI 0), .int (nI 0), .int (nI 0), .int (nI 0), .int (nI 0), .int (nI 0), .int (nI 0), .int (nI 0)])), (ma, .inl (kX, 512, .inl (fun _ => 0))), (mu, .inl (kO, 512, .inl (fun _ => 0))), (mt, .inl (kT, 16384, .inl (fun _ => 0))), (mz, .inl (kZ, 16384, .inl (fun _ => 0)))] := hD
  refine lv_aload_n hx hb d_Md_init_40 rfl (lv_at hl 0 rfl) ?_
  refine lv_sipush (v := nI 16384) hx hb d_Md_init_41 (by decide +kernel) ?_
  refine va_newa (atype := .byte) (N' := 16384) (a0 := (16384, .inl (fun _ => 0))) hx hb (hT _ tb_1_62) rfl hK hP hD hS hA (fun _ => rfl) (nI_pos (by omega)) (nI_clamp (by omega)) (by show _ * 1 ≤ _; omega) (Nat.le_of_ble_eq_true rfl) (Nat.le_of_ble_eq_true rfl) d_Md_init_44 (fun mb kB H hK hP hD hS => ?_)
  have hP : va_P D classes [(mo, .inr (3, [.int (nI 0), .int (nI 0), .ref ma, .int (nI 0), .ref mu, .int (nI 0), .int (nI 0), .ref mt, .ref mz, .null, .int (nI 0), .int (nI 0), .int (nI 0), .int (nI 0), .int (nI 0), .int (nI 0), .int (nI 0), .int (nI 0)])), (ma, .inl (kX, 512, .inl (fun _ => 0))), (mu, .inl (kO, 512, .inl (fun _ => 0))), (mt, .inl (kT, 16384, .inl (fun _ => 0))), (mz, .inl (kZ, 16384, .inl (fun _ => 0))), (mb, .inl (kB, 16384, .inl (fun _ => 0)))] H := hP
  have hD : va_D A [(mo, .inr (3, [.int (nI 0), .int (nI 0), .ref ma, .int (nI 0), .ref mu, .int (nI 0), .int (nI 0), .ref mt, .ref mz, .null, .int (nI 0), .int (nI 0), .int (nI 0), .int (nI 0), .int (nI 0), .int (nI 0), .int (nI 0), .int (nI 0)])), (ma, .inl (kX, 512, .inl (fun _ => 0))), (mu, .inl (kO, 512, .inl (fun _ => 0))), (mt, .inl (kT, 16384, .inl (fun _ => 0))), (mz, .inl (kZ, 16384, .inl (fun _ => 0))), (mb, .inl (kB, 16384, .inl (fun _ => 0)))] := hD
  have hK : va_K D classes [(kX, .byte), (kO, .byte), (kT, .int), (kZ, .int), (kB, .byte)] s := hK
  refine pf_Md_23 hx hb hT hown hK hP hD hS 0 rfl hnm (Nat.le_of_ble_eq_true rfl) d_Md_init_46 (fun H locs hP hD hS => ?_)
  have hP : va_P D classes [(mo, .inr (3, [.int (nI 0), .int (nI 0), .ref ma, .int (nI 0), .ref mu, .int (nI 0), .int (nI 0), .ref mt, .ref mz, .ref mb, .int (nI 0), .int (nI 0), .int (nI 0), .int (nI 0), .int (nI 0), .int (nI 0), .int (nI 0), .int (nI 0)])), (ma, .inl (kX, 512, .inl (fun _ => 0))), (mu, .inl (kO, 512, .inl (fun _ => 0))), (mt, .inl (kT, 16384, .inl (fun _ => 0))), (mz, .inl (kZ, 16384, .inl (fun _ => 0))), (mb, .inl (kB, 16384, .inl (fun _ => 0)))] H := hP
  have hD : va_D A [(mo, .inr (3, [.int (nI 0), .int (nI 0), .ref ma, .int (nI 0), .ref mu, .int (nI 0), .int (nI 0), .ref mt, .ref mz, .ref mb, .int (nI 0), .int (nI 0), .int (nI 0), .int (nI 0), .int (nI 0), .int (nI 0), .int (nI 0), .int (nI 0)])), (ma, .inl (kX, 512, .inl (fun _ => 0))), (mu, .inl (kO, 512, .inl (fun _ => 0))), (mt, .inl (kT, 16384, .inl (fun _ => 0))), (mz, .inl (kZ, 16384, .inl (fun _ => 0))), (mb, .inl (kB, 16384, .inl (fun _ => 0)))] := hD
  refine lv_aload_n hx hb d_Md_init_49 rfl (lv_at hl 0 rfl) ?_
  refine lv_iload_n hx hb d_Md_init_50 rfl (lv_at hl 1 rfl) ?_
  refine lv_bipush (v := nI 64) hx hb d_Md_init_51 (by decide +kernel) ?_
  refine lv_icmp_ge (tgt := 61) hx hb d_Md_init_53 (by decide) (fun c_53 => ?_) (fun c_53 => ?_)
  · refine lv_iload_n hx hb d_Md_init_61 rfl (lv_at hl 1 rfl) ?_
    refine lv_sipush (v := nI 16384) hx hb d_Md_init_62 (by decide +kernel) ?_
    refine lv_icmp_le (tgt := 74) hx hb d_Md_init_65 (by decide) (fun c_65 => ?_) (fun c_65 => ?_)
    · refine lv_iload_n hx hb d_Md_init_74 rfl (lv_at hl 1 rfl) ?_
      refine nv_asI (y := rmF v) (rmF_in (Int32.not_lt.mpr c_53) (Int32.not_lt.mpr c_65)).1 ?_
      refine pf_Md_26 hx hb hT hown hK hP hD hS 0 rfl hnm (Nat.le_of_ble_eq_true rfl) d_Md_init_75 (fun H locs hP hD hS => ?_)
      have hP : va_P D classes [(mo, .inr (3, [.int (nI 0), .int (nI (rmF v)), .ref ma, .int (nI 0), .ref mu, .int (nI 0), .int (nI 0), .ref mt, .ref mz, .ref mb, .int (nI 0), .int (nI 0), .int (nI 0), .int (nI 0), .int (nI 0), .int (nI 0), .int (nI 0), .int (nI 0)])), (ma, .inl (kX, 512, .inl (fun _ => 0))), (mu, .inl (kO, 512, .inl (fun _ => 0))), (mt, .inl (kT, 16384, .inl (fun _ => 0))), (mz, .inl (kZ, 16384, .inl (fun _ => 0))), (mb, .inl (kB, 16384, .inl (fun _ => 0)))] H := hP
      have hD : va_D A [(mo, .inr (3, [.int (nI 0), .int (nI (rmF v)), .ref ma, .int (nI 0), .ref mu, .int (nI 0), .int (nI 0), .ref mt, .ref mz, .ref mb, .int (nI 0), .int (nI 0), .int (nI 0), .int (nI 0), .int (nI 0), .int (nI 0), .int (nI 0), .int (nI 0)])), (ma, .inl (kX, 512, .inl (fun _ => 0))), (mu, .inl (kO, 512, .inl (fun _ => 0))), (mt, .inl (kT, 16384, .inl (fun _ => 0))), (mz, .inl (kZ, 16384, .inl (fun _ => 0))), (mb, .inl (kB, 16384, .inl (fun _ => 0)))] := hD
      refine W.widen (k := 5) (n := 50176) (Nat.le_of_ble_eq_true rfl) (Nat.le_of_ble_eq_true rfl) ?_
      exact rw_vret ((ma, mu, mt, mz, mb), (kX, kO, kT, kZ, kB)) hx hb hr hlk hK hP hD hS d_Md_init_78 trivial
    · refine lv_sipush (v := nI 16384) hx hb d_Md_init_68 (by decide +kernel) ?_
      refine lv_goto (tgt := 75) hx hb d_Md_init_71 (by decide) ?_
      refine nv_as (y := rmF v) (by rw [rmF_hi (Int32.not_lt.mpr c_53) (Int32.not_le.mp c_65)]) ?_
      refine pf_Md_26 hx hb hT hown hK hP hD hS 0 rfl hnm (Nat.le_of_ble_eq_true rfl) d_Md_init_75 (fun H locs hP hD hS => ?_)
      have hP : va_P D classes [(mo, .inr (3, [.int (nI 0), .int (nI (rmF v)), .ref ma, .int (nI 0), .ref mu, .int (nI 0), .int (nI 0), .ref mt, .ref mz, .ref mb, .int (nI 0), .int (nI 0), .int (nI 0), .int (nI 0), .int (nI 0), .int (nI 0), .int (nI 0), .int (nI 0)])), (ma, .inl (kX, 512, .inl (fun _ => 0))), (mu, .inl (kO, 512, .inl (fun _ => 0))), (mt, .inl (kT, 16384, .inl (fun _ => 0))), (mz, .inl (kZ, 16384, .inl (fun _ => 0))), (mb, .inl (kB, 16384, .inl (fun _ => 0)))] H := hP
      have hD : va_D A [(mo, .inr (3, [.int (nI 0), .int (nI (rmF v)), .ref ma, .int (nI 0), .ref mu, .int (nI 0), .int (nI 0), .ref mt, .ref mz, .ref mb, .int (nI 0), .int (nI 0), .int (nI 0), .int (nI 0), .int (nI 0), .int (nI 0), .int (nI 0), .int (nI 0)])), (ma, .inl (kX, 512, .inl (fun _ => 0))), (mu, .inl (kO, 512, .inl (fun _ => 0))), (mt, .inl (kT, 16384, .inl (fun _ => 0))), (mz, .inl (kZ, 16384, .inl (fun _ => 0))), (mb, .inl (kB, 16384, .inl (fun _ => 0)))] := hD
      refine W.widen (k := 5) (n := 50176) (Nat.le_of_ble_eq_true rfl) (Nat.le_of_ble_eq_true rfl) ?_
      exact rw_vret ((ma, mu, mt, mz, mb), (kX, kO, kT, kZ, kB)) hx hb hr hlk hK hP hD hS d_Md_init_78 trivial
  · refine lv_bipush (v := nI 64) hx hb d_Md_init_56 (by decide +kernel) ?_
    refine lv_goto (tgt := 75) hx hb d_Md_init_58 (by decide) ?_
    refine nv_as (y := rmF v) (by rw [rmF_lo (Int32.not_le.mp c_53)]) ?_
    refine pf_Md_26 hx hb hT hown hK hP hD hS 0 rfl hnm (Nat.le_of_ble_eq_true rfl) d_Md_init_75 (fun H locs hP hD hS => ?_)
    have hP : va_P D classes [(mo, .inr (3, [.int (nI 0), .int (nI (rmF v)), .ref ma, .int (nI 0), .ref mu, .int (nI 0), .int (nI 0), .ref mt, .ref mz, .ref mb, .int (nI 0), .int (nI 0), .int (nI 0), .int (nI 0), .int (nI 0), .int (nI 0), .int (nI 0), .int (nI 0)])), (ma, .inl (kX, 512, .inl (fun _ => 0))), (mu, .inl (kO, 512, .inl (fun _ => 0))), (mt, .inl (kT, 16384, .inl (fun _ => 0))), (mz, .inl (kZ, 16384, .inl (fun _ => 0))), (mb, .inl (kB, 16384, .inl (fun _ => 0)))] H := hP
    have hD : va_D A [(mo, .inr (3, [.int (nI 0), .int (nI (rmF v)), .ref ma, .int (nI 0), .ref mu, .int (nI 0), .int (nI 0), .ref mt, .ref mz, .ref mb, .int (nI 0), .int (nI 0), .int (nI 0), .int (nI 0), .int (nI 0), .int (nI 0), .int (nI 0), .int (nI 0)])), (ma, .inl (kX, 512, .inl (fun _ => 0))), (mu, .inl (kO, 512, .inl (fun _ => 0))), (mt, .inl (kT, 16384, .inl (fun _ => 0))), (mz, .inl (kZ, 16384, .inl (fun _ => 0))), (mb, .inl (kB, 16384, .inl (fun _ => 0)))] := hD
    refine W.widen (k := 5) (n := 50176) (Nat.le_of_ble_eq_true rfl) (Nat.le_of_ble_eq_true rfl) ?_
    exact rw_vret ((ma, mu, mt, mz, mb), (kX, kO, kT, kZ, kB)) hx hb hr hlk hK hP hD hS d_Md_init_78 trivial
end
section
def lw_P (b : Addr) (xs : List Int32) (args : Array Value) (s : State) : Prop := args = #[.ref b] ∧ s.IntsAt b xs ∧ xs.length ≤ 1537 ∧ (Jvm.Cond.and given_1 narrow_1).before args s = true
def lw_Q (_ : Array Value) (s : State) (o : Outcome) (t : State) : Prop := o = .returned (some (.int 1)) ∧ Framed s o t [] 600000 7302250
def lw_Z (below : List Frame) (a : Array Value) (s : State) : State → Prop := fun t => ∃ o, t.status = .running ∧ Ended t below o ∧ lw_Q a s o t
/-- the law's own end, with 1 on the stack, nothing written that was there before, its room as the claim has it -/
theorem lw_ret {p : Program} {l : Launch} {e : Env} {s : State} {m : MethodId} {below : List Frame} {meth : Method} {c : Code} {b : Nat} (hx : p.tables.exec = Jvm.exec) (hb : c.code = code) (hr : meth.sig.returnType = ret) (hlocks : meth.locks = false) {pc : Nat} {H : Heap} {ls : Array Slot} (hdg : decode code pc = .ok (.ireturn, 1)) : W p l e room_1 s m #[Value.ref b] below meth c H [] 600000 7302250 (lw_Z below #[Value.ref b] s) (F0 m pc ls [.int 1]) := by
  intro T hT X
  obtain ⟨fs, hret, hrun, hended, hW, hframe⟩ := X.leave (v := some (.int 1)) (hlocks := hlocks) (fun h => by rw [hr] at h; cases h)
  have hmeth' : T.vm.method? m = some meth := X.method'
  refine ⟨T.setFrames fs, ?_, .returned (some (.int 1)), hrun, hended, rfl, ⟨_, rfl⟩, hW, hframe⟩
  jvm_step X.here [X.here.top, hx, hb, hdg, hmeth', hr, ret, narrow_b1]
  (try refine ⟨rfl, ?_⟩); (try refine ⟨rfl, ?_⟩)
  first | (intro acts; rw [hret _ acts rfl rfl rfl]) | rw [hret _ _ rfl rfl rfl]
  exact Steps.refl _
/-- what holds at the law's entry: the machine, the code, the tables' words (any of lw_tbl by 'hts w (by decide +kernel)'), the script of L ints xs at the cell b, what the Statement gives of the start (any of its parts by flat_of_before) -/
def lw_At (p : Program) (s : State) (m : MethodId) (meth : Method) (c : Code) (b L : Nat) (xs : Nat → Int32) : Prop :=
  p.tables.exec = Jvm.exec ∧ c.code = code ∧ meth.sig.returnType = ret ∧ c.maxLocals = 4 ∧ s.vm.findClass R_law = some m.cls ∧ (∀ w ∈ lw_tbl, w.before #[Value.ref b] s = true) ∧ va_X b L xs s s.heap ∧ b < s.heap.size ∧ meth.locks = false ∧ (Jvm.Cond.and given_1 narrow_1).before #[Value.ref b] s = true
set_option maxHeartbeats 4000000 in
set_option maxRecDepth 100000 in
/-- cell(script, 0) -/
theorem c_law_cell (l : Launch) (b L : Nat) (xs : Nat → Int32) (hL : L < 2 ^ 31) : Met l y_law_cell (wc y_law_cell b_law_cell 2 (some .int)) ({ frames := 0, cells := 0, slots := 0, locals := 0 }) (va_Pc [.ref b, .int (nI 0)] (fun U => va_X b L xs U U.heap)) (vp_Si (fun r => r = if 0 < L then xs 0 else nI 0)) 0 0 (fun _ => False) := by
  refine met_start (by decide) (Nat.le_of_ble_eq_true rfl) ?_
  intro p e s m below meth cd hx hb hr hT hown hlk hml hnm hX ls hl
  have hbl : b < s.heap.size := by
    obtain ⟨scr, h1, -⟩ := hX
    exact (Array.getElem?_eq_some_iff.mp h1).1
  have hS : va_S (fun _ => False) s.heap s.heap [] := va_S.rf
  have hl : lv_has ls 2 [(0, .ref b), (1, .int (nI 0))] := hl
  refine lv_iload_n hx hb d_law_cell_0 rfl (lv_at hl 1 rfl) ?_
  refine lv_aload_n hx hb d_law_cell_1 rfl (lv_at hl 0 rfl) ?_
  refine va_slen hx hb hX hbl (fun h => h) hS d_law_cell_2 ?_
  refine nv_asI (y := L) rfl ?_
  refine nv_icmp_ge (tgt := 12) hx hb (by omega) hL d_law_cell_3 (by decide) (fun c_3 => ?_) (fun c_3 => ?_)
  · refine lv_iconst (v := nI 0) hx hb d_law_cell_12 (by decide +kernel) ?_
    exact ro_iret hx hb hr hlk d_law_cell_13 (by rw [if_neg (by omega)])
  · refine lv_aload_n hx hb d_law_cell_6 rfl (lv_at hl 0 rfl) ?_
    refine lv_iload_n hx hb d_law_cell_7 rfl (lv_at hl 1 rfl) ?_
    refine va_sld hx hb hX hbl (fun h => h) hS (vp_in_nI c_3 hL) d_law_cell_8 ?_
    refine nv_asX (y := xs 0) (by rw [nI_clamp (by omega)]) ?_
    refine lv_goto (tgt := 13) hx hb d_law_cell_9 (by decide) ?_
    exact ro_iret hx hb hr hlk d_law_cell_13 (by rw [if_pos c_3])
/-! ===== the law's invariant: both worlds hold one history ===== -/
abbrev vL (x rt st ba ta sa xa oa : Nat) (cB cI cS cX cO : ClassId) (mo ma mu mt mz mb : Nat) (kX kO kT kZ kB : ClassId) (R : Nat) (tn on : Nat) (g fr to : Int32) (nx o c : Nat) (T : Nat → Int32) (B : Nat → Nat) (S : Nat → Int32) (dr de : Nat) (bf tf sf xf uf vf yf zf wf : Nat → Int32) : va_W := [(x, .inr (0, [.ref st, .ref rt, .ref xa, .ref oa, .int (nI tn), .int (nI on)])), (rt, .inr (2, [.ref st, .int g, .int fr, .int to, .int (nI nx)])), (st, .inr (1, [.ref ba, .ref ta, .ref sa, .int (nI o), .int (nI (c - o)), .int (nI (B o % R)), .int (nI (B c - B o)), .int (nI dr), .int (nI de)])), (ba, .inl (cB, R, .inl bf)), (ta, .inl (cI, R, .inl tf)), (sa, .inl (cS, R, .inl sf)), (xa, .inl (cX, 512, .inl xf)), (oa, .inl (cO, 512, .inl uf)), (mo, .inr (3, [.int (nI 0), .int (nI R), .ref ma, .int (nI tn), .ref mu, .int (nI on), .int (nI (c - o)), .ref mt, .ref mz, .ref mb, .int (nI (B c - B o)), .int (nI c), .int (nI dr), .int (nI de), .int g, .int fr, .int to, .int (nI nx)])), (ma, .inl (kX, 512, .inl xf)), (mu, .inl (kO, 512, .inl vf)), (mt, .inl (kT, 16384, .inl yf)), (mz, .inl (kZ, 16384, .inl zf)), (mb, .inl (kB, 16384, .inl wf))]
abbrev yL (cB cI cS cX cO : ClassId) (kX kO kT kZ kB : ClassId) : List (ClassId × FieldType) := [(cB, .byte), (cI, .int), (cS, .short), (cX, .byte), (cO, .byte), (kX, .byte), (kO, .byte), (kT, .int), (kZ, .int), (kB, .byte)]
/-- at the loop's head, r rounds done -/
def LInv (D : va_G) (s : State) (b : Nat) (x rt st ba ta sa xa oa : Nat) (cB cI cS cX cO : ClassId) (mo ma mu mt mz mb : Nat) (kX kO kT kZ kB : ClassId) (R : Nat) (r : Nat) (tn on : Nat) (g fr to : Int32) (nx o c : Nat) (T : Nat → Int32) (B : Nat → Nat) (S : Nat → Int32) (dr de : Nat) (bf tf sf xf uf vf yf zf wf : Nat → Int32) (H : Heap) (locs : List Loc) (ls : Array Slot) : Prop :=
  tn ≤ 512 ∧ on ≤ 512 ∧ nx ≤ c ∧ c ≤ r ∧ B c + tn ≤ r ∧ narrow .boolean (.int g) = .int g ∧ by8 xf ∧ StR R o c T B S bf tf sf ∧ MdR R o c T B S yf zf wf ∧ (∀ j, j < on → uf j = vf j) ∧
  va_P D classes (vL x rt st ba ta sa xa oa cB cI cS cX cO mo ma mu mt mz mb kX kO kT kZ kB R tn on g fr to nx o c T B S dr de bf tf sf xf uf vf yf zf wf) H ∧ va_D (fun q : Nat => s.heap.size ≤ q) (vL x rt st ba ta sa xa oa cB cI cS cX cO mo ma mu mt mz mb kX kO kT kZ kB R tn on g fr to nx o c T B S dr de bf tf sf xf uf vf yf zf wf) ∧ va_S (fun q : Nat => s.heap.size ≤ q) s.heap H locs ∧ lv_has ls 4 [(0, .ref b), (1, .ref x), (2, .ref mo), (3, .int (nI (1 + 3 * r)))]
end
section
set_option maxHeartbeats 4000000 in
set_option maxRecDepth 100000 in
theorem lc_put {p : Program} {l : Launch} {e : Env} {s : State} {m : MethodId} {below : List Frame} {meth : Method} {cd : Code} {D : va_G} {b L : Nat} {xs : Nat → Int32} (hL : L ≤ 1537) (C0 : lw_At p s m meth cd b L xs) (x rt st ba ta sa xa oa : Nat) (cB cI cS cX cO : ClassId) (mo ma mu mt mz mb : Nat) (kX kO kT kZ kB : ClassId) (R : Nat) (hK : va_K D classes (yL cB cI cS cX cO kX kO kT kZ kB) s) (r : Nat) (hrL : 1 + 3 * r + 3 ≤ L) (ih : ∀ (tn on : Nat) (g fr to : Int32) (nx o c : Nat) (T : Nat → Int32) (B : Nat → Nat) (S : Nat → Int32) (dr de : Nat) (bf tf sf xf uf vf yf zf wf : Nat → Int32) (H : Heap) (locs : List Loc) (ls : Array Slot), LInv D s b x rt st ba ta sa xa oa cB cI cS cX cO mo ma mu mt mz mb kX kO kT kZ kB R (r + 1) tn on g fr to nx o c T B S dr de bf tf sf xf uf vf yf zf wf H locs ls → W p l e room_1 s m #[Value.ref b] below meth cd H locs 600000 7302250 (lw_Z below #[Value.ref b] s) (F0 m 28 ls [])) (tn on : Nat) (g fr to : Int32) (nx o c : Nat) (T : Nat → Int32) (B : Nat → Nat) (S : Nat → Int32) (dr de : Nat) (bf tf sf xf uf vf yf zf wf : Nat → Int32) (H : Heap) (locs : List Loc) (ls : Array Slot) (hI : LInv D s b x rt st ba ta sa xa oa cB cI cS cX cO mo ma mu mt mz mb kX kO kT kZ kB R r tn on g fr to nx o c T B S dr de bf tf sf xf uf vf yf zf wf H locs ls) : W p l e room_1 s m #[Value.ref b] below meth cd H locs 600000 7302250 (lw_Z below #[Value.ref b] s) (F0 m 96 ls []) := by
  obtain ⟨hx, hb, hr, hml, hown, hts, hX, hbl, hlocks, hgv⟩ := C0
  have hT := lw_g_of hts
  obtain ⟨q1, q2, q3, q4, q5, q6, q7, hst, hmd, q8, hP, hD, hS, hl⟩ := hI
  have hA : ∀ q : Nat, s.heap.size ≤ q → (fun q : Nat => s.heap.size ≤ q) q := fun _ h => h
  have hbA : ¬ (fun q : Nat => s.heap.size ≤ q) b := Nat.not_le.mpr hbl
  have hP : va_P D classes [(x, .inr (0, [.ref st, .ref rt, .ref xa, .ref oa, .int (nI tn), .int (nI on)])), (rt, .inr (2, [.ref st, .int g, .int fr, .int to, .int (nI nx)])), (st, .inr (1, [.ref ba, .ref ta, .ref sa, .int (nI o), .int (nI (c - o)), .int (nI (B o % R)), .int (nI (B c - B o)), .int (nI dr), .int (nI de)])), (ba, .inl (cB, R, .inl bf)), (ta, .inl (cI, R, .inl tf)), (sa, .inl (cS, R, .inl sf)), (xa, .inl (cX, 512, .inl xf)), (oa, .inl (cO, 512, .inl uf)), (mo, .inr (3, [.int (nI 0), .int (nI R), .ref ma, .int (nI tn), .ref mu, .int (nI on), .int (nI (c - o)), .ref mt, .ref mz, .ref mb, .int (nI (B c - B o)), .int (nI c), .int (nI dr), .int (nI de), .int g, .int fr, .int to, .int (nI nx)])), (ma, .inl (kX, 512, .inl xf)), (mu, .inl (kO, 512, .inl vf)), (mt, .inl (kT, 16384, .inl yf)), (mz, .inl (kZ, 16384, .inl zf)), (mb, .inl (kB, 16384, .inl wf))] H := hP
  have hD : va_D (fun q : Nat => s.heap.size ≤ q) [(x, .inr (0, [.ref st, .ref rt, .ref xa, .ref oa, .int (nI tn), .int (nI on)])), (rt, .inr (2, [.ref st, .int g, .int fr, .int to, .int (nI nx)])), (st, .inr (1, [.ref ba, .ref ta, .ref sa, .int (nI o), .int (nI (c - o)), .int (nI (B o % R)), .int (nI (B c - B o)), .int (nI dr), .int (nI de)])), (ba, .inl (cB, R, .inl bf)), (ta, .inl (cI, R, .inl tf)), (sa, .inl (cS, R, .inl sf)), (xa, .inl (cX, 512, .inl xf)), (oa, .inl (cO, 512, .inl uf)), (mo, .inr (3, [.int (nI 0), .int (nI R), .ref ma, .int (nI tn), .ref mu, .int (nI on), .int (nI (c - o)), .ref mt, .ref mz, .ref mb, .int (nI (B c - B o)), .int (nI c), .int (nI dr), .int (nI de), .int g, .int fr, .int to, .int (nI nx)])), (ma, .inl (kX, 512, .inl xf)), (mu, .inl (kO, 512, .inl vf)), (mt, .inl (kT, 16384, .inl yf)), (mz, .inl (kZ, 16384, .inl zf)), (mb, .inl (kB, 16384, .inl wf))] := hD
  have hK : va_K D classes [(cB, .byte), (cI, .int), (cS, .short), (cX, .byte), (cO, .byte), (kX, .byte), (kO, .byte), (kT, .int), (kZ, .int), (kB, .byte)] s := hK
  refine lv_aload_n hx hb d_law_96 rfl (lv_at hl 1 rfl) ?_
  refine lv_aload_n hx hb d_law_97 rfl (lv_at hl 0 rfl) ?_
  refine lv_iload_n hx hb d_law_98 rfl (lv_at hl 3 rfl) ?_
  refine lv_iconst (v := nI 1) hx hb d_law_99 (by decide +kernel) ?_
  refine nv_iadd hx hb d_law_100 ?_
  refine va_sld hx hb hX hbl hbA hS (vp_in_nI (by omega) (by omega)) d_law_101 ?_
  refine nv_asX (y := xs ((1 + 3 * r) + 1)) (by rw [nI_clamp (by omega)]) ?_
  refine rw_calli (ci := 0) (As := [.int (xs ((1 + 3 * r) + 1))]) (rest := []) (wr := [(mo, .inr (3, [.int (nI 0), .int (nI R), .ref ma, .int (nI tn), .ref mu, .int (nI on), .int (nI (c - o)), .ref mt, .ref mz, .ref mb, .int (nI (B c - B o)), .int (nI c), .int (nI dr), .int (nI de), .int g, .int fr, .int to, .int (nI nx)])), (ma, .inl (kX, 512, .inl xf)), (mu, .inl (kO, 512, .inl vf)), (mt, .inl (kT, 16384, .inl yf)), (mz, .inl (kZ, 16384, .inl zf)), (mb, .inl (kB, 16384, .inl wf))]) hx hb hml hT hown (c_PS_put l D x rt st ba ta sa xa oa cB cI cS cX cO tn on g fr to nx R o c T B S dr de bf tf sf xf uf H.size (xs ((1 + 3 * r) + 1)) q1) (cs_law_21 hT ⟨(Nat.le_of_ble_eq_true rfl), (Nat.le_of_ble_eq_true rfl)⟩) (hK.sub [0, 1, 2, 3, 4] rfl) hP hD hS hA [0, 1, 2, 3, 4, 5, 6, 7] [8, 9, 10, 11, 12, 13] rfl rfl (by decide) (by decide) (by decide) 0 rfl rfl rfl hl.1 rfl (Nat.le_of_ble_eq_true rfl) d_law_102 ⟨(Nat.le_of_ble_eq_true rfl), (Nat.le_of_ble_eq_true rfl)⟩ (fun r_102 u H locs hw hKn hP hD hS => ?_)
  obtain ⟨tn2, xf2⟩ := u
  have hw1 : PtS tn xf (xs ((1 + 3 * r) + 1)) r_102 tn2 xf2 := hw
  have hP : va_P D classes [(x, .inr (0, [.ref st, .ref rt, .ref xa, .ref oa, .int (nI tn2), .int (nI on)])), (rt, .inr (2, [.ref st, .int g, .int fr, .int to, .int (nI nx)])), (st, .inr (1, [.ref ba, .ref ta, .ref sa, .int (nI o), .int (nI (c - o)), .int (nI (B o % R)), .int (nI (B c - B o)), .int (nI dr), .int (nI de)])), (ba, .inl (cB, R, .inl bf)), (ta, .inl (cI, R, .inl tf)), (sa, .inl (cS, R, .inl sf)), (xa, .inl (cX, 512, .inl xf2)), (oa, .inl (cO, 512, .inl uf)), (mo, .inr (3, [.int (nI 0), .int (nI R), .ref ma, .int (nI tn), .ref mu, .int (nI on), .int (nI (c - o)), .ref mt, .ref mz, .ref mb, .int (nI (B c - B o)), .int (nI c), .int (nI dr), .int (nI de), .int g, .int fr, .int to, .int (nI nx)])), (ma, .inl (kX, 512, .inl xf)), (mu, .inl (kO, 512, .inl vf)), (mt, .inl (kT, 16384, .inl yf)), (mz, .inl (kZ, 16384, .inl zf)), (mb, .inl (kB, 16384, .inl wf))] H := hP.sub [6, 7, 8, 9, 10, 11, 12, 13, 0, 1, 2, 3, 4, 5] rfl
  have hD : va_D (fun q : Nat => s.heap.size ≤ q) [(x, .inr (0, [.ref st, .ref rt, .ref xa, .ref oa, .int (nI tn2), .int (nI on)])), (rt, .inr (2, [.ref st, .int g, .int fr, .int to, .int (nI nx)])), (st, .inr (1, [.ref ba, .ref ta, .ref sa, .int (nI o), .int (nI (c - o)), .int (nI (B o % R)), .int (nI (B c - B o)), .int (nI dr), .int (nI de)])), (ba, .inl (cB, R, .inl bf)), (ta, .inl (cI, R, .inl tf)), (sa, .inl (cS, R, .inl sf)), (xa, .inl (cX, 512, .inl xf2)), (oa, .inl (cO, 512, .inl uf)), (mo, .inr (3, [.int (nI 0), .int (nI R), .ref ma, .int (nI tn), .ref mu, .int (nI on), .int (nI (c - o)), .ref mt, .ref mz, .ref mb, .int (nI (B c - B o)), .int (nI c), .int (nI dr), .int (nI de), .int g, .int fr, .int to, .int (nI nx)])), (ma, .inl (kX, 512, .inl xf)), (mu, .inl (kO, 512, .inl vf)), (mt, .inl (kT, 16384, .inl yf)), (mz, .inl (kZ, 16384, .inl zf)), (mb, .inl (kB, 16384, .inl wf))] := hD.sub [6, 7, 8, 9, 10, 11, 12, 13, 0, 1, 2, 3, 4, 5] (by decide) rfl
  refine lv_aload_n hx hb d_law_105 rfl (lv_at hl 2 rfl) ?_
  refine lv_aload_n hx hb d_law_106 rfl (lv_at hl 0 rfl) ?_
  refine lv_iload_n hx hb d_law_107 rfl (lv_at hl 3 rfl) ?_
  refine lv_iconst (v := nI 1) hx hb d_law_108 (by decide +kernel) ?_
  refine nv_iadd hx hb d_law_109 ?_
  refine va_sld hx hb hX hbl hbA hS (vp_in_nI (by omega) (by omega)) d_law_110 ?_
  refine nv_asX (y := xs ((1 + 3 * r) + 1)) (by rw [nI_clamp (by omega)]) ?_
  refine rw_calli (ci := 3) (As := [.int (xs ((1 + 3 * r) + 1))]) (rest := [.int r_102]) (wr := [(x, .inr (0, [.ref st, .ref rt, .ref xa, .ref oa, .int (nI tn2), .int (nI on)])), (rt, .inr (2, [.ref st, .int g, .int fr, .int to, .int (nI nx)])), (st, .inr (1, [.ref ba, .ref ta, .ref sa, .int (nI o), .int (nI (c - o)), .int (nI (B o % R)), .int (nI (B c - B o)), .int (nI dr), .int (nI de)])), (ba, .inl (cB, R, .inl bf)), (ta, .inl (cI, R, .inl tf)), (sa, .inl (cS, R, .inl sf)), (xa, .inl (cX, 512, .inl xf2)), (oa, .inl (cO, 512, .inl uf))]) hx hb hml hT hown (c_Md_put l D mo ma mu mt mz mb kX kO kT kZ kB R tn on g fr to nx o c T B S dr de xf vf yf zf wf H.size (xs ((1 + 3 * r) + 1)) q1) (cs_law_25 hT ⟨(Nat.le_of_ble_eq_true rfl), (Nat.le_of_ble_eq_true rfl)⟩) (hK.sub [5, 6, 7, 8, 9] rfl) hP hD hS hA [8, 9, 10, 11, 12, 13] [0, 1, 2, 3, 4, 5, 6, 7] rfl rfl (by decide) (by decide) (by decide) 0 rfl rfl rfl hl.1 rfl (Nat.le_of_ble_eq_true rfl) d_law_111 ⟨(Nat.le_of_ble_eq_true rfl), (Nat.le_of_ble_eq_true rfl)⟩ (fun r_111 u H locs hw hKn hP hD hS => ?_)
  obtain ⟨tn3, xf3⟩ := u
  have hw2 : PtS tn xf (xs ((1 + 3 * r) + 1)) r_111 tn3 xf3 := hw
  obtain ⟨e1, e2, e3⟩ := ptS_one hw1 hw2
  subst e2
  subst e3
  have hP : va_P D classes [(x, .inr (0, [.ref st, .ref rt, .ref xa, .ref oa, .int (nI tn2), .int (nI on)])), (rt, .inr (2, [.ref st, .int g, .int fr, .int to, .int (nI nx)])), (st, .inr (1, [.ref ba, .ref ta, .ref sa, .int (nI o), .int (nI (c - o)), .int (nI (B o % R)), .int (nI (B c - B o)), .int (nI dr), .int (nI de)])), (ba, .inl (cB, R, .inl bf)), (ta, .inl (cI, R, .inl tf)), (sa, .inl (cS, R, .inl sf)), (xa, .inl (cX, 512, .inl xf2)), (oa, .inl (cO, 512, .inl uf)), (mo, .inr (3, [.int (nI 0), .int (nI R), .ref ma, .int (nI tn2), .ref mu, .int (nI on), .int (nI (c - o)), .ref mt, .ref mz, .ref mb, .int (nI (B c - B o)), .int (nI c), .int (nI dr), .int (nI de), .int g, .int fr, .int to, .int (nI nx)])), (ma, .inl (kX, 512, .inl xf2)), (mu, .inl (kO, 512, .inl vf)), (mt, .inl (kT, 16384, .inl yf)), (mz, .inl (kZ, 16384, .inl zf)), (mb, .inl (kB, 16384, .inl wf))] H := hP.sub [0, 1, 2, 3, 4, 5, 6, 7, 8, 9, 10, 11, 12, 13] rfl
  have hD : va_D (fun q : Nat => s.heap.size ≤ q) [(x, .inr (0, [.ref st, .ref rt, .ref xa, .ref oa, .int (nI tn2), .int (nI on)])), (rt, .inr (2, [.ref st, .int g, .int fr, .int to, .int (nI nx)])), (st, .inr (1, [.ref ba, .ref ta, .ref sa, .int (nI o), .int (nI (c - o)), .int (nI (B o % R)), .int (nI (B c - B o)), .int (nI dr), .int (nI de)])), (ba, .inl (cB, R, .inl bf)), (ta, .inl (cI, R, .inl tf)), (sa, .inl (cS, R, .inl sf)), (xa, .inl (cX, 512, .inl xf2)), (oa, .inl (cO, 512, .inl uf)), (mo, .inr (3, [.int (nI 0), .int (nI R), .ref ma, .int (nI tn2), .ref mu, .int (nI on), .int (nI (c - o)), .ref mt, .ref mz, .ref mb, .int (nI (B c - B o)), .int (nI c), .int (nI dr), .int (nI de), .int g, .int fr, .int to, .int (nI nx)])), (ma, .inl (kX, 512, .inl xf2)), (mu, .inl (kO, 512, .inl vf)), (mt, .inl (kT, 16384, .inl yf)), (mz, .inl (kZ, 16384, .inl zf)), (mb, .inl (kB, 16384, .inl wf))] := hD.sub [0, 1, 2, 3, 4, 5, 6, 7, 8, 9, 10, 11, 12, 13] (by decide) rfl
  have f1 : tn2 ≤ 512 ∧ B c + tn2 ≤ r + 1 ∧ by8 xf2 := by
    rcases hw1 with ⟨w0, w1, w2, w3⟩ | ⟨w0, w1, w2, w3⟩
    · rw [w2, w3]; exact ⟨q1, by omega, q7⟩
    · rw [w2, w3]; exact ⟨by omega, by omega, by8_upd q7 (by8_i2b _)⟩
  refine lv_icmp_eq (tgt := 346) hx hb d_law_114 (by decide) (fun c_114 => ?_) (fun c_114 => ?_)
  · refine nv_iinc3 (lv' := [(3, .int (nI ((1 + 3 * r) + 3))), (0, .ref b), (1, .ref x), (2, .ref mo)]) hx hb d_law_346 hl (k := 3) rfl (by decide) rfl (fun ls hl => ?_)
    refine lv_goto (tgt := 28) hx hb d_law_349 (by decide) ?_
    exact ih tn2 on g fr to nx o c T B S dr de bf tf sf xf2 uf vf yf zf wf _ _ _ ⟨f1.1, q2, q3, by omega, f1.2.1, q6, f1.2.2, hst, hmd, q8, hP, hD, hS, by rw [show 1 + 3 * (r + 1) = 1 + 3 * r + 3 by omega]; exact lv_sub hl [1, 2, 3, 0] rfl⟩
  · exact absurd e1 c_114
set_option maxHeartbeats 4000000 in
set_option maxRecDepth 100000 in
theorem lc_keep {p : Program} {l : Launch} {e : Env} {s : State} {m : MethodId} {below : List Frame} {meth : Method} {cd : Code} {D : va_G} {b L : Nat} {xs : Nat → Int32} (hL : L ≤ 1537) (C0 : lw_At p s m meth cd b L xs) (x rt st ba ta sa xa oa : Nat) (cB cI cS cX cO : ClassId) (mo ma mu mt mz mb : Nat) (kX kO kT kZ kB : ClassId) (R : Nat) (hK : va_K D classes (yL cB cI cS cX cO kX kO kT kZ kB) s) (r : Nat) (hrL : 1 + 3 * r + 3 ≤ L) (ih : ∀ (tn on : Nat) (g fr to : Int32) (nx o c : Nat) (T : Nat → Int32) (B : Nat → Nat) (S : Nat → Int32) (dr de : Nat) (bf tf sf xf uf vf yf zf wf : Nat → Int32) (H : Heap) (locs : List Loc) (ls : Array Slot), LInv D s b x rt st ba ta sa xa oa cB cI cS cX cO mo ma mu mt mz mb kX kO kT kZ kB R (r + 1) tn on g fr to nx o c T B S dr de bf tf sf xf uf vf yf zf wf H locs ls → W p l e room_1 s m #[Value.ref b] below meth cd H locs 600000 7302250 (lw_Z below #[Value.ref b] s) (F0 m 28 ls [])) (tn on : Nat) (g fr to : Int32) (nx o c : Nat) (T : Nat → Int32) (B : Nat → Nat) (S : Nat → Int32) (dr de : Nat) (bf tf sf xf uf vf yf zf wf : Nat → Int32) (H : Heap) (locs : List Loc) (ls : Array Slot) (hI : LInv D s b x rt st ba ta sa xa oa cB cI cS cX cO mo ma mu mt mz mb kX kO kT kZ kB R r tn on g fr to nx o c T B S dr de bf tf sf xf uf vf yf zf wf H locs ls) : W p l e room_1 s m #[Value.ref b] below meth cd H locs 600000 7302250 (lw_Z below #[Value.ref b] s) (F0 m 119 ls []) := by
  obtain ⟨hx, hb, hr, hml, hown, hts, hX, hbl, hlocks, hgv⟩ := C0
  have hT := lw_g_of hts
  obtain ⟨q1, q2, q3, q4, q5, q6, q7, hst, hmd, q8, hP, hD, hS, hl⟩ := hI
  have hA : ∀ q : Nat, s.heap.size ≤ q → (fun q : Nat => s.heap.size ≤ q) q := fun _ h => h
  have hbA : ¬ (fun q : Nat => s.heap.size ≤ q) b := Nat.not_le.mpr hbl
  have hP : va_P D classes [(x, .inr (0, [.ref st, .ref rt, .ref xa, .ref oa, .int (nI tn), .int (nI on)])), (rt, .inr (2, [.ref st, .int g, .int fr, .int to, .int (nI nx)])), (st, .inr (1, [.ref ba, .ref ta, .ref sa, .int (nI o), .int (nI (c - o)), .int (nI (B o % R)), .int (nI (B c - B o)), .int (nI dr), .int (nI de)])), (ba, .inl (cB, R, .inl bf)), (ta, .inl (cI, R, .inl tf)), (sa, .inl (cS, R, .inl sf)), (xa, .inl (cX, 512, .inl xf)), (oa, .inl (cO, 512, .inl uf)), (mo, .inr (3, [.int (nI 0), .int (nI R), .ref ma, .int (nI tn), .ref mu, .int (nI on), .int (nI (c - o)), .ref mt, .ref mz, .ref mb, .int (nI (B c - B o)), .int (nI c), .int (nI dr), .int (nI de), .int g, .int fr, .int to, .int (nI nx)])), (ma, .inl (kX, 512, .inl xf)), (mu, .inl (kO, 512, .inl vf)), (mt, .inl (kT, 16384, .inl yf)), (mz, .inl (kZ, 16384, .inl zf)), (mb, .inl (kB, 16384, .inl wf))] H := hP
  have hD : va_D (fun q : Nat => s.heap.size ≤ q) [(x, .inr (0, [.ref st, .ref rt, .ref xa, .ref oa, .int (nI tn), .int (nI on)])), (rt, .inr (2, [.ref st, .int g, .int fr, .int to, .int (nI nx)])), (st, .inr (1, [.ref ba, .ref ta, .ref sa, .int (nI o), .int (nI (c - o)), .int (nI (B o % R)), .int (nI (B c - B o)), .int (nI dr), .int (nI de)])), (ba, .inl (cB, R, .inl bf)), (ta, .inl (cI, R, .inl tf)), (sa, .inl (cS, R, .inl sf)), (xa, .inl (cX, 512, .inl xf)), (oa, .inl (cO, 512, .inl uf)), (mo, .inr (3, [.int (nI 0), .int (nI R), .ref ma, .int (nI tn), .ref mu, .int (nI on), .int (nI (c - o)), .ref mt, .ref mz, .ref mb, .int (nI (B c - B o)), .int (nI c), .int (nI dr), .int (nI de), .int g, .int fr, .int to, .int (nI nx)])), (ma, .inl (kX, 512, .inl xf)), (mu, .inl (kO, 512, .inl vf)), (mt, .inl (kT, 16384, .inl yf)), (mz, .inl (kZ, 16384, .inl zf)), (mb, .inl (kB, 16384, .inl wf))] := hD
  have hK : va_K D classes [(cB, .byte), (cI, .int), (cS, .short), (cX, .byte), (cO, .byte), (kX, .byte), (kO, .byte), (kT, .int), (kZ, .int), (kB, .byte)] s := hK
  refine lv_aload_n hx hb d_law_119 rfl (lv_at hl 1 rfl) ?_
  refine lv_aload_n hx hb d_law_120 rfl (lv_at hl 0 rfl) ?_
  refine lv_iload_n hx hb d_law_121 rfl (lv_at hl 3 rfl) ?_
  refine lv_iconst (v := nI 1) hx hb d_law_122 (by decide +kernel) ?_
  refine nv_iadd hx hb d_law_123 ?_
  refine va_sld hx hb hX hbl hbA hS (vp_in_nI (by omega) (by omega)) d_law_124 ?_
  refine nv_asX (y := xs ((1 + 3 * r) + 1)) (by rw [nI_clamp (by omega)]) ?_
  refine rw_calli (ci := 0) (As := [.int (xs ((1 + 3 * r) + 1))]) (rest := []) (wr := [(mo, .inr (3, [.int (nI 0), .int (nI R), .ref ma, .int (nI tn), .ref mu, .int (nI on), .int (nI (c - o)), .ref mt, .ref mz, .ref mb, .int (nI (B c - B o)), .int (nI c), .int (nI dr), .int (nI de), .int g, .int fr, .int to, .int (nI nx)])), (ma, .inl (kX, 512, .inl xf)), (mu, .inl (kO, 512, .inl vf)), (mt, .inl (kT, 16384, .inl yf)), (mz, .inl (kZ, 16384, .inl zf)), (mb, .inl (kB, 16384, .inl wf))]) hx hb hml hT hown (c_PS_keep l D x rt st ba ta sa xa oa cB cI cS cX cO tn on g fr to nx R o c T B S dr de bf tf sf xf uf H.size (xs ((1 + 3 * r) + 1)) hst q1 (by omega) (by omega) q7) (cs_law_26 hT ⟨(Nat.le_of_ble_eq_true rfl), (Nat.le_of_ble_eq_true rfl)⟩) (hK.sub [0, 1, 2, 3, 4] rfl) hP hD hS hA [0, 1, 2, 3, 4, 5, 6, 7] [8, 9, 10, 11, 12, 13] rfl rfl (by decide) (by decide) (by decide) 0 rfl rfl rfl hl.1 rfl (Nat.le_of_ble_eq_true rfl) d_law_125 ⟨(Nat.le_of_ble_eq_true rfl), (Nat.le_of_ble_eq_true rfl)⟩ (fun r_125 u H locs hw hKn hP hD hS => ?_)
  obtain ⟨o2, c2, T2, B2, S2, dr2, bf2, tf2, sf2⟩ := u
  have hw1 : KpS R o c T B S dr tn xf (xs ((1 + 3 * r) + 1)) r_125 o2 c2 T2 B2 S2 dr2 := hw.1
  have hst2 : StR R o2 c2 T2 B2 S2 bf2 tf2 sf2 := hw.2
  have hP : va_P D classes [(x, .inr (0, [.ref st, .ref rt, .ref xa, .ref oa, .int (nI 0), .int (nI on)])), (rt, .inr (2, [.ref st, .int g, .int fr, .int to, .int (nI nx)])), (st, .inr (1, [.ref ba, .ref ta, .ref sa, .int (nI o2), .int (nI (c2 - o2)), .int (nI (B2 o2 % R)), .int (nI (B2 c2 - B2 o2)), .int (nI dr2), .int (nI de)])), (ba, .inl (cB, R, .inl bf2)), (ta, .inl (cI, R, .inl tf2)), (sa, .inl (cS, R, .inl sf2)), (xa, .inl (cX, 512, .inl xf)), (oa, .inl (cO, 512, .inl uf)), (mo, .inr (3, [.int (nI 0), .int (nI R), .ref ma, .int (nI tn), .ref mu, .int (nI on), .int (nI (c - o)), .ref mt, .ref mz, .ref mb, .int (nI (B c - B o)), .int (nI c), .int (nI dr), .int (nI de), .int g, .int fr, .int to, .int (nI nx)])), (ma, .inl (kX, 512, .inl xf)), (mu, .inl (kO, 512, .inl vf)), (mt, .inl (kT, 16384, .inl yf)), (mz, .inl (kZ, 16384, .inl zf)), (mb, .inl (kB, 16384, .inl wf))] H := hP.sub [6, 7, 8, 9, 10, 11, 12, 13, 0, 1, 2, 3, 4, 5] rfl
  have hD : va_D (fun q : Nat => s.heap.size ≤ q) [(x, .inr (0, [.ref st, .ref rt, .ref xa, .ref oa, .int (nI 0), .int (nI on)])), (rt, .inr (2, [.ref st, .int g, .int fr, .int to, .int (nI nx)])), (st, .inr (1, [.ref ba, .ref ta, .ref sa, .int (nI o2), .int (nI (c2 - o2)), .int (nI (B2 o2 % R)), .int (nI (B2 c2 - B2 o2)), .int (nI dr2), .int (nI de)])), (ba, .inl (cB, R, .inl bf2)), (ta, .inl (cI, R, .inl tf2)), (sa, .inl (cS, R, .inl sf2)), (xa, .inl (cX, 512, .inl xf)), (oa, .inl (cO, 512, .inl uf)), (mo, .inr (3, [.int (nI 0), .int (nI R), .ref ma, .int (nI tn), .ref mu, .int (nI on), .int (nI (c - o)), .ref mt, .ref mz, .ref mb, .int (nI (B c - B o)), .int (nI c), .int (nI dr), .int (nI de), .int g, .int fr, .int to, .int (nI nx)])), (ma, .inl (kX, 512, .inl xf)), (mu, .inl (kO, 512, .inl vf)), (mt, .inl (kT, 16384, .inl yf)), (mz, .inl (kZ, 16384, .inl zf)), (mb, .inl (kB, 16384, .inl wf))] := hD.sub [6, 7, 8, 9, 10, 11, 12, 13, 0, 1, 2, 3, 4, 5] (by decide) rfl
  refine lv_aload_n hx hb d_law_128 rfl (lv_at hl 2 rfl) ?_
  refine lv_aload_n hx hb d_law_129 rfl (lv_at hl 0 rfl) ?_
  refine lv_iload_n hx hb d_law_130 rfl (lv_at hl 3 rfl) ?_
  refine lv_iconst (v := nI 1) hx hb d_law_131 (by decide +kernel) ?_
  refine nv_iadd hx hb d_law_132 ?_
  refine va_sld hx hb hX hbl hbA hS (vp_in_nI (by omega) (by omega)) d_law_133 ?_
  refine nv_asX (y := xs ((1 + 3 * r) + 1)) (by rw [nI_clamp (by omega)]) ?_
  refine rw_calli (ci := 3) (As := [.int (xs ((1 + 3 * r) + 1))]) (rest := [.int r_125]) (wr := [(x, .inr (0, [.ref st, .ref rt, .ref xa, .ref oa, .int (nI 0), .int (nI on)])), (rt, .inr (2, [.ref st, .int g, .int fr, .int to, .int (nI nx)])), (st, .inr (1, [.ref ba, .ref ta, .ref sa, .int (nI o2), .int (nI (c2 - o2)), .int (nI (B2 o2 % R)), .int (nI (B2 c2 - B2 o2)), .int (nI dr2), .int (nI de)])), (ba, .inl (cB, R, .inl bf2)), (ta, .inl (cI, R, .inl tf2)), (sa, .inl (cS, R, .inl sf2)), (xa, .inl (cX, 512, .inl xf)), (oa, .inl (cO, 512, .inl uf))]) hx hb hml hT hown (c_Md_keep l D mo ma mu mt mz mb kX kO kT kZ kB R tn on g fr to nx o c T B S dr de xf vf yf zf wf H.size (xs ((1 + 3 * r) + 1)) hmd q1 (by omega) (by omega) q7) (cs_law_29 hT ⟨(Nat.le_of_ble_eq_true rfl), (Nat.le_of_ble_eq_true rfl)⟩) (hK.sub [5, 6, 7, 8, 9] rfl) hP hD hS hA [8, 9, 10, 11, 12, 13] [0, 1, 2, 3, 4, 5, 6, 7] rfl rfl (by decide) (by decide) (by decide) 0 rfl rfl rfl hl.1 rfl (Nat.le_of_ble_eq_true rfl) d_law_134 ⟨(Nat.le_of_ble_eq_true rfl), (Nat.le_of_ble_eq_true rfl)⟩ (fun r_134 u H locs hw hKn hP hD hS => ?_)
  obtain ⟨o3, c3, T3, B3, S3, dr3, yf3, zf3, wf3⟩ := u
  have hw2 : KpS R o c T B S dr tn xf (xs ((1 + 3 * r) + 1)) r_134 o3 c3 T3 B3 S3 dr3 := hw.1
  have hmd2 : MdR R o3 c3 T3 B3 S3 yf3 zf3 wf3 := hw.2
  obtain ⟨e1, e2, e3, e4, e5, e6, e7⟩ := kpS_one hw1 hw2
  subst e2
  subst e3
  subst e4
  subst e5
  subst e6
  subst e7
  have hP : va_P D classes [(x, .inr (0, [.ref st, .ref rt, .ref xa, .ref oa, .int (nI 0), .int (nI on)])), (rt, .inr (2, [.ref st, .int g, .int fr, .int to, .int (nI nx)])), (st, .inr (1, [.ref ba, .ref ta, .ref sa, .int (nI o2), .int (nI (c2 - o2)), .int (nI (B2 o2 % R)), .int (nI (B2 c2 - B2 o2)), .int (nI dr2), .int (nI de)])), (ba, .inl (cB, R, .inl bf2)), (ta, .inl (cI, R, .inl tf2)), (sa, .inl (cS, R, .inl sf2)), (xa, .inl (cX, 512, .inl xf)), (oa, .inl (cO, 512, .inl uf)), (mo, .inr (3, [.int (nI 0), .int (nI R), .ref ma, .int (nI 0), .ref mu, .int (nI on), .int (nI (c2 - o2)), .ref mt, .ref mz, .ref mb, .int (nI (B2 c2 - B2 o2)), .int (nI c2), .int (nI dr2), .int (nI de), .int g, .int fr, .int to, .int (nI nx)])), (ma, .inl (kX, 512, .inl xf)), (mu, .inl (kO, 512, .inl vf)), (mt, .inl (kT, 16384, .inl yf3)), (mz, .inl (kZ, 16384, .inl zf3)), (mb, .inl (kB, 16384, .inl wf3))] H := hP.sub [0, 1, 2, 3, 4, 5, 6, 7, 8, 9, 10, 11, 12, 13] rfl
  have hD : va_D (fun q : Nat => s.heap.size ≤ q) [(x, .inr (0, [.ref st, .ref rt, .ref xa, .ref oa, .int (nI 0), .int (nI on)])), (rt, .inr (2, [.ref st, .int g, .int fr, .int to, .int (nI nx)])), (st, .inr (1, [.ref ba, .ref ta, .ref sa, .int (nI o2), .int (nI (c2 - o2)), .int (nI (B2 o2 % R)), .int (nI (B2 c2 - B2 o2)), .int (nI dr2), .int (nI de)])), (ba, .inl (cB, R, .inl bf2)), (ta, .inl (cI, R, .inl tf2)), (sa, .inl (cS, R, .inl sf2)), (xa, .inl (cX, 512, .inl xf)), (oa, .inl (cO, 512, .inl uf)), (mo, .inr (3, [.int (nI 0), .int (nI R), .ref ma, .int (nI 0), .ref mu, .int (nI on), .int (nI (c2 - o2)), .ref mt, .ref mz, .ref mb, .int (nI (B2 c2 - B2 o2)), .int (nI c2), .int (nI dr2), .int (nI de), .int g, .int fr, .int to, .int (nI nx)])), (ma, .inl (kX, 512, .inl xf)), (mu, .inl (kO, 512, .inl vf)), (mt, .inl (kT, 16384, .inl yf3)), (mz, .inl (kZ, 16384, .inl zf3)), (mb, .inl (kB, 16384, .inl wf3))] := hD.sub [0, 1, 2, 3, 4, 5, 6, 7, 8, 9, 10, 11, 12, 13] (by decide) rfl
  have f1 : nx ≤ c2 ∧ c2 ≤ r + 1 ∧ B2 c2 + 0 ≤ r + 1 := by
    rcases hw1 with ⟨w0, w1, w2, w3, w4, w5, w6, w7⟩ | ⟨w0, w8, w1, w2, w3, w4, w5, w6, w7⟩ | ⟨w0, w8, w2, w1, w3, w4, w5, w6, w7⟩
    · rw [w3, w5]; omega
    · rw [w3, w5]; omega
    · rw [w3, w5, updB_s]; omega
  refine lv_icmp_eq (tgt := 346) hx hb d_law_137 (by decide) (fun c_137 => ?_) (fun c_137 => ?_)
  · refine nv_iinc3 (lv' := [(3, .int (nI ((1 + 3 * r) + 3))), (0, .ref b), (1, .ref x), (2, .ref mo)]) hx hb d_law_346 hl (k := 3) rfl (by decide) rfl (fun ls hl => ?_)
    refine lv_goto (tgt := 28) hx hb d_law_349 (by decide) ?_
    exact ih 0 on g fr to nx o2 c2 T2 B2 S2 dr2 de bf2 tf2 sf2 xf uf vf yf3 zf3 wf3 _ _ _ ⟨by omega, q2, f1.1, f1.2.1, f1.2.2, q6, q7, hst2, hmd2, q8, hP, hD, hS, by rw [show 1 + 3 * (r + 1) = 1 + 3 * r + 3 by omega]; exact lv_sub hl [1, 2, 3, 0] rfl⟩
  · exact absurd e1 c_137
set_option maxHeartbeats 4000000 in
set_option maxRecDepth 100000 in
theorem lc_delete {p : Program} {l : Launch} {e : Env} {s : State} {m : MethodId} {below : List Frame} {meth : Method} {cd : Code} {D : va_G} {b L : Nat} {xs : Nat → Int32} (hL : L ≤ 1537) (C0 : lw_At p s m meth cd b L xs) (x rt st ba ta sa xa oa : Nat) (cB cI cS cX cO : ClassId) (mo ma mu mt mz mb : Nat) (kX kO kT kZ kB : ClassId) (R : Nat) (hK : va_K D classes (yL cB cI cS cX cO kX kO kT kZ kB) s) (r : Nat) (hrL : 1 + 3 * r + 3 ≤ L) (ih : ∀ (tn on : Nat) (g fr to : Int32) (nx o c : Nat) (T : Nat → Int32) (B : Nat → Nat) (S : Nat → Int32) (dr de : Nat) (bf tf sf xf uf vf yf zf wf : Nat → Int32) (H : Heap) (locs : List Loc) (ls : Array Slot), LInv D s b x rt st ba ta sa xa oa cB cI cS cX cO mo ma mu mt mz mb kX kO kT kZ kB R (r + 1) tn on g fr to nx o c T B S dr de bf tf sf xf uf vf yf zf wf H locs ls → W p l e room_1 s m #[Value.ref b] below meth cd H locs 600000 7302250 (lw_Z below #[Value.ref b] s) (F0 m 28 ls [])) (tn on : Nat) (g fr to : Int32) (nx o c : Nat) (T : Nat → Int32) (B : Nat → Nat) (S : Nat → Int32) (dr de : Nat) (bf tf sf xf uf vf yf zf wf : Nat → Int32) (H : Heap) (locs : List Loc) (ls : Array Slot) (hI : LInv D s b x rt st ba ta sa xa oa cB cI cS cX cO mo ma mu mt mz mb kX kO kT kZ kB R r tn on g fr to nx o c T B S dr de bf tf sf xf uf vf yf zf wf H locs ls) : W p l e room_1 s m #[Value.ref b] below meth cd H locs 600000 7302250 (lw_Z below #[Value.ref b] s) (F0 m 142 ls []) := by
  obtain ⟨hx, hb, hr, hml, hown, hts, hX, hbl, hlocks, hgv⟩ := C0
  have hT := lw_g_of hts
  obtain ⟨q1, q2, q3, q4, q5, q6, q7, hst, hmd, q8, hP, hD, hS, hl⟩ := hI
  have hA : ∀ q : Nat, s.heap.size ≤ q → (fun q : Nat => s.heap.size ≤ q) q := fun _ h => h
  have hbA : ¬ (fun q : Nat => s.heap.size ≤ q) b := Nat.not_le.mpr hbl
  have hP : va_P D classes [(x, .inr (0, [.ref st, .ref rt, .ref xa, .ref oa, .int (nI tn), .int (nI on)])), (rt, .inr (2, [.ref st, .int g, .int fr, .int to, .int (nI nx)])), (st, .inr (1, [.ref ba, .ref ta, .ref sa, .int (nI o), .int (nI (c - o)), .int (nI (B o % R)), .int (nI (B c - B o)), .int (nI dr), .int (nI de)])), (ba, .inl (cB, R, .inl bf)), (ta, .inl (cI, R, .inl tf)), (sa, .inl (cS, R, .inl sf)), (xa, .inl (cX, 512, .inl xf)), (oa, .inl (cO, 512, .inl uf)), (mo, .inr (3, [.int (nI 0), .int (nI R), .ref ma, .int (nI tn), .ref mu, .int (nI on), .int (nI (c - o)), .ref mt, .ref mz, .ref mb, .int (nI (B c - B o)), .int (nI c), .int (nI dr), .int (nI de), .int g, .int fr, .int to, .int (nI nx)])), (ma, .inl (kX, 512, .inl xf)), (mu, .inl (kO, 512, .inl vf)), (mt, .inl (kT, 16384, .inl yf)), (mz, .inl (kZ, 16384, .inl zf)), (mb, .inl (kB, 16384, .inl wf))] H := hP
  have hD : va_D (fun q : Nat => s.heap.size ≤ q) [(x, .inr (0, [.ref st, .ref rt, .ref xa, .ref oa, .int (nI tn), .int (nI on)])), (rt, .inr (2, [.ref st, .int g, .int fr, .int to, .int (nI nx)])), (st, .inr (1, [.ref ba, .ref ta, .ref sa, .int (nI o), .int (nI (c - o)), .int (nI (B o % R)), .int (nI (B c - B o)), .int (nI dr), .int (nI de)])), (ba, .inl (cB, R, .inl bf)), (ta, .inl (cI, R, .inl tf)), (sa, .inl (cS, R, .inl sf)), (xa, .inl (cX, 512, .inl xf)), (oa, .inl (cO, 512, .inl uf)), (mo, .inr (3, [.int (nI 0), .int (nI R), .ref ma, .int (nI tn), .ref mu, .int (nI on), .int (nI (c - o)), .ref mt, .ref mz, .ref mb, .int (nI (B c - B o)), .int (nI c), .int (nI dr), .int (nI de), .int g, .int fr, .int to, .int (nI nx)])), (ma, .inl (kX, 512, .inl xf)), (mu, .inl (kO, 512, .inl vf)), (mt, .inl (kT, 16384, .inl yf)), (mz, .inl (kZ, 16384, .inl zf)), (mb, .inl (kB, 16384, .inl wf))] := hD
  have hK : va_K D classes [(cB, .byte), (cI, .int), (cS, .short), (cX, .byte), (cO, .byte), (kX, .byte), (kO, .byte), (kT, .int), (kZ, .int), (kB, .byte)] s := hK
  refine lv_aload_n hx hb d_law_142 rfl (lv_at hl 1 rfl) ?_
  refine lv_aload_n hx hb d_law_143 rfl (lv_at hl 0 rfl) ?_
  refine lv_iload_n hx hb d_law_144 rfl (lv_at hl 3 rfl) ?_
  refine lv_iconst (v := nI 1) hx hb d_law_145 (by decide +kernel) ?_
  refine nv_iadd hx hb d_law_146 ?_
  refine va_sld hx hb hX hbl hbA hS (vp_in_nI (by omega) (by omega)) d_law_147 ?_
  refine nv_asX (y := xs ((1 + 3 * r) + 1)) (by rw [nI_clamp (by omega)]) ?_
  refine rw_calli (ci := 0) (As := [.int (xs ((1 + 3 * r) + 1))]) (rest := []) (wr := [(mo, .inr (3, [.int (nI 0), .int (nI R), .ref ma, .int (nI tn), .ref mu, .int (nI on), .int (nI (c - o)), .ref mt, .ref mz, .ref mb, .int (nI (B c - B o)), .int (nI c), .int (nI dr), .int (nI de), .int g, .int fr, .int to, .int (nI nx)])), (ma, .inl (kX, 512, .inl xf)), (mu, .inl (kO, 512, .inl vf)), (mt, .inl (kT, 16384, .inl yf)), (mz, .inl (kZ, 16384, .inl zf)), (mb, .inl (kB, 16384, .inl wf))]) hx hb hml hT hown (c_PS_delete l D x rt st ba ta sa xa oa cB cI cS cX cO tn on g fr to nx R o c T B S dr de bf tf sf xf uf H.size (xs ((1 + 3 * r) + 1)) hst) (cs_law_30 hT ⟨(Nat.le_of_ble_eq_true rfl), (Nat.le_of_ble_eq_true rfl)⟩) (hK.sub [0, 1, 2, 3, 4] rfl) hP hD hS hA [0, 1, 2, 3, 4, 5, 6, 7] [8, 9, 10, 11, 12, 13] rfl rfl (by decide) (by decide) (by decide) 0 rfl rfl rfl hl.1 rfl (Nat.le_of_ble_eq_true rfl) d_law_148 ⟨(Nat.le_of_ble_eq_true rfl), (Nat.le_of_ble_eq_true rfl)⟩ (fun r_148 o2 H locs hw hKn hP hD hS => ?_)
  obtain ⟨hr1, hd1, hst2⟩ := hw
  have hP : va_P D classes [(x, .inr (0, [.ref st, .ref rt, .ref xa, .ref oa, .int (nI tn), .int (nI on)])), (rt, .inr (2, [.ref st, .int g, .int fr, .int to, .int (nI nx)])), (st, .inr (1, [.ref ba, .ref ta, .ref sa, .int (nI o2), .int (nI (c - o2)), .int (nI (B o2 % R)), .int (nI (B c - B o2)), .int (nI dr), .int (nI (de + (o2 - o)))])), (ba, .inl (cB, R, .inl bf)), (ta, .inl (cI, R, .inl tf)), (sa, .inl (cS, R, .inl sf)), (xa, .inl (cX, 512, .inl xf)), (oa, .inl (cO, 512, .inl uf)), (mo, .inr (3, [.int (nI 0), .int (nI R), .ref ma, .int (nI tn), .ref mu, .int (nI on), .int (nI (c - o)), .ref mt, .ref mz, .ref mb, .int (nI (B c - B o)), .int (nI c), .int (nI dr), .int (nI de), .int g, .int fr, .int to, .int (nI nx)])), (ma, .inl (kX, 512, .inl xf)), (mu, .inl (kO, 512, .inl vf)), (mt, .inl (kT, 16384, .inl yf)), (mz, .inl (kZ, 16384, .inl zf)), (mb, .inl (kB, 16384, .inl wf))] H := hP.sub [6, 7, 8, 9, 10, 11, 12, 13, 0, 1, 2, 3, 4, 5] rfl
  have hD : va_D (fun q : Nat => s.heap.size ≤ q) [(x, .inr (0, [.ref st, .ref rt, .ref xa, .ref oa, .int (nI tn), .int (nI on)])), (rt, .inr (2, [.ref st, .int g, .int fr, .int to, .int (nI nx)])), (st, .inr (1, [.ref ba, .ref ta, .ref sa, .int (nI o2), .int (nI (c - o2)), .int (nI (B o2 % R)), .int (nI (B c - B o2)), .int (nI dr), .int (nI (de + (o2 - o)))])), (ba, .inl (cB, R, .inl bf)), (ta, .inl (cI, R, .inl tf)), (sa, .inl (cS, R, .inl sf)), (xa, .inl (cX, 512, .inl xf)), (oa, .inl (cO, 512, .inl uf)), (mo, .inr (3, [.int (nI 0), .int (nI R), .ref ma, .int (nI tn), .ref mu, .int (nI on), .int (nI (c - o)), .ref mt, .ref mz, .ref mb, .int (nI (B c - B o)), .int (nI c), .int (nI dr), .int (nI de), .int g, .int fr, .int to, .int (nI nx)])), (ma, .inl (kX, 512, .inl xf)), (mu, .inl (kO, 512, .inl vf)), (mt, .inl (kT, 16384, .inl yf)), (mz, .inl (kZ, 16384, .inl zf)), (mb, .inl (kB, 16384, .inl wf))] := hD.sub [6, 7, 8, 9, 10, 11, 12, 13, 0, 1, 2, 3, 4, 5] (by decide) rfl
  refine lv_aload_n hx hb d_law_151 rfl (lv_at hl 2 rfl) ?_
  refine lv_aload_n hx hb d_law_152 rfl (lv_at hl 0 rfl) ?_
  refine lv_iload_n hx hb d_law_153 rfl (lv_at hl 3 rfl) ?_
  refine lv_iconst (v := nI 1) hx hb d_law_154 (by decide +kernel) ?_
  refine nv_iadd hx hb d_law_155 ?_
  refine va_sld hx hb hX hbl hbA hS (vp_in_nI (by omega) (by omega)) d_law_156 ?_
  refine nv_asX (y := xs ((1 + 3 * r) + 1)) (by rw [nI_clamp (by omega)]) ?_
  refine rw_calli (ci := 3) (As := [.int (xs ((1 + 3 * r) + 1))]) (rest := [.int r_148]) (wr := [(x, .inr (0, [.ref st, .ref rt, .ref xa, .ref oa, .int (nI tn), .int (nI on)])), (rt, .inr (2, [.ref st, .int g, .int fr, .int to, .int (nI nx)])), (st, .inr (1, [.ref ba, .ref ta, .ref sa, .int (nI o2), .int (nI (c - o2)), .int (nI (B o2 % R)), .int (nI (B c - B o2)), .int (nI dr), .int (nI (de + (o2 - o)))])), (ba, .inl (cB, R, .inl bf)), (ta, .inl (cI, R, .inl tf)), (sa, .inl (cS, R, .inl sf)), (xa, .inl (cX, 512, .inl xf)), (oa, .inl (cO, 512, .inl uf))]) hx hb hml hT hown (c_Md_delete l D mo ma mu mt mz mb kX kO kT kZ kB R tn on g fr to nx o c T B S dr de xf vf yf zf wf H.size (xs ((1 + 3 * r) + 1)) hmd) (cs_law_33 hT ⟨(Nat.le_of_ble_eq_true rfl), (Nat.le_of_ble_eq_true rfl)⟩) (hK.sub [5, 6, 7, 8, 9] rfl) hP hD hS hA [8, 9, 10, 11, 12, 13] [0, 1, 2, 3, 4, 5, 6, 7] rfl rfl (by decide) (by decide) (by decide) 0 rfl rfl rfl hl.1 rfl (Nat.le_of_ble_eq_true rfl) d_law_157 ⟨(Nat.le_of_ble_eq_true rfl), (Nat.le_of_ble_eq_true rfl)⟩ (fun r_157 u H locs hw hKn hP hD hS => ?_)
  obtain ⟨o3, yf3, zf3, wf3⟩ := u
  obtain ⟨hr2, hd2, hmd2⟩ := hw
  dsimp only at hr2 hd2 hmd2
  have e2 := delTo_one hd1 hd2
  subst e2
  have hP : va_P D classes [(x, .inr (0, [.ref st, .ref rt, .ref xa, .ref oa, .int (nI tn), .int (nI on)])), (rt, .inr (2, [.ref st, .int g, .int fr, .int to, .int (nI nx)])), (st, .inr (1, [.ref ba, .ref ta, .ref sa, .int (nI o2), .int (nI (c - o2)), .int (nI (B o2 % R)), .int (nI (B c - B o2)), .int (nI dr), .int (nI (de + (o2 - o)))])), (ba, .inl (cB, R, .inl bf)), (ta, .inl (cI, R, .inl tf)), (sa, .inl (cS, R, .inl sf)), (xa, .inl (cX, 512, .inl xf)), (oa, .inl (cO, 512, .inl uf)), (mo, .inr (3, [.int (nI 0), .int (nI R), .ref ma, .int (nI tn), .ref mu, .int (nI on), .int (nI (c - o2)), .ref mt, .ref mz, .ref mb, .int (nI (B c - B o2)), .int (nI c), .int (nI dr), .int (nI (de + (o2 - o))), .int g, .int fr, .int to, .int (nI nx)])), (ma, .inl (kX, 512, .inl xf)), (mu, .inl (kO, 512, .inl vf)), (mt, .inl (kT, 16384, .inl yf3)), (mz, .inl (kZ, 16384, .inl zf3)), (mb, .inl (kB, 16384, .inl wf3))] H := hP.sub [0, 1, 2, 3, 4, 5, 6, 7, 8, 9, 10, 11, 12, 13] rfl
  have hD : va_D (fun q : Nat => s.heap.size ≤ q) [(x, .inr (0, [.ref st, .ref rt, .ref xa, .ref oa, .int (nI tn), .int (nI on)])), (rt, .inr (2, [.ref st, .int g, .int fr, .int to, .int (nI nx)])), (st, .inr (1, [.ref ba, .ref ta, .ref sa, .int (nI o2), .int (nI (c - o2)), .int (nI (B o2 % R)), .int (nI (B c - B o2)), .int (nI dr), .int (nI (de + (o2 - o)))])), (ba, .inl (cB, R, .inl bf)), (ta, .inl (cI, R, .inl tf)), (sa, .inl (cS, R, .inl sf)), (xa, .inl (cX, 512, .inl xf)), (oa, .inl (cO, 512, .inl uf)), (mo, .inr (3, [.int (nI 0), .int (nI R), .ref ma, .int (nI tn), .ref mu, .int (nI on), .int (nI (c - o2)), .ref mt, .ref mz, .ref mb, .int (nI (B c - B o2)), .int (nI c), .int (nI dr), .int (nI (de + (o2 - o))), .int g, .int fr, .int to, .int (nI nx)])), (ma, .inl (kX, 512, .inl xf)), (mu, .inl (kO, 512, .inl vf)), (mt, .inl (kT, 16384, .inl yf3)), (mz, .inl (kZ, 16384, .inl zf3)), (mb, .inl (kB, 16384, .inl wf3))] := hD.sub [0, 1, 2, 3, 4, 5, 6, 7, 8, 9, 10, 11, 12, 13] (by decide) rfl
  refine lv_icmp_eq (tgt := 346) hx hb d_law_160 (by decide) (fun c_160 => ?_) (fun c_160 => ?_)
  · refine nv_iinc3 (lv' := [(3, .int (nI ((1 + 3 * r) + 3))), (0, .ref b), (1, .ref x), (2, .ref mo)]) hx hb d_law_346 hl (k := 3) rfl (by decide) rfl (fun ls hl => ?_)
    refine lv_goto (tgt := 28) hx hb d_law_349 (by decide) ?_
    exact ih tn on g fr to nx o2 c T B S dr (de + (o2 - o)) bf tf sf xf uf vf yf3 zf3 wf3 _ _ _ ⟨q1, q2, q3, by omega, by omega, q6, q7, hst2, hmd2, q8, hP, hD, hS, by rw [show 1 + 3 * (r + 1) = 1 + 3 * r + 3 by omega]; exact lv_sub hl [1, 2, 3, 0] rfl⟩
  · exact absurd (hr1.trans hr2.symm) c_160
set_option maxHeartbeats 4000000 in
set_option maxRecDepth 100000 in
theorem lc_begin {p : Program} {l : Launch} {e : Env} {s : State} {m : MethodId} {below : List Frame} {meth : Method} {cd : Code} {D : va_G} {b L : Nat} {xs : Nat → Int32} (hL : L ≤ 1537) (C0 : lw_At p s m meth cd b L xs) (x rt st ba ta sa xa oa : Nat) (cB cI cS cX cO : ClassId) (mo ma mu mt mz mb : Nat) (kX kO kT kZ kB : ClassId) (R : Nat) (hK : va_K D classes (yL cB cI cS cX cO kX kO kT kZ kB) s) (r : Nat) (hrL : 1 + 3 * r + 3 ≤ L) (ih : ∀ (tn on : Nat) (g fr to : Int32) (nx o c : Nat) (T : Nat → Int32) (B : Nat → Nat) (S : Nat → Int32) (dr de : Nat) (bf tf sf xf uf vf yf zf wf : Nat → Int32) (H : Heap) (locs : List Loc) (ls : Array Slot), LInv D s b x rt st ba ta sa xa oa cB cI cS cX cO mo ma mu mt mz mb kX kO kT kZ kB R (r + 1) tn on g fr to nx o c T B S dr de bf tf sf xf uf vf yf zf wf H locs ls → W p l e room_1 s m #[Value.ref b] below meth cd H locs 600000 7302250 (lw_Z below #[Value.ref b] s) (F0 m 28 ls [])) (tn on : Nat) (g fr to : Int32) (nx o c : Nat) (T : Nat → Int32) (B : Nat → Nat) (S : Nat → Int32) (dr de : Nat) (bf tf sf xf uf vf yf zf wf : Nat → Int32) (H : Heap) (locs : List Loc) (ls : Array Slot) (hI : LInv D s b x rt st ba ta sa xa oa cB cI cS cX cO mo ma mu mt mz mb kX kO kT kZ kB R r tn on g fr to nx o c T B S dr de bf tf sf xf uf vf yf zf wf H locs ls) : W p l e room_1 s m #[Value.ref b] below meth cd H locs 600000 7302250 (lw_Z below #[Value.ref b] s) (F0 m 165 ls []) := by
  obtain ⟨hx, hb, hr, hml, hown, hts, hX, hbl, hlocks, hgv⟩ := C0
  have hT := lw_g_of hts
  obtain ⟨q1, q2, q3, q4, q5, q6, q7, hst, hmd, q8, hP, hD, hS, hl⟩ := hI
  have hA : ∀ q : Nat, s.heap.size ≤ q → (fun q : Nat => s.heap.size ≤ q) q := fun _ h => h
  have hbA : ¬ (fun q : Nat => s.heap.size ≤ q) b := Nat.not_le.mpr hbl
  have hP : va_P D classes [(x, .inr (0, [.ref st, .ref rt, .ref xa, .ref oa, .int (nI tn), .int (nI on)])), (rt, .inr (2, [.ref st, .int g, .int fr, .int to, .int (nI nx)])), (st, .inr (1, [.ref ba, .ref ta, .ref sa, .int (nI o), .int (nI (c - o)), .int (nI (B o % R)), .int (nI (B c - B o)), .int (nI dr), .int (nI de)])), (ba, .inl (cB, R, .inl bf)), (ta, .inl (cI, R, .inl tf)), (sa, .inl (cS, R, .inl sf)), (xa, .inl (cX, 512, .inl xf)), (oa, .inl (cO, 512, .inl uf)), (mo, .inr (3, [.int (nI 0), .int (nI R), .ref ma, .int (nI tn), .ref mu, .int (nI on), .int (nI (c - o)), .ref mt, .ref mz, .ref mb, .int (nI (B c - B o)), .int (nI c), .int (nI dr), .int (nI de), .int g, .int fr, .int to, .int (nI nx)])), (ma, .inl (kX, 512, .inl xf)), (mu, .inl (kO, 512, .inl vf)), (mt, .inl (kT, 16384, .inl yf)), (mz, .inl (kZ, 16384, .inl zf)), (mb, .inl (kB, 16384, .inl wf))] H := hP
  have hD : va_D (fun q : Nat => s.heap.size ≤ q) [(x, .inr (0, [.ref st, .ref rt, .ref xa, .ref oa, .int (nI tn), .int (nI on)])), (rt, .inr (2, [.ref st, .int g, .int fr, .int to, .int (nI nx)])), (st, .inr (1, [.ref ba, .ref ta, .ref sa, .int (nI o), .int (nI (c - o)), .int (nI (B o % R)), .int (nI (B c - B o)), .int (nI dr), .int (nI de)])), (ba, .inl (cB, R, .inl bf)), (ta, .inl (cI, R, .inl tf)), (sa, .inl (cS, R, .inl sf)), (xa, .inl (cX, 512, .inl xf)), (oa, .inl (cO, 512, .inl uf)), (mo, .inr (3, [.int (nI 0), .int (nI R), .ref ma, .int (nI tn), .ref mu, .int (nI on), .int (nI (c - o)), .ref mt, .ref mz, .ref mb, .int (nI (B c - B o)), .int (nI c), .int (nI dr), .int (nI de), .int g, .int fr, .int to, .int (nI nx)])), (ma, .inl (kX, 512, .inl xf)), (mu, .inl (kO, 512, .inl vf)), (mt, .inl (kT, 16384, .inl yf)), (mz, .inl (kZ, 16384, .inl zf)), (mb, .inl (kB, 16384, .inl wf))] := hD
  have hK : va_K D classes [(cB, .byte), (cI, .int), (cS, .short), (cX, .byte), (cO, .byte), (kX, .byte), (kO, .byte), (kT, .int), (kZ, .int), (kB, .byte)] s := hK
  refine lv_aload_n hx hb d_law_165 rfl (lv_at hl 1 rfl) ?_
  refine lv_aload_n hx hb d_law_166 rfl (lv_at hl 0 rfl) ?_
  refine lv_iload_n hx hb d_law_167 rfl (lv_at hl 3 rfl) ?_
  refine lv_iconst (v := nI 1) hx hb d_law_168 (by decide +kernel) ?_
  refine nv_iadd hx hb d_law_169 ?_
  refine va_sld hx hb hX hbl hbA hS (vp_in_nI (by omega) (by omega)) d_law_170 ?_
  refine nv_asX (y := xs ((1 + 3 * r) + 1)) (by rw [nI_clamp (by omega)]) ?_
  refine lv_aload_n hx hb d_law_171 rfl (lv_at hl 0 rfl) ?_
  refine lv_iload_n hx hb d_law_172 rfl (lv_at hl 3 rfl) ?_
  refine lv_iconst (v := nI 2) hx hb d_law_173 (by decide +kernel) ?_
  refine nv_iadd hx hb d_law_174 ?_
  refine va_sld hx hb hX hbl hbA hS (vp_in_nI (by omega) (by omega)) d_law_175 ?_
  refine nv_asX (y := xs ((1 + 3 * r) + 2)) (by rw [nI_clamp (by omega)]) ?_
  refine rw_calli (ci := 0) (As := [.int (xs ((1 + 3 * r) + 1)), .int (xs ((1 + 3 * r) + 2))]) (rest := []) (wr := [(mo, .inr (3, [.int (nI 0), .int (nI R), .ref ma, .int (nI tn), .ref mu, .int (nI on), .int (nI (c - o)), .ref mt, .ref mz, .ref mb, .int (nI (B c - B o)), .int (nI c), .int (nI dr), .int (nI de), .int g, .int fr, .int to, .int (nI nx)])), (ma, .inl (kX, 512, .inl xf)), (mu, .inl (kO, 512, .inl vf)), (mt, .inl (kT, 16384, .inl yf)), (mz, .inl (kZ, 16384, .inl zf)), (mb, .inl (kB, 16384, .inl wf))]) hx hb hml hT hown (c_PS_begin l D x rt st ba ta sa xa oa cB cI cS cX cO tn on g fr to nx R o c T B S dr de bf tf sf xf uf H.size (xs ((1 + 3 * r) + 1)) (xs ((1 + 3 * r) + 2))) (cs_law_34 hT ⟨(Nat.le_of_ble_eq_true rfl), (Nat.le_of_ble_eq_true rfl)⟩) (hK.sub [0, 1, 2, 3, 4] rfl) hP hD hS hA [0, 1, 2, 3, 4, 5, 6, 7] [8, 9, 10, 11, 12, 13] rfl rfl (by decide) (by decide) (by decide) 0 rfl rfl rfl hl.1 rfl (Nat.le_of_ble_eq_true rfl) d_law_176 ⟨(Nat.le_of_ble_eq_true rfl), (Nat.le_of_ble_eq_true rfl)⟩ (fun r_176 u H locs hw hKn hP hD hS => ?_)
  obtain ⟨g2, fr2, to2, nx2⟩ := u
  have hw1 : BgS o g fr to (xs ((1 + 3 * r) + 1)) (xs ((1 + 3 * r) + 2)) nx r_176 g2 fr2 to2 nx2 := hw
  have hP : va_P D classes [(x, .inr (0, [.ref st, .ref rt, .ref xa, .ref oa, .int (nI tn), .int (nI on)])), (rt, .inr (2, [.ref st, .int g2, .int fr2, .int to2, .int (nI nx2)])), (st, .inr (1, [.ref ba, .ref ta, .ref sa, .int (nI o), .int (nI (c - o)), .int (nI (B o % R)), .int (nI (B c - B o)), .int (nI dr), .int (nI de)])), (ba, .inl (cB, R, .inl bf)), (ta, .inl (cI, R, .inl tf)), (sa, .inl (cS, R, .inl sf)), (xa, .inl (cX, 512, .inl xf)), (oa, .inl (cO, 512, .inl uf)), (mo, .inr (3, [.int (nI 0), .int (nI R), .ref ma, .int (nI tn), .ref mu, .int (nI on), .int (nI (c - o)), .ref mt, .ref mz, .ref mb, .int (nI (B c - B o)), .int (nI c), .int (nI dr), .int (nI de), .int g, .int fr, .int to, .int (nI nx)])), (ma, .inl (kX, 512, .inl xf)), (mu, .inl (kO, 512, .inl vf)), (mt, .inl (kT, 16384, .inl yf)), (mz, .inl (kZ, 16384, .inl zf)), (mb, .inl (kB, 16384, .inl wf))] H := hP.sub [6, 7, 8, 9, 10, 11, 12, 13, 0, 1, 2, 3, 4, 5] rfl
  have hD : va_D (fun q : Nat => s.heap.size ≤ q) [(x, .inr (0, [.ref st, .ref rt, .ref xa, .ref oa, .int (nI tn), .int (nI on)])), (rt, .inr (2, [.ref st, .int g2, .int fr2, .int to2, .int (nI nx2)])), (st, .inr (1, [.ref ba, .ref ta, .ref sa, .int (nI o), .int (nI (c - o)), .int (nI (B o % R)), .int (nI (B c - B o)), .int (nI dr), .int (nI de)])), (ba, .inl (cB, R, .inl bf)), (ta, .inl (cI, R, .inl tf)), (sa, .inl (cS, R, .inl sf)), (xa, .inl (cX, 512, .inl xf)), (oa, .inl (cO, 512, .inl uf)), (mo, .inr (3, [.int (nI 0), .int (nI R), .ref ma, .int (nI tn), .ref mu, .int (nI on), .int (nI (c - o)), .ref mt, .ref mz, .ref mb, .int (nI (B c - B o)), .int (nI c), .int (nI dr), .int (nI de), .int g, .int fr, .int to, .int (nI nx)])), (ma, .inl (kX, 512, .inl xf)), (mu, .inl (kO, 512, .inl vf)), (mt, .inl (kT, 16384, .inl yf)), (mz, .inl (kZ, 16384, .inl zf)), (mb, .inl (kB, 16384, .inl wf))] := hD.sub [6, 7, 8, 9, 10, 11, 12, 13, 0, 1, 2, 3, 4, 5] (by decide) rfl
  refine lv_aload_n hx hb d_law_179 rfl (lv_at hl 2 rfl) ?_
  refine lv_aload_n hx hb d_law_180 rfl (lv_at hl 0 rfl) ?_
  refine lv_iload_n hx hb d_law_181 rfl (lv_at hl 3 rfl) ?_
  refine lv_iconst (v := nI 1) hx hb d_law_182 (by decide +kernel) ?_
  refine nv_iadd hx hb d_law_183 ?_
  refine va_sld hx hb hX hbl hbA hS (vp_in_nI (by omega) (by omega)) d_law_184 ?_
  refine nv_asX (y := xs ((1 + 3 * r) + 1)) (by rw [nI_clamp (by omega)]) ?_
  refine lv_aload_n hx hb d_law_185 rfl (lv_at hl 0 rfl) ?_
  refine lv_iload_n hx hb d_law_186 rfl (lv_at hl 3 rfl) ?_
  refine lv_iconst (v := nI 2) hx hb d_law_187 (by decide +kernel) ?_
  refine nv_iadd hx hb d_law_188 ?_
  refine va_sld hx hb hX hbl hbA hS (vp_in_nI (by omega) (by omega)) d_law_189 ?_
  refine nv_asX (y := xs ((1 + 3 * r) + 2)) (by rw [nI_clamp (by omega)]) ?_
  refine rw_calli (ci := 3) (As := [.int (xs ((1 + 3 * r) + 1)), .int (xs ((1 + 3 * r) + 2))]) (rest := [.int r_176]) (wr := [(x, .inr (0, [.ref st, .ref rt, .ref xa, .ref oa, .int (nI tn), .int (nI on)])), (rt, .inr (2, [.ref st, .int g2, .int fr2, .int to2, .int (nI nx2)])), (st, .inr (1, [.ref ba, .ref ta, .ref sa, .int (nI o), .int (nI (c - o)), .int (nI (B o % R)), .int (nI (B c - B o)), .int (nI dr), .int (nI de)])), (ba, .inl (cB, R, .inl bf)), (ta, .inl (cI, R, .inl tf)), (sa, .inl (cS, R, .inl sf)), (xa, .inl (cX, 512, .inl xf)), (oa, .inl (cO, 512, .inl uf))]) hx hb hml hT hown (c_Md_begin l D mo ma mu mt mz mb kX kO kT kZ kB R tn on g fr to nx o c T B S dr de xf vf yf zf wf H.size (xs ((1 + 3 * r) + 1)) (xs ((1 + 3 * r) + 2)) hst.1.2.2.1) (cs_law_38 hT ⟨(Nat.le_of_ble_eq_true rfl), (Nat.le_of_ble_eq_true rfl)⟩) (hK.sub [5, 6, 7, 8, 9] rfl) hP hD hS hA [8, 9, 10, 11, 12, 13] [0, 1, 2, 3, 4, 5, 6, 7] rfl rfl (by decide) (by decide) (by decide) 0 rfl rfl rfl hl.1 rfl (Nat.le_of_ble_eq_true rfl) d_law_190 ⟨(Nat.le_of_ble_eq_true rfl), (Nat.le_of_ble_eq_true rfl)⟩ (fun r_190 u H locs hw hKn hP hD hS => ?_)
  obtain ⟨g3, fr3, to3, nx3⟩ := u
  have hw2 : BgS o g fr to (xs ((1 + 3 * r) + 1)) (xs ((1 + 3 * r) + 2)) nx r_190 g3 fr3 to3 nx3 := hw
  obtain ⟨e1, e2, e3, e4, e5⟩ := bgS_one hw1 hw2
  subst e2
  subst e3
  subst e4
  subst e5
  have hP : va_P D classes [(x, .inr (0, [.ref st, .ref rt, .ref xa, .ref oa, .int (nI tn), .int (nI on)])), (rt, .inr (2, [.ref st, .int g2, .int fr2, .int to2, .int (nI nx2)])), (st, .inr (1, [.ref ba, .ref ta, .ref sa, .int (nI o), .int (nI (c - o)), .int (nI (B o % R)), .int (nI (B c - B o)), .int (nI dr), .int (nI de)])), (ba, .inl (cB, R, .inl bf)), (ta, .inl (cI, R, .inl tf)), (sa, .inl (cS, R, .inl sf)), (xa, .inl (cX, 512, .inl xf)), (oa, .inl (cO, 512, .inl uf)), (mo, .inr (3, [.int (nI 0), .int (nI R), .ref ma, .int (nI tn), .ref mu, .int (nI on), .int (nI (c - o)), .ref mt, .ref mz, .ref mb, .int (nI (B c - B o)), .int (nI c), .int (nI dr), .int (nI de), .int g2, .int fr2, .int to2, .int (nI nx2)])), (ma, .inl (kX, 512, .inl xf)), (mu, .inl (kO, 512, .inl vf)), (mt, .inl (kT, 16384, .inl yf)), (mz, .inl (kZ, 16384, .inl zf)), (mb, .inl (kB, 16384, .inl wf))] H := hP.sub [0, 1, 2, 3, 4, 5, 6, 7, 8, 9, 10, 11, 12, 13] rfl
  have hD : va_D (fun q : Nat => s.heap.size ≤ q) [(x, .inr (0, [.ref st, .ref rt, .ref xa, .ref oa, .int (nI tn), .int (nI on)])), (rt, .inr (2, [.ref st, .int g2, .int fr2, .int to2, .int (nI nx2)])), (st, .inr (1, [.ref ba, .ref ta, .ref sa, .int (nI o), .int (nI (c - o)), .int (nI (B o % R)), .int (nI (B c - B o)), .int (nI dr), .int (nI de)])), (ba, .inl (cB, R, .inl bf)), (ta, .inl (cI, R, .inl tf)), (sa, .inl (cS, R, .inl sf)), (xa, .inl (cX, 512, .inl xf)), (oa, .inl (cO, 512, .inl uf)), (mo, .inr (3, [.int (nI 0), .int (nI R), .ref ma, .int (nI tn), .ref mu, .int (nI on), .int (nI (c - o)), .ref mt, .ref mz, .ref mb, .int (nI (B c - B o)), .int (nI c), .int (nI dr), .int (nI de), .int g2, .int fr2, .int to2, .int (nI nx2)])), (ma, .inl (kX, 512, .inl xf)), (mu, .inl (kO, 512, .inl vf)), (mt, .inl (kT, 16384, .inl yf)), (mz, .inl (kZ, 16384, .inl zf)), (mb, .inl (kB, 16384, .inl wf))] := hD.sub [0, 1, 2, 3, 4, 5, 6, 7, 8, 9, 10, 11, 12, 13] (by decide) rfl
  have f1 : nx2 ≤ c ∧ narrow .boolean (.int g2) = .int g2 := by
    rcases hw1 with ⟨w0, w1, w2, w3, w4, w5⟩ | ⟨w0, w1, w2, w3, w4, w5⟩
    · rw [w2, w5]; exact ⟨q3, q6⟩
    · rw [w2, w5]; exact ⟨hst.1.2.2.1, by decide +kernel⟩
  refine lv_icmp_eq (tgt := 346) hx hb d_law_193 (by decide) (fun c_193 => ?_) (fun c_193 => ?_)
  · refine nv_iinc3 (lv' := [(3, .int (nI ((1 + 3 * r) + 3))), (0, .ref b), (1, .ref x), (2, .ref mo)]) hx hb d_law_346 hl (k := 3) rfl (by decide) rfl (fun ls hl => ?_)
    refine lv_goto (tgt := 28) hx hb d_law_349 (by decide) ?_
    exact ih tn on g2 fr2 to2 nx2 o c T B S dr de bf tf sf xf uf vf yf zf wf _ _ _ ⟨q1, q2, f1.1, by omega, by omega, f1.2, q7, hst, hmd, q8, hP, hD, hS, by rw [show 1 + 3 * (r + 1) = 1 + 3 * r + 3 by omega]; exact lv_sub hl [1, 2, 3, 0] rfl⟩
  · exact absurd e1 c_193
set_option maxHeartbeats 4000000 in
set_option maxRecDepth 100000 in
theorem lc_stop {p : Program} {l : Launch} {e : Env} {s : State} {m : MethodId} {below : List Frame} {meth : Method} {cd : Code} {D : va_G} {b L : Nat} {xs : Nat → Int32} (hL : L ≤ 1537) (C0 : lw_At p s m meth cd b L xs) (x rt st ba ta sa xa oa : Nat) (cB cI cS cX cO : ClassId) (mo ma mu mt mz mb : Nat) (kX kO kT kZ kB : ClassId) (R : Nat) (hK : va_K D classes (yL cB cI cS cX cO kX kO kT kZ kB) s) (r : Nat) (hrL : 1 + 3 * r + 3 ≤ L) (ih : ∀ (tn on : Nat) (g fr to : Int32) (nx o c : Nat) (T : Nat → Int32) (B : Nat → Nat) (S : Nat → Int32) (dr de : Nat) (bf tf sf xf uf vf yf zf wf : Nat → Int32) (H : Heap) (locs : List Loc) (ls : Array Slot), LInv D s b x rt st ba ta sa xa oa cB cI cS cX cO mo ma mu mt mz mb kX kO kT kZ kB R (r + 1) tn on g fr to nx o c T B S dr de bf tf sf xf uf vf yf zf wf H locs ls → W p l e room_1 s m #[Value.ref b] below meth cd H locs 600000 7302250 (lw_Z below #[Value.ref b] s) (F0 m 28 ls [])) (tn on : Nat) (g fr to : Int32) (nx o c : Nat) (T : Nat → Int32) (B : Nat → Nat) (S : Nat → Int32) (dr de : Nat) (bf tf sf xf uf vf yf zf wf : Nat → Int32) (H : Heap) (locs : List Loc) (ls : Array Slot) (hI : LInv D s b x rt st ba ta sa xa oa cB cI cS cX cO mo ma mu mt mz mb kX kO kT kZ kB R r tn on g fr to nx o c T B S dr de bf tf sf xf uf vf yf zf wf H locs ls) : W p l e room_1 s m #[Value.ref b] below meth cd H locs 600000 7302250 (lw_Z below #[Value.ref b] s) (F0 m 198 ls []) := by
  obtain ⟨hx, hb, hr, hml, hown, hts, hX, hbl, hlocks, hgv⟩ := C0
  have hT := lw_g_of hts
  obtain ⟨q1, q2, q3, q4, q5, q6, q7, hst, hmd, q8, hP, hD, hS, hl⟩ := hI
  have hA : ∀ q : Nat, s.heap.size ≤ q → (fun q : Nat => s.heap.size ≤ q) q := fun _ h => h
  have hbA : ¬ (fun q : Nat => s.heap.size ≤ q) b := Nat.not_le.mpr hbl
  have hP : va_P D classes [(x, .inr (0, [.ref st, .ref rt, .ref xa, .ref oa, .int (nI tn), .int (nI on)])), (rt, .inr (2, [.ref st, .int g, .int fr, .int to, .int (nI nx)])), (st, .inr (1, [.ref ba, .ref ta, .ref sa, .int (nI o), .int (nI (c - o)), .int (nI (B o % R)), .int (nI (B c - B o)), .int (nI dr), .int (nI de)])), (ba, .inl (cB, R, .inl bf)), (ta, .inl (cI, R, .inl tf)), (sa, .inl (cS, R, .inl sf)), (xa, .inl (cX, 512, .inl xf)), (oa, .inl (cO, 512, .inl uf)), (mo, .inr (3, [.int (nI 0), .int (nI R), .ref ma, .int (nI tn), .ref mu, .int (nI on), .int (nI (c - o)), .ref mt, .ref mz, .ref mb, .int (nI (B c - B o)), .int (nI c), .int (nI dr), .int (nI de), .int g, .int fr, .int to, .int (nI nx)])), (ma, .inl (kX, 512, .inl xf)), (mu, .inl (kO, 512, .inl vf)), (mt, .inl (kT, 16384, .inl yf)), (mz, .inl (kZ, 16384, .inl zf)), (mb, .inl (kB, 16384, .inl wf))] H := hP
  have hD : va_D (fun q : Nat => s.heap.size ≤ q) [(x, .inr (0, [.ref st, .ref rt, .ref xa, .ref oa, .int (nI tn), .int (nI on)])), (rt, .inr (2, [.ref st, .int g, .int fr, .int to, .int (nI nx)])), (st, .inr (1, [.ref ba, .ref ta, .ref sa, .int (nI o), .int (nI (c - o)), .int (nI (B o % R)), .int (nI (B c - B o)), .int (nI dr), .int (nI de)])), (ba, .inl (cB, R, .inl bf)), (ta, .inl (cI, R, .inl tf)), (sa, .inl (cS, R, .inl sf)), (xa, .inl (cX, 512, .inl xf)), (oa, .inl (cO, 512, .inl uf)), (mo, .inr (3, [.int (nI 0), .int (nI R), .ref ma, .int (nI tn), .ref mu, .int (nI on), .int (nI (c - o)), .ref mt, .ref mz, .ref mb, .int (nI (B c - B o)), .int (nI c), .int (nI dr), .int (nI de), .int g, .int fr, .int to, .int (nI nx)])), (ma, .inl (kX, 512, .inl xf)), (mu, .inl (kO, 512, .inl vf)), (mt, .inl (kT, 16384, .inl yf)), (mz, .inl (kZ, 16384, .inl zf)), (mb, .inl (kB, 16384, .inl wf))] := hD
  have hK : va_K D classes [(cB, .byte), (cI, .int), (cS, .short), (cX, .byte), (cO, .byte), (kX, .byte), (kO, .byte), (kT, .int), (kZ, .int), (kB, .byte)] s := hK
  refine lv_aload_n hx hb d_law_198 rfl (lv_at hl 1 rfl) ?_
  refine rw_calli (ci := 0) (As := []) (rest := []) (wr := [(mo, .inr (3, [.int (nI 0), .int (nI R), .ref ma, .int (nI tn), .ref mu, .int (nI on), .int (nI (c - o)), .ref mt, .ref mz, .ref mb, .int (nI (B c - B o)), .int (nI c), .int (nI dr), .int (nI de), .int g, .int fr, .int to, .int (nI nx)])), (ma, .inl (kX, 512, .inl xf)), (mu, .inl (kO, 512, .inl vf)), (mt, .inl (kT, 16384, .inl yf)), (mz, .inl (kZ, 16384, .inl zf)), (mb, .inl (kB, 16384, .inl wf))]) hx hb hml hT hown (c_PS_stop l D x rt st ba ta sa xa oa cB cI cS cX cO tn on g fr to nx R o c T B S dr de bf tf sf xf uf H.size q6) (cs_law_39 hT ⟨(Nat.le_of_ble_eq_true rfl), (Nat.le_of_ble_eq_true rfl)⟩) (hK.sub [0, 1, 2, 3, 4] rfl) hP hD hS hA [0, 1, 2, 3, 4, 5, 6, 7] [8, 9, 10, 11, 12, 13] rfl rfl (by decide) (by decide) (by decide) 0 rfl rfl rfl hl.1 rfl (Nat.le_of_ble_eq_true rfl) d_law_199 ⟨(Nat.le_of_ble_eq_true rfl), (Nat.le_of_ble_eq_true rfl)⟩ (fun r_199 u H locs hw hKn hP hD hS => ?_)
  have hw1 : r_199 = g := hw
  have hP : va_P D classes [(x, .inr (0, [.ref st, .ref rt, .ref xa, .ref oa, .int (nI tn), .int (nI on)])), (rt, .inr (2, [.ref st, .int (nI 0), .int fr, .int to, .int (nI nx)])), (st, .inr (1, [.ref ba, .ref ta, .ref sa, .int (nI o), .int (nI (c - o)), .int (nI (B o % R)), .int (nI (B c - B o)), .int (nI dr), .int (nI de)])), (ba, .inl (cB, R, .inl bf)), (ta, .inl (cI, R, .inl tf)), (sa, .inl (cS, R, .inl sf)), (xa, .inl (cX, 512, .inl xf)), (oa, .inl (cO, 512, .inl uf)), (mo, .inr (3, [.int (nI 0), .int (nI R), .ref ma, .int (nI tn), .ref mu, .int (nI on), .int (nI (c - o)), .ref mt, .ref mz, .ref mb, .int (nI (B c - B o)), .int (nI c), .int (nI dr), .int (nI de), .int g, .int fr, .int to, .int (nI nx)])), (ma, .inl (kX, 512, .inl xf)), (mu, .inl (kO, 512, .inl vf)), (mt, .inl (kT, 16384, .inl yf)), (mz, .inl (kZ, 16384, .inl zf)), (mb, .inl (kB, 16384, .inl wf))] H := hP.sub [6, 7, 8, 9, 10, 11, 12, 13, 0, 1, 2, 3, 4, 5] rfl
  have hD : va_D (fun q : Nat => s.heap.size ≤ q) [(x, .inr (0, [.ref st, .ref rt, .ref xa, .ref oa, .int (nI tn), .int (nI on)])), (rt, .inr (2, [.ref st, .int (nI 0), .int fr, .int to, .int (nI nx)])), (st, .inr (1, [.ref ba, .ref ta, .ref sa, .int (nI o), .int (nI (c - o)), .int (nI (B o % R)), .int (nI (B c - B o)), .int (nI dr), .int (nI de)])), (ba, .inl (cB, R, .inl bf)), (ta, .inl (cI, R, .inl tf)), (sa, .inl (cS, R, .inl sf)), (xa, .inl (cX, 512, .inl xf)), (oa, .inl (cO, 512, .inl uf)), (mo, .inr (3, [.int (nI 0), .int (nI R), .ref ma, .int (nI tn), .ref mu, .int (nI on), .int (nI (c - o)), .ref mt, .ref mz, .ref mb, .int (nI (B c - B o)), .int (nI c), .int (nI dr), .int (nI de), .int g, .int fr, .int to, .int (nI nx)])), (ma, .inl (kX, 512, .inl xf)), (mu, .inl (kO, 512, .inl vf)), (mt, .inl (kT, 16384, .inl yf)), (mz, .inl (kZ, 16384, .inl zf)), (mb, .inl (kB, 16384, .inl wf))] := hD.sub [6, 7, 8, 9, 10, 11, 12, 13, 0, 1, 2, 3, 4, 5] (by decide) rfl
  refine lv_aload_n hx hb d_law_202 rfl (lv_at hl 2 rfl) ?_
  refine rw_calli (ci := 3) (As := []) (rest := [.int r_199]) (wr := [(x, .inr (0, [.ref st, .ref rt, .ref xa, .ref oa, .int (nI tn), .int (nI on)])), (rt, .inr (2, [.ref st, .int (nI 0), .int fr, .int to, .int (nI nx)])), (st, .inr (1, [.ref ba, .ref ta, .ref sa, .int (nI o), .int (nI (c - o)), .int (nI (B o % R)), .int (nI (B c - B o)), .int (nI dr), .int (nI de)])), (ba, .inl (cB, R, .inl bf)), (ta, .inl (cI, R, .inl tf)), (sa, .inl (cS, R, .inl sf)), (xa, .inl (cX, 512, .inl xf)), (oa, .inl (cO, 512, .inl uf))]) hx hb hml hT hown (c_Md_stop l D mo ma mu mt mz mb kX kO kT kZ kB R tn on g fr to nx o c T B S dr de xf vf yf zf wf H.size q6) (cs_law_43 hT ⟨(Nat.le_of_ble_eq_true rfl), (Nat.le_of_ble_eq_true rfl)⟩) (hK.sub [5, 6, 7, 8, 9] rfl) hP hD hS hA [8, 9, 10, 11, 12, 13] [0, 1, 2, 3, 4, 5, 6, 7] rfl rfl (by decide) (by decide) (by decide) 0 rfl rfl rfl hl.1 rfl (Nat.le_of_ble_eq_true rfl) d_law_203 ⟨(Nat.le_of_ble_eq_true rfl), (Nat.le_of_ble_eq_true rfl)⟩ (fun r_203 u H locs hw hKn hP hD hS => ?_)
  have hw2 : r_203 = g := hw
  have hP : va_P D classes [(x, .inr (0, [.ref st, .ref rt, .ref xa, .ref oa, .int (nI tn), .int (nI on)])), (rt, .inr (2, [.ref st, .int (nI 0), .int fr, .int to, .int (nI nx)])), (st, .inr (1, [.ref ba, .ref ta, .ref sa, .int (nI o), .int (nI (c - o)), .int (nI (B o % R)), .int (nI (B c - B o)), .int (nI dr), .int (nI de)])), (ba, .inl (cB, R, .inl bf)), (ta, .inl (cI, R, .inl tf)), (sa, .inl (cS, R, .inl sf)), (xa, .inl (cX, 512, .inl xf)), (oa, .inl (cO, 512, .inl uf)), (mo, .inr (3, [.int (nI 0), .int (nI R), .ref ma, .int (nI tn), .ref mu, .int (nI on), .int (nI (c - o)), .ref mt, .ref mz, .ref mb, .int (nI (B c - B o)), .int (nI c), .int (nI dr), .int (nI de), .int (nI 0), .int fr, .int to, .int (nI nx)])), (ma, .inl (kX, 512, .inl xf)), (mu, .inl (kO, 512, .inl vf)), (mt, .inl (kT, 16384, .inl yf)), (mz, .inl (kZ, 16384, .inl zf)), (mb, .inl (kB, 16384, .inl wf))] H := hP.sub [0, 1, 2, 3, 4, 5, 6, 7, 8, 9, 10, 11, 12, 13] rfl
  have hD : va_D (fun q : Nat => s.heap.size ≤ q) [(x, .inr (0, [.ref st, .ref rt, .ref xa, .ref oa, .int (nI tn), .int (nI on)])), (rt, .inr (2, [.ref st, .int (nI 0), .int fr, .int to, .int (nI nx)])), (st, .inr (1, [.ref ba, .ref ta, .ref sa, .int (nI o), .int (nI (c - o)), .int (nI (B o % R)), .int (nI (B c - B o)), .int (nI dr), .int (nI de)])), (ba, .inl (cB, R, .inl bf)), (ta, .inl (cI, R, .inl tf)), (sa, .inl (cS, R, .inl sf)), (xa, .inl (cX, 512, .inl xf)), (oa, .inl (cO, 512, .inl uf)), (mo, .inr (3, [.int (nI 0), .int (nI R), .ref ma, .int (nI tn), .ref mu, .int (nI on), .int (nI (c - o)), .ref mt, .ref mz, .ref mb, .int (nI (B c - B o)), .int (nI c), .int (nI dr), .int (nI de), .int (nI 0), .int fr, .int to, .int (nI nx)])), (ma, .inl (kX, 512, .inl xf)), (mu, .inl (kO, 512, .inl vf)), (mt, .inl (kT, 16384, .inl yf)), (mz, .inl (kZ, 16384, .inl zf)), (mb, .inl (kB, 16384, .inl wf))] := hD.sub [0, 1, 2, 3, 4, 5, 6, 7, 8, 9, 10, 11, 12, 13] (by decide) rfl
  refine lv_icmp_eq (tgt := 346) hx hb d_law_206 (by decide) (fun c_206 => ?_) (fun c_206 => ?_)
  · refine nv_iinc3 (lv' := [(3, .int (nI ((1 + 3 * r) + 3))), (0, .ref b), (1, .ref x), (2, .ref mo)]) hx hb d_law_346 hl (k := 3) rfl (by decide) rfl (fun ls hl => ?_)
    refine lv_goto (tgt := 28) hx hb d_law_349 (by decide) ?_
    exact ih tn on (nI 0) fr to nx o c T B S dr de bf tf sf xf uf vf yf zf wf _ _ _ ⟨q1, q2, q3, by omega, by omega, by decide +kernel, q7, hst, hmd, q8, hP, hD, hS, by rw [show 1 + 3 * (r + 1) = 1 + 3 * r + 3 by omega]; exact lv_sub hl [1, 2, 3, 0] rfl⟩
  · exact absurd (hw1.trans hw2.symm) c_206
set_option maxHeartbeats 4000000 in
set_option maxRecDepth 100000 in
theorem lc_next {p : Program} {l : Launch} {e : Env} {s : State} {m : MethodId} {below : List Frame} {meth : Method} {cd : Code} {D : va_G} {b L : Nat} {xs : Nat → Int32} (hL : L ≤ 1537) (C0 : lw_At p s m meth cd b L xs) (x rt st ba ta sa xa oa : Nat) (cB cI cS cX cO : ClassId) (mo ma mu mt mz mb : Nat) (kX kO kT kZ kB : ClassId) (R : Nat) (hK : va_K D classes (yL cB cI cS cX cO kX kO kT kZ kB) s) (r : Nat) (hrL : 1 + 3 * r + 3 ≤ L) (ih : ∀ (tn on : Nat) (g fr to : Int32) (nx o c : Nat) (T : Nat → Int32) (B : Nat → Nat) (S : Nat → Int32) (dr de : Nat) (bf tf sf xf uf vf yf zf wf : Nat → Int32) (H : Heap) (locs : List Loc) (ls : Array Slot), LInv D s b x rt st ba ta sa xa oa cB cI cS cX cO mo ma mu mt mz mb kX kO kT kZ kB R (r + 1) tn on g fr to nx o c T B S dr de bf tf sf xf uf vf yf zf wf H locs ls → W p l e room_1 s m #[Value.ref b] below meth cd H locs 600000 7302250 (lw_Z below #[Value.ref b] s) (F0 m 28 ls [])) (tn on : Nat) (g fr to : Int32) (nx o c : Nat) (T : Nat → Int32) (B : Nat → Nat) (S : Nat → Int32) (dr de : Nat) (bf tf sf xf uf vf yf zf wf : Nat → Int32) (H : Heap) (locs : List Loc) (ls : Array Slot) (hI : LInv D s b x rt st ba ta sa xa oa cB cI cS cX cO mo ma mu mt mz mb kX kO kT kZ kB R r tn on g fr to nx o c T B S dr de bf tf sf xf uf vf yf zf wf H locs ls) : W p l e room_1 s m #[Value.ref b] below meth cd H locs 600000 7302250 (lw_Z below #[Value.ref b] s) (F0 m 211 ls []) := by
  obtain ⟨hx, hb, hr, hml, hown, hts, hX, hbl, hlocks, hgv⟩ := C0
  have hT := lw_g_of hts
  obtain ⟨q1, q2, q3, q4, q5, q6, q7, hst, hmd, q8, hP, hD, hS, hl⟩ := hI
  have hA : ∀ q : Nat, s.heap.size ≤ q → (fun q : Nat => s.heap.size ≤ q) q := fun _ h => h
  have hbA : ¬ (fun q : Nat => s.heap.size ≤ q) b := Nat.not_le.mpr hbl
  have hP : va_P D classes [(x, .inr (0, [.ref st, .ref rt, .ref xa, .ref oa, .int (nI tn), .int (nI on)])), (rt, .inr (2, [.ref st, .int g, .int fr, .int to, .int (nI nx)])), (st, .inr (1, [.ref ba, .ref ta, .ref sa, .int (nI o), .int (nI (c - o)), .int (nI (B o % R)), .int (nI (B c - B o)), .int (nI dr), .int (nI de)])), (ba, .inl (cB, R, .inl bf)), (ta, .inl (cI, R, .inl tf)), (sa, .inl (cS, R, .inl sf)), (xa, .inl (cX, 512, .inl xf)), (oa, .inl (cO, 512, .inl uf)), (mo, .inr (3, [.int (nI 0), .int (nI R), .ref ma, .int (nI tn), .ref mu, .int (nI on), .int (nI (c - o)), .ref mt, .ref mz, .ref mb, .int (nI (B c - B o)), .int (nI c), .int (nI dr), .int (nI de), .int g, .int fr, .int to, .int (nI nx)])), (ma, .inl (kX, 512, .inl xf)), (mu, .inl (kO, 512, .inl vf)), (mt, .inl (kT, 16384, .inl yf)), (mz, .inl (kZ, 16384, .inl zf)), (mb, .inl (kB, 16384, .inl wf))] H := hP
  have hD : va_D (fun q : Nat => s.heap.size ≤ q) [(x, .inr (0, [.ref st, .ref rt, .ref xa, .ref oa, .int (nI tn), .int (nI on)])), (rt, .inr (2, [.ref st, .int g, .int fr, .int to, .int (nI nx)])), (st, .inr (1, [.ref ba, .ref ta, .ref sa, .int (nI o), .int (nI (c - o)), .int (nI (B o % R)), .int (nI (B c - B o)), .int (nI dr), .int (nI de)])), (ba, .inl (cB, R, .inl bf)), (ta, .inl (cI, R, .inl tf)), (sa, .inl (cS, R, .inl sf)), (xa, .inl (cX, 512, .inl xf)), (oa, .inl (cO, 512, .inl uf)), (mo, .inr (3, [.int (nI 0), .int (nI R), .ref ma, .int (nI tn), .ref mu, .int (nI on), .int (nI (c - o)), .ref mt, .ref mz, .ref mb, .int (nI (B c - B o)), .int (nI c), .int (nI dr), .int (nI de), .int g, .int fr, .int to, .int (nI nx)])), (ma, .inl (kX, 512, .inl xf)), (mu, .inl (kO, 512, .inl vf)), (mt, .inl (kT, 16384, .inl yf)), (mz, .inl (kZ, 16384, .inl zf)), (mb, .inl (kB, 16384, .inl wf))] := hD
  have hK : va_K D classes [(cB, .byte), (cI, .int), (cS, .short), (cX, .byte), (cO, .byte), (kX, .byte), (kO, .byte), (kT, .int), (kZ, .int), (kB, .byte)] s := hK
  refine lv_aload_n hx hb d_law_211 rfl (lv_at hl 1 rfl) ?_
  refine lv_aload_n hx hb d_law_212 rfl (lv_at hl 0 rfl) ?_
  refine lv_iload_n hx hb d_law_213 rfl (lv_at hl 3 rfl) ?_
  refine lv_iconst (v := nI 1) hx hb d_law_214 (by decide +kernel) ?_
  refine nv_iadd hx hb d_law_215 ?_
  refine va_sld hx hb hX hbl hbA hS (vp_in_nI (by omega) (by omega)) d_law_216 ?_
  refine nv_asX (y := xs ((1 + 3 * r) + 1)) (by rw [nI_clamp (by omega)]) ?_
  refine rw_calli (ci := 0) (As := [.int (xs ((1 + 3 * r) + 1))]) (rest := []) (wr := [(mo, .inr (3, [.int (nI 0), .int (nI R), .ref ma, .int (nI tn), .ref mu, .int (nI on), .int (nI (c - o)), .ref mt, .ref mz, .ref mb, .int (nI (B c - B o)), .int (nI c), .int (nI dr), .int (nI de), .int g, .int fr, .int to, .int (nI nx)])), (ma, .inl (kX, 512, .inl xf)), (mu, .inl (kO, 512, .inl vf)), (mt, .inl (kT, 16384, .inl yf)), (mz, .inl (kZ, 16384, .inl zf)), (mb, .inl (kB, 16384, .inl wf))]) hx hb hml hT hown (c_PS_next l D x rt st ba ta sa xa oa cB cI cS cX cO tn on g fr to nx R o c T B S dr de bf tf sf xf uf H.size (xs ((1 + 3 * r) + 1)) hst q3) (cs_law_44 hT ⟨(Nat.le_of_ble_eq_true rfl), (Nat.le_of_ble_eq_true rfl)⟩) (hK.sub [0, 1, 2, 3, 4] rfl) hP hD hS hA [0, 1, 2, 3, 4, 5, 6, 7] [8, 9, 10, 11, 12, 13] rfl rfl (by decide) (by decide) (by decide) 0 rfl rfl rfl hl.1 rfl (Nat.le_of_ble_eq_true rfl) d_law_217 ⟨(Nat.le_of_ble_eq_true rfl), (Nat.le_of_ble_eq_true rfl)⟩ (fun r_217 u H locs hw hKn hP hD hS => ?_)
  obtain ⟨g2, nx2, on2, uf2⟩ := u
  have hw1 : NxS o c T B S (xs ((1 + 3 * r) + 1)) g fr to nx on uf r_217 g2 nx2 on2 uf2 := hw
  have hP : va_P D classes [(x, .inr (0, [.ref st, .ref rt, .ref xa, .ref oa, .int (nI tn), .int (nI on2)])), (rt, .inr (2, [.ref st, .int g2, .int fr, .int to, .int (nI nx2)])), (st, .inr (1, [.ref ba, .ref ta, .ref sa, .int (nI o), .int (nI (c - o)), .int (nI (B o % R)), .int (nI (B c - B o)), .int (nI dr), .int (nI de)])), (ba, .inl (cB, R, .inl bf)), (ta, .inl (cI, R, .inl tf)), (sa, .inl (cS, R, .inl sf)), (xa, .inl (cX, 512, .inl xf)), (oa, .inl (cO, 512, .inl uf2)), (mo, .inr (3, [.int (nI 0), .int (nI R), .ref ma, .int (nI tn), .ref mu, .int (nI on), .int (nI (c - o)), .ref mt, .ref mz, .ref mb, .int (nI (B c - B o)), .int (nI c), .int (nI dr), .int (nI de), .int g, .int fr, .int to, .int (nI nx)])), (ma, .inl (kX, 512, .inl xf)), (mu, .inl (kO, 512, .inl vf)), (mt, .inl (kT, 16384, .inl yf)), (mz, .inl (kZ, 16384, .inl zf)), (mb, .inl (kB, 16384, .inl wf))] H := hP.sub [6, 7, 8, 9, 10, 11, 12, 13, 0, 1, 2, 3, 4, 5] rfl
  have hD : va_D (fun q : Nat => s.heap.size ≤ q) [(x, .inr (0, [.ref st, .ref rt, .ref xa, .ref oa, .int (nI tn), .int (nI on2)])), (rt, .inr (2, [.ref st, .int g2, .int fr, .int to, .int (nI nx2)])), (st, .inr (1, [.ref ba, .ref ta, .ref sa, .int (nI o), .int (nI (c - o)), .int (nI (B o % R)), .int (nI (B c - B o)), .int (nI dr), .int (nI de)])), (ba, .inl (cB, R, .inl bf)), (ta, .inl (cI, R, .inl tf)), (sa, .inl (cS, R, .inl sf)), (xa, .inl (cX, 512, .inl xf)), (oa, .inl (cO, 512, .inl uf2)), (mo, .inr (3, [.int (nI 0), .int (nI R), .ref ma, .int (nI tn), .ref mu, .int (nI on), .int (nI (c - o)), .ref mt, .ref mz, .ref mb, .int (nI (B c - B o)), .int (nI c), .int (nI dr), .int (nI de), .int g, .int fr, .int to, .int (nI nx)])), (ma, .inl (kX, 512, .inl xf)), (mu, .inl (kO, 512, .inl vf)), (mt, .inl (kT, 16384, .inl yf)), (mz, .inl (kZ, 16384, .inl zf)), (mb, .inl (kB, 16384, .inl wf))] := hD.sub [6, 7, 8, 9, 10, 11, 12, 13, 0, 1, 2, 3, 4, 5] (by decide) rfl
  refine lv_aload_n hx hb d_law_220 rfl (lv_at hl 2 rfl) ?_
  refine lv_aload_n hx hb d_law_221 rfl (lv_at hl 0 rfl) ?_
  refine lv_iload_n hx hb d_law_222 rfl (lv_at hl 3 rfl) ?_
  refine lv_iconst (v := nI 1) hx hb d_law_223 (by decide +kernel) ?_
  refine nv_iadd hx hb d_law_224 ?_
  refine va_sld hx hb hX hbl hbA hS (vp_in_nI (by omega) (by omega)) d_law_225 ?_
  refine nv_asX (y := xs ((1 + 3 * r) + 1)) (by rw [nI_clamp (by omega)]) ?_
  refine rw_calli (ci := 3) (As := [.int (xs ((1 + 3 * r) + 1))]) (rest := [.int r_217]) (wr := [(x, .inr (0, [.ref st, .ref rt, .ref xa, .ref oa, .int (nI tn), .int (nI on2)])), (rt, .inr (2, [.ref st, .int g2, .int fr, .int to, .int (nI nx2)])), (st, .inr (1, [.ref ba, .ref ta, .ref sa, .int (nI o), .int (nI (c - o)), .int (nI (B o % R)), .int (nI (B c - B o)), .int (nI dr), .int (nI de)])), (ba, .inl (cB, R, .inl bf)), (ta, .inl (cI, R, .inl tf)), (sa, .inl (cS, R, .inl sf)), (xa, .inl (cX, 512, .inl xf)), (oa, .inl (cO, 512, .inl uf2))]) hx hb hml hT hown (c_Md_next l D mo ma mu mt mz mb kX kO kT kZ kB R tn on g fr to nx o c T B S dr de xf vf yf zf wf H.size (xs ((1 + 3 * r) + 1)) hmd q3) (cs_law_47 hT ⟨(Nat.le_of_ble_eq_true rfl), (Nat.le_of_ble_eq_true rfl)⟩) (hK.sub [5, 6, 7, 8, 9] rfl) hP hD hS hA [8, 9, 10, 11, 12, 13] [0, 1, 2, 3, 4, 5, 6, 7] rfl rfl (by decide) (by decide) (by decide) 0 rfl rfl rfl hl.1 rfl (Nat.le_of_ble_eq_true rfl) d_law_226 ⟨(Nat.le_of_ble_eq_true rfl), (Nat.le_of_ble_eq_true rfl)⟩ (fun r_226 u H locs hw hKn hP hD hS => ?_)
  obtain ⟨g3, nx3, on3, vf3⟩ := u
  have hw2 : NxS o c T B S (xs ((1 + 3 * r) + 1)) g fr to nx on vf r_226 g3 nx3 on3 vf3 := hw
  obtain ⟨e1, e2, e3, e4, e5⟩ := nxS_one q8 hw1 hw2
  subst e2
  subst e3
  subst e4
  have hP : va_P D classes [(x, .inr (0, [.ref st, .ref rt, .ref xa, .ref oa, .int (nI tn), .int (nI on2)])), (rt, .inr (2, [.ref st, .int g2, .int fr, .int to, .int (nI nx2)])), (st, .inr (1, [.ref ba, .ref ta, .ref sa, .int (nI o), .int (nI (c - o)), .int (nI (B o % R)), .int (nI (B c - B o)), .int (nI dr), .int (nI de)])), (ba, .inl (cB, R, .inl bf)), (ta, .inl (cI, R, .inl tf)), (sa, .inl (cS, R, .inl sf)), (xa, .inl (cX, 512, .inl xf)), (oa, .inl (cO, 512, .inl uf2)), (mo, .inr (3, [.int (nI 0), .int (nI R), .ref ma, .int (nI tn), .ref mu, .int (nI on2), .int (nI (c - o)), .ref mt, .ref mz, .ref mb, .int (nI (B c - B o)), .int (nI c), .int (nI dr), .int (nI de), .int g2, .int fr, .int to, .int (nI nx2)])), (ma, .inl (kX, 512, .inl xf)), (mu, .inl (kO, 512, .inl vf3)), (mt, .inl (kT, 16384, .inl yf)), (mz, .inl (kZ, 16384, .inl zf)), (mb, .inl (kB, 16384, .inl wf))] H := hP.sub [0, 1, 2, 3, 4, 5, 6, 7, 8, 9, 10, 11, 12, 13] rfl
  have hD : va_D (fun q : Nat => s.heap.size ≤ q) [(x, .inr (0, [.ref st, .ref rt, .ref xa, .ref oa, .int (nI tn), .int (nI on2)])), (rt, .inr (2, [.ref st, .int g2, .int fr, .int to, .int (nI nx2)])), (st, .inr (1, [.ref ba, .ref ta, .ref sa, .int (nI o), .int (nI (c - o)), .int (nI (B o % R)), .int (nI (B c - B o)), .int (nI dr), .int (nI de)])), (ba, .inl (cB, R, .inl bf)), (ta, .inl (cI, R, .inl tf)), (sa, .inl (cS, R, .inl sf)), (xa, .inl (cX, 512, .inl xf)), (oa, .inl (cO, 512, .inl uf2)), (mo, .inr (3, [.int (nI 0), .int (nI R), .ref ma, .int (nI tn), .ref mu, .int (nI on2), .int (nI (c - o)), .ref mt, .ref mz, .ref mb, .int (nI (B c - B o)), .int (nI c), .int (nI dr), .int (nI de), .int g2, .int fr, .int to, .int (nI nx2)])), (ma, .inl (kX, 512, .inl xf)), (mu, .inl (kO, 512, .inl vf3)), (mt, .inl (kT, 16384, .inl yf)), (mz, .inl (kZ, 16384, .inl zf)), (mb, .inl (kB, 16384, .inl wf))] := hD.sub [0, 1, 2, 3, 4, 5, 6, 7, 8, 9, 10, 11, 12, 13] (by decide) rfl
  have f1 : nx2 ≤ c ∧ on2 ≤ 512 ∧ narrow .boolean (.int g2) = .int g2 := by
    rcases hw1 with ⟨w0, w1, w2, w3, w4, w5⟩ | ⟨w0, n, wf_, ⟨w1, w2, w3, w4, w5, w6⟩ | ⟨w1, w7, w2, w3, w4, w5, w6⟩ | ⟨w1, w7, w2, w3, w4, w5, w6⟩⟩
    · rw [w2, w3, w4]; exact ⟨q3, q2, by decide +kernel⟩
    · rw [w3, w4, w5]; exact ⟨Nat.le_refl c, q2, by decide +kernel⟩
    · rw [w3, w4, w5]; exact ⟨by omega, q2, q6⟩
    · have := hst.1.2.2.2.2.2.2 n w1
      rw [w3, w4, w5]; exact ⟨by omega, by omega, q6⟩
  refine lv_icmp_eq (tgt := 346) hx hb d_law_229 (by decide) (fun c_229 => ?_) (fun c_229 => ?_)
  · refine nv_iinc3 (lv' := [(3, .int (nI ((1 + 3 * r) + 3))), (0, .ref b), (1, .ref x), (2, .ref mo)]) hx hb d_law_346 hl (k := 3) rfl (by decide) rfl (fun ls hl => ?_)
    refine lv_goto (tgt := 28) hx hb d_law_349 (by decide) ?_
    exact ih tn on2 g2 fr to nx2 o c T B S dr de bf tf sf xf uf2 vf3 yf zf wf _ _ _ ⟨q1, f1.2.1, f1.1, by omega, by omega, f1.2.2, q7, hst, hmd, e5, hP, hD, hS, by rw [show 1 + 3 * (r + 1) = 1 + 3 * r + 3 by omega]; exact lv_sub hl [1, 2, 3, 0] rfl⟩
  · exact absurd e1 c_229
set_option maxHeartbeats 4000000 in
set_option maxRecDepth 100000 in
theorem lc_out {p : Program} {l : Launch} {e : Env} {s : State} {m : MethodId} {below : List Frame} {meth : Method} {cd : Code} {D : va_G} {b L : Nat} {xs : Nat → Int32} (hL : L ≤ 1537) (C0 : lw_At p s m meth cd b L xs) (x rt st ba ta sa xa oa : Nat) (cB cI cS cX cO : ClassId) (mo ma mu mt mz mb : Nat) (kX kO kT kZ kB : ClassId) (R : Nat) (hK : va_K D classes (yL cB cI cS cX cO kX kO kT kZ kB) s) (r : Nat) (hrL : 1 + 3 * r + 3 ≤ L) (ih : ∀ (tn on : Nat) (g fr to : Int32) (nx o c : Nat) (T : Nat → Int32) (B : Nat → Nat) (S : Nat → Int32) (dr de : Nat) (bf tf sf xf uf vf yf zf wf : Nat → Int32) (H : Heap) (locs : List Loc) (ls : Array Slot), LInv D s b x rt st ba ta sa xa oa cB cI cS cX cO mo ma mu mt mz mb kX kO kT kZ kB R (r + 1) tn on g fr to nx o c T B S dr de bf tf sf xf uf vf yf zf wf H locs ls → W p l e room_1 s m #[Value.ref b] below meth cd H locs 600000 7302250 (lw_Z below #[Value.ref b] s) (F0 m 28 ls [])) (tn on : Nat) (g fr to : Int32) (nx o c : Nat) (T : Nat → Int32) (B : Nat → Nat) (S : Nat → Int32) (dr de : Nat) (bf tf sf xf uf vf yf zf wf : Nat → Int32) (H : Heap) (locs : List Loc) (ls : Array Slot) (hI : LInv D s b x rt st ba ta sa xa oa cB cI cS cX cO mo ma mu mt mz mb kX kO kT kZ kB R r tn on g fr to nx o c T B S dr de bf tf sf xf uf vf yf zf wf H locs ls) : W p l e room_1 s m #[Value.ref b] below meth cd H locs 600000 7302250 (lw_Z below #[Value.ref b] s) (F0 m 234 ls []) := by
  obtain ⟨hx, hb, hr, hml, hown, hts, hX, hbl, hlocks, hgv⟩ := C0
  have hT := lw_g_of hts
  obtain ⟨q1, q2, q3, q4, q5, q6, q7, hst, hmd, q8, hP, hD, hS, hl⟩ := hI
  have hA : ∀ q : Nat, s.heap.size ≤ q → (fun q : Nat => s.heap.size ≤ q) q := fun _ h => h
  have hbA : ¬ (fun q : Nat => s.heap.size ≤ q) b := Nat.not_le.mpr hbl
  have hP : va_P D classes [(x, .inr (0, [.ref st, .ref rt, .ref xa, .ref oa, .int (nI tn), .int (nI on)])), (rt, .inr (2, [.ref st, .int g, .int fr, .int to, .int (nI nx)])), (st, .inr (1, [.ref ba, .ref ta, .ref sa, .int (nI o), .int (nI (c - o)), .int (nI (B o % R)), .int (nI (B c - B o)), .int (nI dr), .int (nI de)])), (ba, .inl (cB, R, .inl bf)), (ta, .inl (cI, R, .inl tf)), (sa, .inl (cS, R, .inl sf)), (xa, .inl (cX, 512, .inl xf)), (oa, .inl (cO, 512, .inl uf)), (mo, .inr (3, [.int (nI 0), .int (nI R), .ref ma, .int (nI tn), .ref mu, .int (nI on), .int (nI (c - o)), .ref mt, .ref mz, .ref mb, .int (nI (B c - B o)), .int (nI c), .int (nI dr), .int (nI de), .int g, .int fr, .int to, .int (nI nx)])), (ma, .inl (kX, 512, .inl xf)), (mu, .inl (kO, 512, .inl vf)), (mt, .inl (kT, 16384, .inl yf)), (mz, .inl (kZ, 16384, .inl zf)), (mb, .inl (kB, 16384, .inl wf))] H := hP
  have hD : va_D (fun q : Nat => s.heap.size ≤ q) [(x, .inr (0, [.ref st, .ref rt, .ref xa, .ref oa, .int (nI tn), .int (nI on)])), (rt, .inr (2, [.ref st, .int g, .int fr, .int to, .int (nI nx)])), (st, .inr (1, [.ref ba, .ref ta, .ref sa, .int (nI o), .int (nI (c - o)), .int (nI (B o % R)), .int (nI (B c - B o)), .int (nI dr), .int (nI de)])), (ba, .inl (cB, R, .inl bf)), (ta, .inl (cI, R, .inl tf)), (sa, .inl (cS, R, .inl sf)), (xa, .inl (cX, 512, .inl xf)), (oa, .inl (cO, 512, .inl uf)), (mo, .inr (3, [.int (nI 0), .int (nI R), .ref ma, .int (nI tn), .ref mu, .int (nI on), .int (nI (c - o)), .ref mt, .ref mz, .ref mb, .int (nI (B c - B o)), .int (nI c), .int (nI dr), .int (nI de), .int g, .int fr, .int to, .int (nI nx)])), (ma, .inl (kX, 512, .inl xf)), (mu, .inl (kO, 512, .inl vf)), (mt, .inl (kT, 16384, .inl yf)), (mz, .inl (kZ, 16384, .inl zf)), (mb, .inl (kB, 16384, .inl wf))] := hD
  have hK : va_K D classes [(cB, .byte), (cI, .int), (cS, .short), (cX, .byte), (cO, .byte), (kX, .byte), (kO, .byte), (kT, .int), (kZ, .int), (kB, .byte)] s := hK
  refine lv_aload_n hx hb d_law_234 rfl (lv_at hl 1 rfl) ?_
  refine lv_aload_n hx hb d_law_235 rfl (lv_at hl 0 rfl) ?_
  refine lv_iload_n hx hb d_law_236 rfl (lv_at hl 3 rfl) ?_
  refine lv_iconst (v := nI 1) hx hb d_law_237 (by decide +kernel) ?_
  refine nv_iadd hx hb d_law_238 ?_
  refine va_sld hx hb hX hbl hbA hS (vp_in_nI (by omega) (by omega)) d_law_239 ?_
  refine nv_asX (y := xs ((1 + 3 * r) + 1)) (by rw [nI_clamp (by omega)]) ?_
  refine ro_calli (ci := 0) (As := [.int (xs ((1 + 3 * r) + 1))]) (rest := []) hx hb hml hT hown (c_PS_out l D x rt st ba ta sa xa oa cB cI cS cX cO tn on g fr to nx R o c T B S dr de bf tf sf xf uf (xs ((1 + 3 * r) + 1)) q2) (cs_law_48 hT ⟨(Nat.le_of_ble_eq_true rfl), (Nat.le_of_ble_eq_true rfl)⟩) (hK.sub [0, 1, 2, 3, 4] rfl) (hP.sub [0, 1, 2, 3, 4, 5, 6, 7] rfl) 0 rfl rfl rfl hl.1 rfl (Nat.le_of_ble_eq_true rfl) d_law_240 ⟨(Nat.le_of_ble_eq_true rfl), (Nat.le_of_ble_eq_true rfl)⟩ (fun r_240 er_240 => ?_)
  refine lv_aload_n hx hb d_law_243 rfl (lv_at hl 2 rfl) ?_
  refine lv_aload_n hx hb d_law_244 rfl (lv_at hl 0 rfl) ?_
  refine lv_iload_n hx hb d_law_245 rfl (lv_at hl 3 rfl) ?_
  refine lv_iconst (v := nI 1) hx hb d_law_246 (by decide +kernel) ?_
  refine nv_iadd hx hb d_law_247 ?_
  refine va_sld hx hb hX hbl hbA hS (vp_in_nI (by omega) (by omega)) d_law_248 ?_
  refine nv_asX (y := xs ((1 + 3 * r) + 1)) (by rw [nI_clamp (by omega)]) ?_
  refine rw_calli (ci := 3) (As := [.int (xs ((1 + 3 * r) + 1))]) (rest := [.int r_240]) (wr := [(x, .inr (0, [.ref st, .ref rt, .ref xa, .ref oa, .int (nI tn), .int (nI on)])), (rt, .inr (2, [.ref st, .int g, .int fr, .int to, .int (nI nx)])), (st, .inr (1, [.ref ba, .ref ta, .ref sa, .int (nI o), .int (nI (c - o)), .int (nI (B o % R)), .int (nI (B c - B o)), .int (nI dr), .int (nI de)])), (ba, .inl (cB, R, .inl bf)), (ta, .inl (cI, R, .inl tf)), (sa, .inl (cS, R, .inl sf)), (xa, .inl (cX, 512, .inl xf)), (oa, .inl (cO, 512, .inl uf))]) hx hb hml hT hown (c_Md_out l D mo ma mu mt mz mb kX kO kT kZ kB R tn on g fr to nx o c T B S dr de xf vf yf zf wf H.size (xs ((1 + 3 * r) + 1)) q2) (cs_law_51 hT ⟨(Nat.le_of_ble_eq_true rfl), (Nat.le_of_ble_eq_true rfl)⟩) (hK.sub [5, 6, 7, 8, 9] rfl) hP hD hS hA [8, 9, 10, 11, 12, 13] [0, 1, 2, 3, 4, 5, 6, 7] rfl rfl (by decide) (by decide) (by decide) 0 rfl rfl rfl hl.1 rfl (Nat.le_of_ble_eq_true rfl) d_law_249 ⟨(Nat.le_of_ble_eq_true rfl), (Nat.le_of_ble_eq_true rfl)⟩ (fun r_249 u H locs hw hKn hP hD hS => ?_)
  have hw2 := hw
  have hP : va_P D classes [(x, .inr (0, [.ref st, .ref rt, .ref xa, .ref oa, .int (nI tn), .int (nI on)])), (rt, .inr (2, [.ref st, .int g, .int fr, .int to, .int (nI nx)])), (st, .inr (1, [.ref ba, .ref ta, .ref sa, .int (nI o), .int (nI (c - o)), .int (nI (B o % R)), .int (nI (B c - B o)), .int (nI dr), .int (nI de)])), (ba, .inl (cB, R, .inl bf)), (ta, .inl (cI, R, .inl tf)), (sa, .inl (cS, R, .inl sf)), (xa, .inl (cX, 512, .inl xf)), (oa, .inl (cO, 512, .inl uf)), (mo, .inr (3, [.int (nI 0), .int (nI R), .ref ma, .int (nI tn), .ref mu, .int (nI on), .int (nI (c - o)), .ref mt, .ref mz, .ref mb, .int (nI (B c - B o)), .int (nI c), .int (nI dr), .int (nI de), .int g, .int fr, .int to, .int (nI nx)])), (ma, .inl (kX, 512, .inl xf)), (mu, .inl (kO, 512, .inl vf)), (mt, .inl (kT, 16384, .inl yf)), (mz, .inl (kZ, 16384, .inl zf)), (mb, .inl (kB, 16384, .inl wf))] H := hP.sub [0, 1, 2, 3, 4, 5, 6, 7, 8, 9, 10, 11, 12, 13] rfl
  have hD : va_D (fun q : Nat => s.heap.size ≤ q) [(x, .inr (0, [.ref st, .ref rt, .ref xa, .ref oa, .int (nI tn), .int (nI on)])), (rt, .inr (2, [.ref st, .int g, .int fr, .int to, .int (nI nx)])), (st, .inr (1, [.ref ba, .ref ta, .ref sa, .int (nI o), .int (nI (c - o)), .int (nI (B o % R)), .int (nI (B c - B o)), .int (nI dr), .int (nI de)])), (ba, .inl (cB, R, .inl bf)), (ta, .inl (cI, R, .inl tf)), (sa, .inl (cS, R, .inl sf)), (xa, .inl (cX, 512, .inl xf)), (oa, .inl (cO, 512, .inl uf)), (mo, .inr (3, [.int (nI 0), .int (nI R), .ref ma, .int (nI tn), .ref mu, .int (nI on), .int (nI (c - o)), .ref mt, .ref mz, .ref mb, .int (nI (B c - B o)), .int (nI c), .int (nI dr), .int (nI de), .int g, .int fr, .int to, .int (nI nx)])), (ma, .inl (kX, 512, .inl xf)), (mu, .inl (kO, 512, .inl vf)), (mt, .inl (kT, 16384, .inl yf)), (mz, .inl (kZ, 16384, .inl zf)), (mb, .inl (kB, 16384, .inl wf))] := hD.sub [0, 1, 2, 3, 4, 5, 6, 7, 8, 9, 10, 11, 12, 13] (by decide) rfl
  refine lv_icmp_eq (tgt := 346) hx hb d_law_252 (by decide) (fun c_252 => ?_) (fun c_252 => ?_)
  · refine nv_iinc3 (lv' := [(3, .int (nI ((1 + 3 * r) + 3))), (0, .ref b), (1, .ref x), (2, .ref mo)]) hx hb d_law_346 hl (k := 3) rfl (by decide) rfl (fun ls hl => ?_)
    refine lv_goto (tgt := 28) hx hb d_law_349 (by decide) ?_
    exact ih tn on g fr to nx o c T B S dr de bf tf sf xf uf vf yf zf wf _ _ _ ⟨q1, q2, q3, by omega, by omega, q6, q7, hst, hmd, q8, hP, hD, hS, by rw [show 1 + 3 * (r + 1) = 1 + 3 * r + 3 by omega]; exact lv_sub hl [1, 2, 3, 0] rfl⟩
  · exact absurd (by rw [er_240, hw2]; exact outF_cg q8 (by omega) _) c_252
set_option maxHeartbeats 4000000 in
set_option maxRecDepth 100000 in
theorem lc_count {p : Program} {l : Launch} {e : Env} {s : State} {m : MethodId} {below : List Frame} {meth : Method} {cd : Code} {D : va_G} {b L : Nat} {xs : Nat → Int32} (hL : L ≤ 1537) (C0 : lw_At p s m meth cd b L xs) (x rt st ba ta sa xa oa : Nat) (cB cI cS cX cO : ClassId) (mo ma mu mt mz mb : Nat) (kX kO kT kZ kB : ClassId) (R : Nat) (hK : va_K D classes (yL cB cI cS cX cO kX kO kT kZ kB) s) (r : Nat) (hrL : 1 + 3 * r + 3 ≤ L) (ih : ∀ (tn on : Nat) (g fr to : Int32) (nx o c : Nat) (T : Nat → Int32) (B : Nat → Nat) (S : Nat → Int32) (dr de : Nat) (bf tf sf xf uf vf yf zf wf : Nat → Int32) (H : Heap) (locs : List Loc) (ls : Array Slot), LInv D s b x rt st ba ta sa xa oa cB cI cS cX cO mo ma mu mt mz mb kX kO kT kZ kB R (r + 1) tn on g fr to nx o c T B S dr de bf tf sf xf uf vf yf zf wf H locs ls → W p l e room_1 s m #[Value.ref b] below meth cd H locs 600000 7302250 (lw_Z below #[Value.ref b] s) (F0 m 28 ls [])) (tn on : Nat) (g fr to : Int32) (nx o c : Nat) (T : Nat → Int32) (B : Nat → Nat) (S : Nat → Int32) (dr de : Nat) (bf tf sf xf uf vf yf zf wf : Nat → Int32) (H : Heap) (locs : List Loc) (ls : Array Slot) (hI : LInv D s b x rt st ba ta sa xa oa cB cI cS cX cO mo ma mu mt mz mb kX kO kT kZ kB R r tn on g fr to nx o c T B S dr de bf tf sf xf uf vf yf zf wf H locs ls) : W p l e room_1 s m #[Value.ref b] below meth cd H locs 600000 7302250 (lw_Z below #[Value.ref b] s) (F0 m 257 ls []) := by
  obtain ⟨hx, hb, hr, hml, hown, hts, hX, hbl, hlocks, hgv⟩ := C0
  have hT := lw_g_of hts
  obtain ⟨q1, q2, q3, q4, q5, q6, q7, hst, hmd, q8, hP, hD, hS, hl⟩ := hI
  have hA : ∀ q : Nat, s.heap.size ≤ q → (fun q : Nat => s.heap.size ≤ q) q := fun _ h => h
  have hbA : ¬ (fun q : Nat => s.heap.size ≤ q) b := Nat.not_le.mpr hbl
  have hP : va_P D classes [(x, .inr (0, [.ref st, .ref rt, .ref xa, .ref oa, .int (nI tn), .int (nI on)])), (rt, .inr (2, [.ref st, .int g, .int fr, .int to, .int (nI nx)])), (st, .inr (1, [.ref ba, .ref ta, .ref sa, .int (nI o), .int (nI (c - o)), .int (nI (B o % R)), .int (nI (B c - B o)), .int (nI dr), .int (nI de)])), (ba, .inl (cB, R, .inl bf)), (ta, .inl (cI, R, .inl tf)), (sa, .inl (cS, R, .inl sf)), (xa, .inl (cX, 512, .inl xf)), (oa, .inl (cO, 512, .inl uf)), (mo, .inr (3, [.int (nI 0), .int (nI R), .ref ma, .int (nI tn), .ref mu, .int (nI on), .int (nI (c - o)), .ref mt, .ref mz, .ref mb, .int (nI (B c - B o)), .int (nI c), .int (nI dr), .int (nI de), .int g, .int fr, .int to, .int (nI nx)])), (ma, .inl (kX, 512, .inl xf)), (mu, .inl (kO, 512, .inl vf)), (mt, .inl (kT, 16384, .inl yf)), (mz, .inl (kZ, 16384, .inl zf)), (mb, .inl (kB, 16384, .inl wf))] H := hP
  have hD : va_D (fun q : Nat => s.heap.size ≤ q) [(x, .inr (0, [.ref st, .ref rt, .ref xa, .ref oa, .int (nI tn), .int (nI on)])), (rt, .inr (2, [.ref st, .int g, .int fr, .int to, .int (nI nx)])), (st, .inr (1, [.ref ba, .ref ta, .ref sa, .int (nI o), .int (nI (c - o)), .int (nI (B o % R)), .int (nI (B c - B o)), .int (nI dr), .int (nI de)])), (ba, .inl (cB, R, .inl bf)), (ta, .inl (cI, R, .inl tf)), (sa, .inl (cS, R, .inl sf)), (xa, .inl (cX, 512, .inl xf)), (oa, .inl (cO, 512, .inl uf)), (mo, .inr (3, [.int (nI 0), .int (nI R), .ref ma, .int (nI tn), .ref mu, .int (nI on), .int (nI (c - o)), .ref mt, .ref mz, .ref mb, .int (nI (B c - B o)), .int (nI c), .int (nI dr), .int (nI de), .int g, .int fr, .int to, .int (nI nx)])), (ma, .inl (kX, 512, .inl xf)), (mu, .inl (kO, 512, .inl vf)), (mt, .inl (kT, 16384, .inl yf)), (mz, .inl (kZ, 16384, .inl zf)), (mb, .inl (kB, 16384, .inl wf))] := hD
  have hK : va_K D classes [(cB, .byte), (cI, .int), (cS, .short), (cX, .byte), (cO, .byte), (kX, .byte), (kO, .byte), (kT, .int), (kZ, .int), (kB, .byte)] s := hK
  refine lv_aload_n hx hb d_law_257 rfl (lv_at hl 1 rfl) ?_
  refine lv_aload_n hx hb d_law_258 rfl (lv_at hl 0 rfl) ?_
  refine lv_iload_n hx hb d_law_259 rfl (lv_at hl 3 rfl) ?_
  refine lv_iconst (v := nI 1) hx hb d_law_260 (by decide +kernel) ?_
  refine nv_iadd hx hb d_law_261 ?_
  refine va_sld hx hb hX hbl hbA hS (vp_in_nI (by omega) (by omega)) d_law_262 ?_
  refine nv_asX (y := xs ((1 + 3 * r) + 1)) (by rw [nI_clamp (by omega)]) ?_
  refine ro_calli (ci := 0) (As := [.int (xs ((1 + 3 * r) + 1))]) (rest := []) hx hb hml hT hown (c_PS_count l D x rt st ba ta sa xa oa cB cI cS cX cO tn on g fr to nx R o c T B S dr de bf tf sf xf uf (xs ((1 + 3 * r) + 1)) hst.1.2.2.1) (cs_law_52 hT ⟨(Nat.le_of_ble_eq_true rfl), (Nat.le_of_ble_eq_true rfl)⟩) (hK.sub [0, 1, 2, 3, 4] rfl) (hP.sub [0, 1, 2, 3, 4, 5, 6, 7] rfl) 0 rfl rfl rfl hl.1 rfl (Nat.le_of_ble_eq_true rfl) d_law_263 ⟨(Nat.le_of_ble_eq_true rfl), (Nat.le_of_ble_eq_true rfl)⟩ (fun r_263 er_263 => ?_)
  refine lv_aload_n hx hb d_law_266 rfl (lv_at hl 2 rfl) ?_
  refine lv_aload_n hx hb d_law_267 rfl (lv_at hl 0 rfl) ?_
  refine lv_iload_n hx hb d_law_268 rfl (lv_at hl 3 rfl) ?_
  refine lv_iconst (v := nI 1) hx hb d_law_269 (by decide +kernel) ?_
  refine nv_iadd hx hb d_law_270 ?_
  refine va_sld hx hb hX hbl hbA hS (vp_in_nI (by omega) (by omega)) d_law_271 ?_
  refine nv_asX (y := xs ((1 + 3 * r) + 1)) (by rw [nI_clamp (by omega)]) ?_
  refine rw_calli (ci := 3) (As := [.int (xs ((1 + 3 * r) + 1))]) (rest := [.int r_263]) (wr := [(x, .inr (0, [.ref st, .ref rt, .ref xa, .ref oa, .int (nI tn), .int (nI on)])), (rt, .inr (2, [.ref st, .int g, .int fr, .int to, .int (nI nx)])), (st, .inr (1, [.ref ba, .ref ta, .ref sa, .int (nI o), .int (nI (c - o)), .int (nI (B o % R)), .int (nI (B c - B o)), .int (nI dr), .int (nI de)])), (ba, .inl (cB, R, .inl bf)), (ta, .inl (cI, R, .inl tf)), (sa, .inl (cS, R, .inl sf)), (xa, .inl (cX, 512, .inl xf)), (oa, .inl (cO, 512, .inl uf))]) hx hb hml hT hown (c_Md_count l D mo ma mu mt mz mb kX kO kT kZ kB R tn on g fr to nx o c T B S dr de xf vf yf zf wf H.size (xs ((1 + 3 * r) + 1))) (cs_law_55 hT ⟨(Nat.le_of_ble_eq_true rfl), (Nat.le_of_ble_eq_true rfl)⟩) (hK.sub [5, 6, 7, 8, 9] rfl) hP hD hS hA [8, 9, 10, 11, 12, 13] [0, 1, 2, 3, 4, 5, 6, 7] rfl rfl (by decide) (by decide) (by decide) 0 rfl rfl rfl hl.1 rfl (Nat.le_of_ble_eq_true rfl) d_law_272 ⟨(Nat.le_of_ble_eq_true rfl), (Nat.le_of_ble_eq_true rfl)⟩ (fun r_272 u H locs hw hKn hP hD hS => ?_)
  have hw2 := hw
  have hP : va_P D classes [(x, .inr (0, [.ref st, .ref rt, .ref xa, .ref oa, .int (nI tn), .int (nI on)])), (rt, .inr (2, [.ref st, .int g, .int fr, .int to, .int (nI nx)])), (st, .inr (1, [.ref ba, .ref ta, .ref sa, .int (nI o), .int (nI (c - o)), .int (nI (B o % R)), .int (nI (B c - B o)), .int (nI dr), .int (nI de)])), (ba, .inl (cB, R, .inl bf)), (ta, .inl (cI, R, .inl tf)), (sa, .inl (cS, R, .inl sf)), (xa, .inl (cX, 512, .inl xf)), (oa, .inl (cO, 512, .inl uf)), (mo, .inr (3, [.int (nI 0), .int (nI R), .ref ma, .int (nI tn), .ref mu, .int (nI on), .int (nI (c - o)), .ref mt, .ref mz, .ref mb, .int (nI (B c - B o)), .int (nI c), .int (nI dr), .int (nI de), .int g, .int fr, .int to, .int (nI nx)])), (ma, .inl (kX, 512, .inl xf)), (mu, .inl (kO, 512, .inl vf)), (mt, .inl (kT, 16384, .inl yf)), (mz, .inl (kZ, 16384, .inl zf)), (mb, .inl (kB, 16384, .inl wf))] H := hP.sub [0, 1, 2, 3, 4, 5, 6, 7, 8, 9, 10, 11, 12, 13] rfl
  have hD : va_D (fun q : Nat => s.heap.size ≤ q) [(x, .inr (0, [.ref st, .ref rt, .ref xa, .ref oa, .int (nI tn), .int (nI on)])), (rt, .inr (2, [.ref st, .int g, .int fr, .int to, .int (nI nx)])), (st, .inr (1, [.ref ba, .ref ta, .ref sa, .int (nI o), .int (nI (c - o)), .int (nI (B o % R)), .int (nI (B c - B o)), .int (nI dr), .int (nI de)])), (ba, .inl (cB, R, .inl bf)), (ta, .inl (cI, R, .inl tf)), (sa, .inl (cS, R, .inl sf)), (xa, .inl (cX, 512, .inl xf)), (oa, .inl (cO, 512, .inl uf)), (mo, .inr (3, [.int (nI 0), .int (nI R), .ref ma, .int (nI tn), .ref mu, .int (nI on), .int (nI (c - o)), .ref mt, .ref mz, .ref mb, .int (nI (B c - B o)), .int (nI c), .int (nI dr), .int (nI de), .int g, .int fr, .int to, .int (nI nx)])), (ma, .inl (kX, 512, .inl xf)), (mu, .inl (kO, 512, .inl vf)), (mt, .inl (kT, 16384, .inl yf)), (mz, .inl (kZ, 16384, .inl zf)), (mb, .inl (kB, 16384, .inl wf))] := hD.sub [0, 1, 2, 3, 4, 5, 6, 7, 8, 9, 10, 11, 12, 13] (by decide) rfl
  refine lv_icmp_eq (tgt := 346) hx hb d_law_275 (by decide) (fun c_275 => ?_) (fun c_275 => ?_)
  · refine nv_iinc3 (lv' := [(3, .int (nI ((1 + 3 * r) + 3))), (0, .ref b), (1, .ref x), (2, .ref mo)]) hx hb d_law_346 hl (k := 3) rfl (by decide) rfl (fun ls hl => ?_)
    refine lv_goto (tgt := 28) hx hb d_law_349 (by decide) ?_
    exact ih tn on g fr to nx o c T B S dr de bf tf sf xf uf vf yf zf wf _ _ _ ⟨q1, q2, q3, by omega, by omega, q6, q7, hst, hmd, q8, hP, hD, hS, by rw [show 1 + 3 * (r + 1) = 1 + 3 * r + 3 by omega]; exact lv_sub hl [1, 2, 3, 0] rfl⟩
  · exact absurd (by rw [er_263, hw2]) c_275
set_option maxHeartbeats 4000000 in
set_option maxRecDepth 100000 in
theorem lc_about {p : Program} {l : Launch} {e : Env} {s : State} {m : MethodId} {below : List Frame} {meth : Method} {cd : Code} {D : va_G} {b L : Nat} {xs : Nat → Int32} (hL : L ≤ 1537) (C0 : lw_At p s m meth cd b L xs) (x rt st ba ta sa xa oa : Nat) (cB cI cS cX cO : ClassId) (mo ma mu mt mz mb : Nat) (kX kO kT kZ kB : ClassId) (R : Nat) (hK : va_K D classes (yL cB cI cS cX cO kX kO kT kZ kB) s) (r : Nat) (hrL : 1 + 3 * r + 3 ≤ L) (ih : ∀ (tn on : Nat) (g fr to : Int32) (nx o c : Nat) (T : Nat → Int32) (B : Nat → Nat) (S : Nat → Int32) (dr de : Nat) (bf tf sf xf uf vf yf zf wf : Nat → Int32) (H : Heap) (locs : List Loc) (ls : Array Slot), LInv D s b x rt st ba ta sa xa oa cB cI cS cX cO mo ma mu mt mz mb kX kO kT kZ kB R (r + 1) tn on g fr to nx o c T B S dr de bf tf sf xf uf vf yf zf wf H locs ls → W p l e room_1 s m #[Value.ref b] below meth cd H locs 600000 7302250 (lw_Z below #[Value.ref b] s) (F0 m 28 ls [])) (tn on : Nat) (g fr to : Int32) (nx o c : Nat) (T : Nat → Int32) (B : Nat → Nat) (S : Nat → Int32) (dr de : Nat) (bf tf sf xf uf vf yf zf wf : Nat → Int32) (H : Heap) (locs : List Loc) (ls : Array Slot) (hI : LInv D s b x rt st ba ta sa xa oa cB cI cS cX cO mo ma mu mt mz mb kX kO kT kZ kB R r tn on g fr to nx o c T B S dr de bf tf sf xf uf vf yf zf wf H locs ls) : W p l e room_1 s m #[Value.ref b] below meth cd H locs 600000 7302250 (lw_Z below #[Value.ref b] s) (F0 m 280 ls []) := by
  obtain ⟨hx, hb, hr, hml, hown, hts, hX, hbl, hlocks, hgv⟩ := C0
  have hT := lw_g_of hts
  obtain ⟨q1, q2, q3, q4, q5, q6, q7, hst, hmd, q8, hP, hD, hS, hl⟩ := hI
  have hA : ∀ q : Nat, s.heap.size ≤ q → (fun q : Nat => s.heap.size ≤ q) q := fun _ h => h
  have hbA : ¬ (fun q : Nat => s.heap.size ≤ q) b := Nat.not_le.mpr hbl
  have hP : va_P D classes [(x, .inr (0, [.ref st, .ref rt, .ref xa, .ref oa, .int (nI tn), .int (nI on)])), (rt, .inr (2, [.ref st, .int g, .int fr, .int to, .int (nI nx)])), (st, .inr (1, [.ref ba, .ref ta, .ref sa, .int (nI o), .int (nI (c - o)), .int (nI (B o % R)), .int (nI (B c - B o)), .int (nI dr), .int (nI de)])), (ba, .inl (cB, R, .inl bf)), (ta, .inl (cI, R, .inl tf)), (sa, .inl (cS, R, .inl sf)), (xa, .inl (cX, 512, .inl xf)), (oa, .inl (cO, 512, .inl uf)), (mo, .inr (3, [.int (nI 0), .int (nI R), .ref ma, .int (nI tn), .ref mu, .int (nI on), .int (nI (c - o)), .ref mt, .ref mz, .ref mb, .int (nI (B c - B o)), .int (nI c), .int (nI dr), .int (nI de), .int g, .int fr, .int to, .int (nI nx)])), (ma, .inl (kX, 512, .inl xf)), (mu, .inl (kO, 512, .inl vf)), (mt, .inl (kT, 16384, .inl yf)), (mz, .inl (kZ, 16384, .inl zf)), (mb, .inl (kB, 16384, .inl wf))] H := hP
  have hD : va_D (fun q : Nat => s.heap.size ≤ q) [(x, .inr (0, [.ref st, .ref rt, .ref xa, .ref oa, .int (nI tn), .int (nI on)])), (rt, .inr (2, [.ref st, .int g, .int fr, .int to, .int (nI nx)])), (st, .inr (1, [.ref ba, .ref ta, .ref sa, .int (nI o), .int (nI (c - o)), .int (nI (B o % R)), .int (nI (B c - B o)), .int (nI dr), .int (nI de)])), (ba, .inl (cB, R, .inl bf)), (ta, .inl (cI, R, .inl tf)), (sa, .inl (cS, R, .inl sf)), (xa, .inl (cX, 512, .inl xf)), (oa, .inl (cO, 512, .inl uf)), (mo, .inr (3, [.int (nI 0), .int (nI R), .ref ma, .int (nI tn), .ref mu, .int (nI on), .int (nI (c - o)), .ref mt, .ref mz, .ref mb, .int (nI (B c - B o)), .int (nI c), .int (nI dr), .int (nI de), .int g, .int fr, .int to, .int (nI nx)])), (ma, .inl (kX, 512, .inl xf)), (mu, .inl (kO, 512, .inl vf)), (mt, .inl (kT, 16384, .inl yf)), (mz, .inl (kZ, 16384, .inl zf)), (mb, .inl (kB, 16384, .inl wf))] := hD
  have hK : va_K D classes [(cB, .byte), (cI, .int), (cS, .short), (cX, .byte), (cO, .byte), (kX, .byte), (kO, .byte), (kT, .int), (kZ, .int), (kB, .byte)] s := hK
  refine lv_aload_n hx hb d_law_280 rfl (lv_at hl 1 rfl) ?_
  refine lv_aload_n hx hb d_law_281 rfl (lv_at hl 0 rfl) ?_
  refine lv_iload_n hx hb d_law_282 rfl (lv_at hl 3 rfl) ?_
  refine lv_iconst (v := nI 1) hx hb d_law_283 (by decide +kernel) ?_
  refine nv_iadd hx hb d_law_284 ?_
  refine va_sld hx hb hX hbl hbA hS (vp_in_nI (by omega) (by omega)) d_law_285 ?_
  refine nv_asX (y := xs ((1 + 3 * r) + 1)) (by rw [nI_clamp (by omega)]) ?_
  refine lv_aload_n hx hb d_law_286 rfl (lv_at hl 0 rfl) ?_
  refine lv_iload_n hx hb d_law_287 rfl (lv_at hl 3 rfl) ?_
  refine lv_iconst (v := nI 2) hx hb d_law_288 (by decide +kernel) ?_
  refine nv_iadd hx hb d_law_289 ?_
  refine va_sld hx hb hX hbl hbA hS (vp_in_nI (by omega) (by omega)) d_law_290 ?_
  refine nv_asX (y := xs ((1 + 3 * r) + 2)) (by rw [nI_clamp (by omega)]) ?_
  refine ro_calli (ci := 0) (As := [.int (xs ((1 + 3 * r) + 1)), .int (xs ((1 + 3 * r) + 2))]) (rest := []) hx hb hml hT hown (c_PS_about l D x rt st ba ta sa xa oa cB cI cS cX cO tn on g fr to nx R o c T B S dr de bf tf sf xf uf (xs ((1 + 3 * r) + 1)) (xs ((1 + 3 * r) + 2)) hst) (cs_law_56 hT ⟨(Nat.le_of_ble_eq_true rfl), (Nat.le_of_ble_eq_true rfl)⟩) (hK.sub [0, 1, 2, 3, 4] rfl) (hP.sub [0, 1, 2, 3, 4, 5, 6, 7] rfl) 0 rfl rfl rfl hl.1 rfl (Nat.le_of_ble_eq_true rfl) d_law_291 ⟨(Nat.le_of_ble_eq_true rfl), (Nat.le_of_ble_eq_true rfl)⟩ (fun r_291 er_291 => ?_)
  refine lv_aload_n hx hb d_law_294 rfl (lv_at hl 2 rfl) ?_
  refine lv_aload_n hx hb d_law_295 rfl (lv_at hl 0 rfl) ?_
  refine lv_iload_n hx hb d_law_296 rfl (lv_at hl 3 rfl) ?_
  refine lv_iconst (v := nI 1) hx hb d_law_297 (by decide +kernel) ?_
  refine nv_iadd hx hb d_law_298 ?_
  refine va_sld hx hb hX hbl hbA hS (vp_in_nI (by omega) (by omega)) d_law_299 ?_
  refine nv_asX (y := xs ((1 + 3 * r) + 1)) (by rw [nI_clamp (by omega)]) ?_
  refine lv_aload_n hx hb d_law_300 rfl (lv_at hl 0 rfl) ?_
  refine lv_iload_n hx hb d_law_301 rfl (lv_at hl 3 rfl) ?_
  refine lv_iconst (v := nI 2) hx hb d_law_302 (by decide +kernel) ?_
  refine nv_iadd hx hb d_law_303 ?_
  refine va_sld hx hb hX hbl hbA hS (vp_in_nI (by omega) (by omega)) d_law_304 ?_
  refine nv_asX (y := xs ((1 + 3 * r) + 2)) (by rw [nI_clamp (by omega)]) ?_
  refine rw_calli (ci := 3) (As := [.int (xs ((1 + 3 * r) + 1)), .int (xs ((1 + 3 * r) + 2))]) (rest := [.int r_291]) (wr := [(x, .inr (0, [.ref st, .ref rt, .ref xa, .ref oa, .int (nI tn), .int (nI on)])), (rt, .inr (2, [.ref st, .int g, .int fr, .int to, .int (nI nx)])), (st, .inr (1, [.ref ba, .ref ta, .ref sa, .int (nI o), .int (nI (c - o)), .int (nI (B o % R)), .int (nI (B c - B o)), .int (nI dr), .int (nI de)])), (ba, .inl (cB, R, .inl bf)), (ta, .inl (cI, R, .inl tf)), (sa, .inl (cS, R, .inl sf)), (xa, .inl (cX, 512, .inl xf)), (oa, .inl (cO, 512, .inl uf))]) hx hb hml hT hown (c_Md_about l D mo ma mu mt mz mb kX kO kT kZ kB R tn on g fr to nx o c T B S dr de xf vf yf zf wf H.size (xs ((1 + 3 * r) + 1)) (xs ((1 + 3 * r) + 2)) hmd) (cs_law_60 hT ⟨(Nat.le_of_ble_eq_true rfl), (Nat.le_of_ble_eq_true rfl)⟩) (hK.sub [5, 6, 7, 8, 9] rfl) hP hD hS hA [8, 9, 10, 11, 12, 13] [0, 1, 2, 3, 4, 5, 6, 7] rfl rfl (by decide) (by decide) (by decide) 0 rfl rfl rfl hl.1 rfl (Nat.le_of_ble_eq_true rfl) d_law_305 ⟨(Nat.le_of_ble_eq_true rfl), (Nat.le_of_ble_eq_true rfl)⟩ (fun r_305 u H locs hw hKn hP hD hS => ?_)
  have hw2 := hw
  have hP : va_P D classes [(x, .inr (0, [.ref st, .ref rt, .ref xa, .ref oa, .int (nI tn), .int (nI on)])), (rt, .inr (2, [.ref st, .int g, .int fr, .int to, .int (nI nx)])), (st, .inr (1, [.ref ba, .ref ta, .ref sa, .int (nI o), .int (nI (c - o)), .int (nI (B o % R)), .int (nI (B c - B o)), .int (nI dr), .int (nI de)])), (ba, .inl (cB, R, .inl bf)), (ta, .inl (cI, R, .inl tf)), (sa, .inl (cS, R, .inl sf)), (xa, .inl (cX, 512, .inl xf)), (oa, .inl (cO, 512, .inl uf)), (mo, .inr (3, [.int (nI 0), .int (nI R), .ref ma, .int (nI tn), .ref mu, .int (nI on), .int (nI (c - o)), .ref mt, .ref mz, .ref mb, .int (nI (B c - B o)), .int (nI c), .int (nI dr), .int (nI de), .int g, .int fr, .int to, .int (nI nx)])), (ma, .inl (kX, 512, .inl xf)), (mu, .inl (kO, 512, .inl vf)), (mt, .inl (kT, 16384, .inl yf)), (mz, .inl (kZ, 16384, .inl zf)), (mb, .inl (kB, 16384, .inl wf))] H := hP.sub [0, 1, 2, 3, 4, 5, 6, 7, 8, 9, 10, 11, 12, 13] rfl
  have hD : va_D (fun q : Nat => s.heap.size ≤ q) [(x, .inr (0, [.ref st, .ref rt, .ref xa, .ref oa, .int (nI tn), .int (nI on)])), (rt, .inr (2, [.ref st, .int g, .int fr, .int to, .int (nI nx)])), (st, .inr (1, [.ref ba, .ref ta, .ref sa, .int (nI o), .int (nI (c - o)), .int (nI (B o % R)), .int (nI (B c - B o)), .int (nI dr), .int (nI de)])), (ba, .inl (cB, R, .inl bf)), (ta, .inl (cI, R, .inl tf)), (sa, .inl (cS, R, .inl sf)), (xa, .inl (cX, 512, .inl xf)), (oa, .inl (cO, 512, .inl uf)), (mo, .inr (3, [.int (nI 0), .int (nI R), .ref ma, .int (nI tn), .ref mu, .int (nI on), .int (nI (c - o)), .ref mt, .ref mz, .ref mb, .int (nI (B c - B o)), .int (nI c), .int (nI dr), .int (nI de), .int g, .int fr, .int to, .int (nI nx)])), (ma, .inl (kX, 512, .inl xf)), (mu, .inl (kO, 512, .inl vf)), (mt, .inl (kT, 16384, .inl yf)), (mz, .inl (kZ, 16384, .inl zf)), (mb, .inl (kB, 16384, .inl wf))] := hD.sub [0, 1, 2, 3, 4, 5, 6, 7, 8, 9, 10, 11, 12, 13] (by decide) rfl
  refine lv_icmp_eq (tgt := 346) hx hb d_law_308 (by decide) (fun c_308 => ?_) (fun c_308 => ?_)
  · refine nv_iinc3 (lv' := [(3, .int (nI ((1 + 3 * r) + 3))), (0, .ref b), (1, .ref x), (2, .ref mo)]) hx hb d_law_346 hl (k := 3) rfl (by decide) rfl (fun ls hl => ?_)
    refine lv_goto (tgt := 28) hx hb d_law_349 (by decide) ?_
    exact ih tn on g fr to nx o c T B S dr de bf tf sf xf uf vf yf zf wf _ _ _ ⟨q1, q2, q3, by omega, by omega, q6, q7, hst, hmd, q8, hP, hD, hS, by rw [show 1 + 3 * (r + 1) = 1 + 3 * r + 3 by omega]; exact lv_sub hl [1, 2, 3, 0] rfl⟩
  · exact absurd (by rw [er_291, hw2]) c_308
set_option maxHeartbeats 4000000 in
set_option maxRecDepth 100000 in
theorem lc_byteAt {p : Program} {l : Launch} {e : Env} {s : State} {m : MethodId} {below : List Frame} {meth : Method} {cd : Code} {D : va_G} {b L : Nat} {xs : Nat → Int32} (hL : L ≤ 1537) (C0 : lw_At p s m meth cd b L xs) (x rt st ba ta sa xa oa : Nat) (cB cI cS cX cO : ClassId) (mo ma mu mt mz mb : Nat) (kX kO kT kZ kB : ClassId) (R : Nat) (hK : va_K D classes (yL cB cI cS cX cO kX kO kT kZ kB) s) (r : Nat) (hrL : 1 + 3 * r + 3 ≤ L) (ih : ∀ (tn on : Nat) (g fr to : Int32) (nx o c : Nat) (T : Nat → Int32) (B : Nat → Nat) (S : Nat → Int32) (dr de : Nat) (bf tf sf xf uf vf yf zf wf : Nat → Int32) (H : Heap) (locs : List Loc) (ls : Array Slot), LInv D s b x rt st ba ta sa xa oa cB cI cS cX cO mo ma mu mt mz mb kX kO kT kZ kB R (r + 1) tn on g fr to nx o c T B S dr de bf tf sf xf uf vf yf zf wf H locs ls → W p l e room_1 s m #[Value.ref b] below meth cd H locs 600000 7302250 (lw_Z below #[Value.ref b] s) (F0 m 28 ls [])) (tn on : Nat) (g fr to : Int32) (nx o c : Nat) (T : Nat → Int32) (B : Nat → Nat) (S : Nat → Int32) (dr de : Nat) (bf tf sf xf uf vf yf zf wf : Nat → Int32) (H : Heap) (locs : List Loc) (ls : Array Slot) (hI : LInv D s b x rt st ba ta sa xa oa cB cI cS cX cO mo ma mu mt mz mb kX kO kT kZ kB R r tn on g fr to nx o c T B S dr de bf tf sf xf uf vf yf zf wf H locs ls) : W p l e room_1 s m #[Value.ref b] below meth cd H locs 600000 7302250 (lw_Z below #[Value.ref b] s) (F0 m 313 ls []) := by
  obtain ⟨hx, hb, hr, hml, hown, hts, hX, hbl, hlocks, hgv⟩ := C0
  have hT := lw_g_of hts
  obtain ⟨q1, q2, q3, q4, q5, q6, q7, hst, hmd, q8, hP, hD, hS, hl⟩ := hI
  have hA : ∀ q : Nat, s.heap.size ≤ q → (fun q : Nat => s.heap.size ≤ q) q := fun _ h => h
  have hbA : ¬ (fun q : Nat => s.heap.size ≤ q) b := Nat.not_le.mpr hbl
  have hP : va_P D classes [(x, .inr (0, [.ref st, .ref rt, .ref xa, .ref oa, .int (nI tn), .int (nI on)])), (rt, .inr (2, [.ref st, .int g, .int fr, .int to, .int (nI nx)])), (st, .inr (1, [.ref ba, .ref ta, .ref sa, .int (nI o), .int (nI (c - o)), .int (nI (B o % R)), .int (nI (B c - B o)), .int (nI dr), .int (nI de)])), (ba, .inl (cB, R, .inl bf)), (ta, .inl (cI, R, .inl tf)), (sa, .inl (cS, R, .inl sf)), (xa, .inl (cX, 512, .inl xf)), (oa, .inl (cO, 512, .inl uf)), (mo, .inr (3, [.int (nI 0), .int (nI R), .ref ma, .int (nI tn), .ref mu, .int (nI on), .int (nI (c - o)), .ref mt, .ref mz, .ref mb, .int (nI (B c - B o)), .int (nI c), .int (nI dr), .int (nI de), .int g, .int fr, .int to, .int (nI nx)])), (ma, .inl (kX, 512, .inl xf)), (mu, .inl (kO, 512, .inl vf)), (mt, .inl (kT, 16384, .inl yf)), (mz, .inl (kZ, 16384, .inl zf)), (mb, .inl (kB, 16384, .inl wf))] H := hP
  have hD : va_D (fun q : Nat => s.heap.size ≤ q) [(x, .inr (0, [.ref st, .ref rt, .ref xa, .ref oa, .int (nI tn), .int (nI on)])), (rt, .inr (2, [.ref st, .int g, .int fr, .int to, .int (nI nx)])), (st, .inr (1, [.ref ba, .ref ta, .ref sa, .int (nI o), .int (nI (c - o)), .int (nI (B o % R)), .int (nI (B c - B o)), .int (nI dr), .int (nI de)])), (ba, .inl (cB, R, .inl bf)), (ta, .inl (cI, R, .inl tf)), (sa, .inl (cS, R, .inl sf)), (xa, .inl (cX, 512, .inl xf)), (oa, .inl (cO, 512, .inl uf)), (mo, .inr (3, [.int (nI 0), .int (nI R), .ref ma, .int (nI tn), .ref mu, .int (nI on), .int (nI (c - o)), .ref mt, .ref mz, .ref mb, .int (nI (B c - B o)), .int (nI c), .int (nI dr), .int (nI de), .int g, .int fr, .int to, .int (nI nx)])), (ma, .inl (kX, 512, .inl xf)), (mu, .inl (kO, 512, .inl vf)), (mt, .inl (kT, 16384, .inl yf)), (mz, .inl (kZ, 16384, .inl zf)), (mb, .inl (kB, 16384, .inl wf))] := hD
  have hK : va_K D classes [(cB, .byte), (cI, .int), (cS, .short), (cX, .byte), (cO, .byte), (kX, .byte), (kO, .byte), (kT, .int), (kZ, .int), (kB, .byte)] s := hK
  refine lv_aload_n hx hb d_law_313 rfl (lv_at hl 1 rfl) ?_
  refine lv_aload_n hx hb d_law_314 rfl (lv_at hl 0 rfl) ?_
  refine lv_iload_n hx hb d_law_315 rfl (lv_at hl 3 rfl) ?_
  refine lv_iconst (v := nI 1) hx hb d_law_316 (by decide +kernel) ?_
  refine nv_iadd hx hb d_law_317 ?_
  refine va_sld hx hb hX hbl hbA hS (vp_in_nI (by omega) (by omega)) d_law_318 ?_
  refine nv_asX (y := xs ((1 + 3 * r) + 1)) (by rw [nI_clamp (by omega)]) ?_
  refine lv_aload_n hx hb d_law_319 rfl (lv_at hl 0 rfl) ?_
  refine lv_iload_n hx hb d_law_320 rfl (lv_at hl 3 rfl) ?_
  refine lv_iconst (v := nI 2) hx hb d_law_321 (by decide +kernel) ?_
  refine nv_iadd hx hb d_law_322 ?_
  refine va_sld hx hb hX hbl hbA hS (vp_in_nI (by omega) (by omega)) d_law_323 ?_
  refine nv_asX (y := xs ((1 + 3 * r) + 2)) (by rw [nI_clamp (by omega)]) ?_
  refine ro_calli (ci := 0) (As := [.int (xs ((1 + 3 * r) + 1)), .int (xs ((1 + 3 * r) + 2))]) (rest := []) hx hb hml hT hown (c_PS_byteAt l D x rt st ba ta sa xa oa cB cI cS cX cO tn on g fr to nx R o c T B S dr de bf tf sf xf uf (xs ((1 + 3 * r) + 1)) (xs ((1 + 3 * r) + 2)) hst) (cs_law_61 hT ⟨(Nat.le_of_ble_eq_true rfl), (Nat.le_of_ble_eq_true rfl)⟩) (hK.sub [0, 1, 2, 3, 4] rfl) (hP.sub [0, 1, 2, 3, 4, 5, 6, 7] rfl) 0 rfl rfl rfl hl.1 rfl (Nat.le_of_ble_eq_true rfl) d_law_324 ⟨(Nat.le_of_ble_eq_true rfl), (Nat.le_of_ble_eq_true rfl)⟩ (fun r_324 er_324 => ?_)
  refine lv_aload_n hx hb d_law_327 rfl (lv_at hl 2 rfl) ?_
  refine lv_aload_n hx hb d_law_328 rfl (lv_at hl 0 rfl) ?_
  refine lv_iload_n hx hb d_law_329 rfl (lv_at hl 3 rfl) ?_
  refine lv_iconst (v := nI 1) hx hb d_law_330 (by decide +kernel) ?_
  refine nv_iadd hx hb d_law_331 ?_
  refine va_sld hx hb hX hbl hbA hS (vp_in_nI (by omega) (by omega)) d_law_332 ?_
  refine nv_asX (y := xs ((1 + 3 * r) + 1)) (by rw [nI_clamp (by omega)]) ?_
  refine lv_aload_n hx hb d_law_333 rfl (lv_at hl 0 rfl) ?_
  refine lv_iload_n hx hb d_law_334 rfl (lv_at hl 3 rfl) ?_
  refine lv_iconst (v := nI 2) hx hb d_law_335 (by decide +kernel) ?_
  refine nv_iadd hx hb d_law_336 ?_
  refine va_sld hx hb hX hbl hbA hS (vp_in_nI (by omega) (by omega)) d_law_337 ?_
  refine nv_asX (y := xs ((1 + 3 * r) + 2)) (by rw [nI_clamp (by omega)]) ?_
  refine rw_calli (ci := 3) (As := [.int (xs ((1 + 3 * r) + 1)), .int (xs ((1 + 3 * r) + 2))]) (rest := [.int r_324]) (wr := [(x, .inr (0, [.ref st, .ref rt, .ref xa, .ref oa, .int (nI tn), .int (nI on)])), (rt, .inr (2, [.ref st, .int g, .int fr, .int to, .int (nI nx)])), (st, .inr (1, [.ref ba, .ref ta, .ref sa, .int (nI o), .int (nI (c - o)), .int (nI (B o % R)), .int (nI (B c - B o)), .int (nI dr), .int (nI de)])), (ba, .inl (cB, R, .inl bf)), (ta, .inl (cI, R, .inl tf)), (sa, .inl (cS, R, .inl sf)), (xa, .inl (cX, 512, .inl xf)), (oa, .inl (cO, 512, .inl uf))]) hx hb hml hT hown (c_Md_byteAt l D mo ma mu mt mz mb kX kO kT kZ kB R tn on g fr to nx o c T B S dr de xf vf yf zf wf H.size (xs ((1 + 3 * r) + 1)) (xs ((1 + 3 * r) + 2)) hmd) (cs_law_64 hT ⟨(Nat.le_of_ble_eq_true rfl), (Nat.le_of_ble_eq_true rfl)⟩) (hK.sub [5, 6, 7, 8, 9] rfl) hP hD hS hA [8, 9, 10, 11, 12, 13] [0, 1, 2, 3, 4, 5, 6, 7] rfl rfl (by decide) (by decide) (by decide) 0 rfl rfl rfl hl.1 rfl (Nat.le_of_ble_eq_true rfl) d_law_338 ⟨(Nat.le_of_ble_eq_true rfl), (Nat.le_of_ble_eq_true rfl)⟩ (fun r_338 u H locs hw hKn hP hD hS => ?_)
  have hw2 := hw
  have hP : va_P D classes [(x, .inr (0, [.ref st, .ref rt, .ref xa, .ref oa, .int (nI tn), .int (nI on)])), (rt, .inr (2, [.ref st, .int g, .int fr, .int to, .int (nI nx)])), (st, .inr (1, [.ref ba, .ref ta, .ref sa, .int (nI o), .int (nI (c - o)), .int (nI (B o % R)), .int (nI (B c - B o)), .int (nI dr), .int (nI de)])), (ba, .inl (cB, R, .inl bf)), (ta, .inl (cI, R, .inl tf)), (sa, .inl (cS, R, .inl sf)), (xa, .inl (cX, 512, .inl xf)), (oa, .inl (cO, 512, .inl uf)), (mo, .inr (3, [.int (nI 0), .int (nI R), .ref ma, .int (nI tn), .ref mu, .int (nI on), .int (nI (c - o)), .ref mt, .ref mz, .ref mb, .int (nI (B c - B o)), .int (nI c), .int (nI dr), .int (nI de), .int g, .int fr, .int to, .int (nI nx)])), (ma, .inl (kX, 512, .inl xf)), (mu, .inl (kO, 512, .inl vf)), (mt, .inl (kT, 16384, .inl yf)), (mz, .inl (kZ, 16384, .inl zf)), (mb, .inl (kB, 16384, .inl wf))] H := hP.sub [0, 1, 2, 3, 4, 5, 6, 7, 8, 9, 10, 11, 12, 13] rfl
  have hD : va_D (fun q : Nat => s.heap.size ≤ q) [(x, .inr (0, [.ref st, .ref rt, .ref xa, .ref oa, .int (nI tn), .int (nI on)])), (rt, .inr (2, [.ref st, .int g, .int fr, .int to, .int (nI nx)])), (st, .inr (1, [.ref ba, .ref ta, .ref sa, .int (nI o), .int (nI (c - o)), .int (nI (B o % R)), .int (nI (B c - B o)), .int (nI dr), .int (nI de)])), (ba, .inl (cB, R, .inl bf)), (ta, .inl (cI, R, .inl tf)), (sa, .inl (cS, R, .inl sf)), (xa, .inl (cX, 512, .inl xf)), (oa, .inl (cO, 512, .inl uf)), (mo, .inr (3, [.int (nI 0), .int (nI R), .ref ma, .int (nI tn), .ref mu, .int (nI on), .int (nI (c - o)), .ref mt, .ref mz, .ref mb, .int (nI (B c - B o)), .int (nI c), .int (nI dr), .int (nI de), .int g, .int fr, .int to, .int (nI nx)])), (ma, .inl (kX, 512, .inl xf)), (mu, .inl (kO, 512, .inl vf)), (mt, .inl (kT, 16384, .inl yf)), (mz, .inl (kZ, 16384, .inl zf)), (mb, .inl (kB, 16384, .inl wf))] := hD.sub [0, 1, 2, 3, 4, 5, 6, 7, 8, 9, 10, 11, 12, 13] (by decide) rfl
  refine lv_icmp_eq (tgt := 346) hx hb d_law_341 (by decide) (fun c_341 => ?_) (fun c_341 => ?_)
  · refine nv_iinc3 (lv' := [(3, .int (nI ((1 + 3 * r) + 3))), (0, .ref b), (1, .ref x), (2, .ref mo)]) hx hb d_law_346 hl (k := 3) rfl (by decide) rfl (fun ls hl => ?_)
    refine lv_goto (tgt := 28) hx hb d_law_349 (by decide) ?_
    exact ih tn on g fr to nx o c T B S dr de bf tf sf xf uf vf yf zf wf _ _ _ ⟨q1, q2, q3, by omega, by omega, q6, q7, hst, hmd, q8, hP, hD, hS, by rw [show 1 + 3 * (r + 1) = 1 + 3 * r + 3 by omega]; exact lv_sub hl [1, 2, 3, 0] rfl⟩
  · exact absurd (by rw [er_324, hw2]) c_341
end
section
theorem sw_out10 {w : Int32} (h0 : ¬ w = 0) (h1 : ¬ w = 1) (h2 : ¬ w = 2) (h3 : ¬ w = 3) (h4 : ¬ w = 4) (h5 : ¬ w = 5) (h6 : ¬ w = 6) (h7 : ¬ w = 7) (h8 : ¬ w = 8) (h9 : ¬ w = 9) : w.toInt < 0 ∨ 9 < w.toInt := by
  have a := sw_out h0 h1 h2 h3 h4 h5 h6 h7
  have a8 := lv_neT (a := 8) h8 (by decide)
  have a9 := lv_neT (a := 9) h9 (by decide)
  omega
theorem hs_0 {R : Nat} (h1 : 64 ≤ R) (h2 : R ≤ 16384) : Hs R 0 0 (fun _ => 0) := ⟨h1, h2, Nat.le_refl 0, Nat.zero_le _, Nat.zero_le _, Nat.zero_le _, fun i h => absurd h (Nat.not_lt_zero i)⟩
theorem str_0 {R : Nat} (h1 : 64 ≤ R) (h2 : R ≤ 16384) : StR R 0 0 (fun _ => 0) (fun _ => 0) (fun _ => 0) (fun _ => 0) (fun _ => 0) (fun _ => 0) := ⟨hs_0 h1 h2, fun i _ h => absurd h (Nat.not_lt_zero i), fun i _ h => absurd h (Nat.not_lt_zero i), fun i _ h => absurd h (Nat.not_lt_zero i), by8_0⟩
theorem mdr_0 {R : Nat} (h1 : 64 ≤ R) (h2 : R ≤ 16384) : MdR R 0 0 (fun _ => 0) (fun _ => 0) (fun _ => 0) (fun _ => 0) (fun _ => 0) (fun _ => 0) := ⟨hs_0 h1 h2, fun i h => absurd h (by omega), fun i h => absurd h (by omega), fun i h => absurd h (by omega), by8_0⟩
set_option maxHeartbeats 4000000 in
set_option maxRecDepth 100000 in
/-- THE LAW'S LOOP: at its head, r rounds done, both worlds hold one history -/
theorem law_loop {p : Program} {l : Launch} {e : Env} {s : State} {m : MethodId} {below : List Frame} {meth : Method} {cd : Code} {D : va_G} {b L : Nat} {xs : Nat → Int32} (hL : L ≤ 1537) (C0 : lw_At p s m meth cd b L xs) (x rt st ba ta sa xa oa : Nat) (cB cI cS cX cO : ClassId) (mo ma mu mt mz mb : Nat) (kX kO kT kZ kB : ClassId) (R : Nat) (hK : va_K D classes (yL cB cI cS cX cO kX kO kT kZ kB) s) : ∀ (n r : Nat) (tn on : Nat) (g fr to : Int32) (nx o c : Nat) (T : Nat → Int32) (B : Nat → Nat) (S : Nat → Int32) (dr de : Nat) (bf tf sf xf uf vf yf zf wf : Nat → Int32) (H : Heap) (locs : List Loc) (ls : Array Slot), r ≤ 1537 → 1537 < r + n → LInv D s b x rt st ba ta sa xa oa cB cI cS cX cO mo ma mu mt mz mb kX kO kT kZ kB R r tn on g fr to nx o c T B S dr de bf tf sf xf uf vf yf zf wf H locs ls → W p l e room_1 s m #[Value.ref b] below meth cd H locs 600000 7302250 (lw_Z below #[Value.ref b] s) (F0 m 28 ls []) := by
  intro n
  induction n with
  | zero =>
    intro r tn on g fr to nx o c T B S dr de bf tf sf xf uf vf yf zf wf H locs ls h1 h2 _
    exact absurd h2 (by omega)
  | succ n ih =>
    intro r tn on g fr to nx o c T B S dr de bf tf sf xf uf vf yf zf wf H locs ls hr1 hr2 hI
    obtain ⟨hx, hb, hr, hml, hown, hts, hX, hbl, hlocks, hgv⟩ := id C0
    obtain ⟨q1, q2, q3, q4, q5, q6, q7, hst, hmd, q8, hP, hD, hS, hl⟩ := id hI
    have hbA : ¬ (fun q : Nat => s.heap.size ≤ q) b := Nat.not_le.mpr hbl
    refine lv_iload_n hx hb d_law_28 rfl (lv_at hl 3 rfl) ?_
    refine lv_aload_n hx hb d_law_29 rfl (lv_at hl 0 rfl) ?_
    refine va_slen hx hb hX hbl hbA hS d_law_30 ?_
    refine nv_asI (y := L) rfl ?_
    refine lv_iconst (v := nI 3) hx hb d_law_31 (by decide +kernel) ?_
    rcases Nat.lt_or_ge L 3 with hL3 | hL3
    · refine lv_isub hx hb d_law_32 ?_
      refine lv_icmp_gt (tgt := 352) hx hb d_law_33 (by decide) (fun c_33 => ?_) (fun c_33 => ?_)
      · refine lv_iconst (v := 1) hx hb d_law_352 (by decide +kernel) ?_
        refine va_forget (fun q hq => hS.2.2 q hq) ?_
        exact lw_ret hx hb hr hlocks d_law_353
      · exact absurd (Int32.lt_of_lt_of_le (pk_sneg (by omega) hL3) (nI_pos' (by omega))) c_33
    · refine nv_isub hx hb (by omega) d_law_32 ?_
      refine nv_icmp_gt (tgt := 352) hx hb (by omega) (by omega) d_law_33 (by decide) (fun c_33 => ?_) (fun c_33 => ?_)
      · refine lv_iconst (v := 1) hx hb d_law_352 (by decide +kernel) ?_
        refine va_forget (fun q hq => hS.2.2 q hq) ?_
        exact lw_ret hx hb hr hlocks d_law_353
      · refine lv_aload_n hx hb d_law_36 rfl (lv_at hl 0 rfl) ?_
        refine lv_iload_n hx hb d_law_37 rfl (lv_at hl 3 rfl) ?_
        refine va_sld hx hb hX hbl hbA hS (vp_in_nI (by omega) (by omega)) d_law_38 ?_
        refine nv_asX (y := xs (1 + 3 * r)) (by rw [nI_clamp (by omega)]) ?_
        refine lv_bipush (v := nI 15) hx hb d_law_39 (by decide +kernel) ?_
        refine lv_iand hx hb d_law_41 ?_
        refine lv_topi (fun w ew => ?_)
        by_cases w0 : w = 0
        · refine nv_asX (y := 0) w0 ?_
          refine lv_tableIn (tgt := 96) (off := 54) hx hb d_law_42 (by decide) (by decide) (by decide +kernel) (by decide) ?_
          exact lc_put hL C0 x rt st ba ta sa xa oa cB cI cS cX cO mo ma mu mt mz mb kX kO kT kZ kB R hK r (by omega) (fun tn on g fr to nx o c T B S dr de bf tf sf xf uf vf yf zf wf H locs ls h => ih (r + 1) tn on g fr to nx o c T B S dr de bf tf sf xf uf vf yf zf wf H locs ls (by omega) (by omega) h) tn on g fr to nx o c T B S dr de bf tf sf xf uf vf yf zf wf H locs ls hI
        by_cases w1 : w = 1
        · refine nv_asX (y := 1) w1 ?_
          refine lv_tableIn (tgt := 119) (off := 77) hx hb d_law_42 (by decide) (by decide) (by decide +kernel) (by decide) ?_
          exact lc_keep hL C0 x rt st ba ta sa xa oa cB cI cS cX cO mo ma mu mt mz mb kX kO kT kZ kB R hK r (by omega) (fun tn on g fr to nx o c T B S dr de bf tf sf xf uf vf yf zf wf H locs ls h => ih (r + 1) tn on g fr to nx o c T B S dr de bf tf sf xf uf vf yf zf wf H locs ls (by omega) (by omega) h) tn on g fr to nx o c T B S dr de bf tf sf xf uf vf yf zf wf H locs ls hI
        by_cases w2 : w = 2
        · refine nv_asX (y := 2) w2 ?_
          refine lv_tableIn (tgt := 142) (off := 100) hx hb d_law_42 (by decide) (by decide) (by decide +kernel) (by decide) ?_
          exact lc_delete hL C0 x rt st ba ta sa xa oa cB cI cS cX cO mo ma mu mt mz mb kX kO kT kZ kB R hK r (by omega) (fun tn on g fr to nx o c T B S dr de bf tf sf xf uf vf yf zf wf H locs ls h => ih (r + 1) tn on g fr to nx o c T B S dr de bf tf sf xf uf vf yf zf wf H locs ls (by omega) (by omega) h) tn on g fr to nx o c T B S dr de bf tf sf xf uf vf yf zf wf H locs ls hI
        by_cases w3 : w = 3
        · refine nv_asX (y := 3) w3 ?_
          refine lv_tableIn (tgt := 165) (off := 123) hx hb d_law_42 (by decide) (by decide) (by decide +kernel) (by decide) ?_
          exact lc_begin hL C0 x rt st ba ta sa xa oa cB cI cS cX cO mo ma mu mt mz mb kX kO kT kZ kB R hK r (by omega) (fun tn on g fr to nx o c T B S dr de bf tf sf xf uf vf yf zf wf H locs ls h => ih (r + 1) tn on g fr to nx o c T B S dr de bf tf sf xf uf vf yf zf wf H locs ls (by omega) (by omega) h) tn on g fr to nx o c T B S dr de bf tf sf xf uf vf yf zf wf H locs ls hI
        by_cases w4 : w = 4
        · refine nv_asX (y := 4) w4 ?_
          refine lv_tableIn (tgt := 198) (off := 156) hx hb d_law_42 (by decide) (by decide) (by decide +kernel) (by decide) ?_
          exact lc_stop hL C0 x rt st ba ta sa xa oa cB cI cS cX cO mo ma mu mt mz mb kX kO kT kZ kB R hK r (by omega) (fun tn on g fr to nx o c T B S dr de bf tf sf xf uf vf yf zf wf H locs ls h => ih (r + 1) tn on g fr to nx o c T B S dr de bf tf sf xf uf vf yf zf wf H locs ls (by omega) (by omega) h) tn on g fr to nx o c T B S dr de bf tf sf xf uf vf yf zf wf H locs ls hI
        by_cases w5 : w = 5
        · refine nv_asX (y := 5) w5 ?_
          refine lv_tableIn (tgt := 211) (off := 169) hx hb d_law_42 (by decide) (by decide) (by decide +kernel) (by decide) ?_
          exact lc_next hL C0 x rt st ba ta sa xa oa cB cI cS cX cO mo ma mu mt mz mb kX kO kT kZ kB R hK r (by omega) (fun tn on g fr to nx o c T B S dr de bf tf sf xf uf vf yf zf wf H locs ls h => ih (r + 1) tn on g fr to nx o c T B S dr de bf tf sf xf uf vf yf zf wf H locs ls (by omega) (by omega) h) tn on g fr to nx o c T B S dr de bf tf sf xf uf vf yf zf wf H locs ls hI
        by_cases w6 : w = 6
        · refine nv_asX (y := 6) w6 ?_
          refine lv_tableIn (tgt := 234) (off := 192) hx hb d_law_42 (by decide) (by decide) (by decide +kernel) (by decide) ?_
          exact lc_out hL C0 x rt st ba ta sa xa oa cB cI cS cX cO mo ma mu mt mz mb kX kO kT kZ kB R hK r (by omega) (fun tn on g fr to nx o c T B S dr de bf tf sf xf uf vf yf zf wf H locs ls h => ih (r + 1) tn on g fr to nx o c T B S dr de bf tf sf xf uf vf yf zf wf H locs ls (by omega) (by omega) h) tn on g fr to nx o c T B S dr de bf tf sf xf uf vf yf zf wf H locs ls hI
        by_cases w7 : w = 7
        · refine nv_asX (y := 7) w7 ?_
          refine lv_tableIn (tgt := 257) (off := 215) hx hb d_law_42 (by decide) (by decide) (by decide +kernel) (by decide) ?_
          exact lc_count hL C0 x rt st ba ta sa xa oa cB cI cS cX cO mo ma mu mt mz mb kX kO kT kZ kB R hK r (by omega) (fun tn on g fr to nx o c T B S dr de bf tf sf xf uf vf yf zf wf H locs ls h => ih (r + 1) tn on g fr to nx o c T B S dr de bf tf sf xf uf vf yf zf wf H locs ls (by omega) (by omega) h) tn on g fr to nx o c T B S dr de bf tf sf xf uf vf yf zf wf H locs ls hI
        by_cases w8 : w = 8
        · refine nv_asX (y := 8) w8 ?_
          refine lv_tableIn (tgt := 280) (off := 238) hx hb d_law_42 (by decide) (by decide) (by decide +kernel) (by decide) ?_
          exact lc_about hL C0 x rt st ba ta sa xa oa cB cI cS cX cO mo ma mu mt mz mb kX kO kT kZ kB R hK r (by omega) (fun tn on g fr to nx o c T B S dr de bf tf sf xf uf vf yf zf wf H locs ls h => ih (r + 1) tn on g fr to nx o c T B S dr de bf tf sf xf uf vf yf zf wf H locs ls (by omega) (by omega) h) tn on g fr to nx o c T B S dr de bf tf sf xf uf vf yf zf wf H locs ls hI
        by_cases w9 : w = 9
        · refine nv_asX (y := 9) w9 ?_
          refine lv_tableIn (tgt := 313) (off := 271) hx hb d_law_42 (by decide) (by decide) (by decide +kernel) (by decide) ?_
          exact lc_byteAt hL C0 x rt st ba ta sa xa oa cB cI cS cX cO mo ma mu mt mz mb kX kO kT kZ kB R hK r (by omega) (fun tn on g fr to nx o c T B S dr de bf tf sf xf uf vf yf zf wf H locs ls h => ih (r + 1) tn on g fr to nx o c T B S dr de bf tf sf xf uf vf yf zf wf H locs ls (by omega) (by omega) h) tn on g fr to nx o c T B S dr de bf tf sf xf uf vf yf zf wf H locs ls hI
        refine lv_tableOut (tgt := 346) hx hb d_law_42 (sw_out10 w0 w1 w2 w3 w4 w5 w6 w7 w8 w9) (by decide) ?_
        refine nv_iinc3 (lv' := [(3, .int (nI ((1 + 3 * r) + 3))), (0, .ref b), (1, .ref x), (2, .ref mo)]) hx hb d_law_346 hl (k := 3) rfl (by decide) rfl (fun ls hl => ?_)
        refine lv_goto (tgt := 28) hx hb d_law_349 (by decide) ?_
        exact ih (r + 1) tn on g fr to nx o c T B S dr de bf tf sf xf uf vf yf zf wf _ _ _ (by omega) (by omega) ⟨q1, q2, q3, by omega, by omega, q6, q7, hst, hmd, q8, hP, hD, hS, by rw [show 1 + 3 * (r + 1) = 1 + 3 * r + 3 by omega]; exact lv_sub hl [1, 2, 3, 0] rfl⟩
set_option maxHeartbeats 4000000 in
set_option maxRecDepth 100000 in
/-- THE LAW, from its entry -/
theorem whole_start {p : Program} {e : Env} {s : State} {m : MethodId} {below : List Frame} {meth : Method} {cd : Code} (l : Launch) {b L : Nat} {xs : Nat → Int32} (hL : L ≤ 1537) (C0 : lw_At p s m meth cd b L xs) : W p l e room_1 s m #[Value.ref b] below meth cd s.heap [] 0 0 (lw_Z below #[Value.ref b] s) (entryFrame m ([Value.ref b] : List Value).toArray 4) := by
  obtain ⟨hx, hb, hr, hml, hown, hts, hX, hbl, hlocks, hgv⟩ := id C0
  have hT := lw_g_of hts
  have hA : ∀ q : Nat, s.heap.size ≤ q → (fun q : Nat => s.heap.size ≤ q) q := fun _ h => h
  have hbA : ¬ (fun q : Nat => s.heap.size ≤ q) b := Nat.not_le.mpr hbl
  obtain ⟨c0, iS0, hKn0⟩ := u_known (C := R_PS) (T := F_PS) (N := 6) (n := 6) hT i_PS (hT _ tb_1_8)
  obtain ⟨c1, iS1, hKn1⟩ := u_known (C := R_St) (T := F_St) (N := 9) (n := 9) hT i_St (hT _ tb_1_16)
  obtain ⟨c2, iS2, hKn2⟩ := u_known (C := R_Rt) (T := F_Rt) (N := 5) (n := 5) hT i_Rt (hT _ tb_1_66)
  obtain ⟨c3, iS3, hKn3⟩ := u_known (C := R_Md) (T := F_Md) (N := 18) (n := 18) hT i_Md (hT _ tb_1_209)
  obtain ⟨D, hKc⟩ : ∃ D : va_G, ∀ (k : Nat) (q : vw_C), classes[k]? = some q → u_Kn s q.1 q.2.1 q.2.2 (D.1 k) (D.2 k) := by
    refine ⟨(fun k => if k = 0 then c0 else if k = 1 then c1 else if k = 2 then c2 else c3, fun k => if k = 0 then iS0 else if k = 1 then iS1 else if k = 2 then iS2 else iS3), ?_⟩
    intro k q hq
    match k, hq with
    | 0, hq => cases hq; exact hKn0
    | 1, hq => cases hq; exact hKn1
    | 2, hq => cases hq; exact hKn2
    | 3, hq => cases hq; exact hKn3
    | k + 4, hq => simp [classes] at hq
  have hS : va_S (fun q : Nat => s.heap.size ≤ q) s.heap s.heap [] := va_S.rf
  have hK : va_K D classes [] s := ⟨hKc, fun k q h => by simp at h⟩
  have hP : va_P D classes [] s.heap := fun k q h => by simp at h
  have hD : va_D (fun q : Nat => s.heap.size ≤ q) [] := ⟨fun i j p q h => by simp at h, fun k q h => by simp at h⟩
  have hl := lv_entry ([.ref b]) (n := 4) (Nat.le_of_ble_eq_true rfl)
  rw [lg_entry_eq]
  generalize (lg_sl ([.ref b]) ++ List.replicate (4 - (lg_sl ([.ref b])).length) Slot.unset).toArray = ls at hl ⊢
  have hl : lv_has ls 4 [(0, .ref b)] := hl
  refine va_new (ci := 0) (fs := [.null, .null, .null, .null, .int (nI 0), .int (nI 0)]) (C := R_PS) (T := F_PS) (N := 6) hx hb hT i_PS t_PS t_PS_ok hown (hT _ tb_1_7) (hT _ tb_1_8) (hT _ tb_1_1) hK hP hD hS hA rfl (fun j hj => by rcases (show j = 0 ∨ j = 1 ∨ j = 2 ∨ j = 3 ∨ j = 4 ∨ j = 5 by omega) with rfl | rfl | rfl | rfl | rfl | rfl <;> rfl) (Nat.le_of_ble_eq_true rfl) (Nat.le_of_ble_eq_true rfl) d_law_0 (fun x H hP hD hS => ?_)
  have hP : va_P D classes [(x, .inr (0, [.null, .null, .null, .null, .int (nI 0), .int (nI 0)]))] H := hP
  have hD : va_D (fun q : Nat => s.heap.size ≤ q) [(x, .inr (0, [.null, .null, .null, .null, .int (nI 0), .int (nI 0)]))] := hD
  refine lv_dup hx hb d_law_3 rfl ?_
  refine lv_aload_n hx hb d_law_4 rfl (lv_at hl 0 rfl) ?_
  refine lv_iconst (v := nI 0) hx hb d_law_5 (by decide +kernel) ?_
  refine vp_callSi (W.runS (As := [.ref b, .int (nI 0)]) (rest := [.ref x, .ref x]) ⟨hx, hb, hml, hown, hT⟩ (c_law_cell l b L xs (by omega)) (cs_law_9 hT ⟨(Nat.le_of_ble_eq_true rfl), (Nat.le_of_ble_eq_true rfl)⟩) ⟨fun a U g mk q => ⟨q.1, va_X.moved (u := U) (U := U.calling g mk a) (Vm.Alike.refl U.vm) q.2⟩, fun U hU hW => ⟨rfl, by show va_X b L xs U U.heap; rw [hU]; exact va_X.moved hW.alike (hX.kept (hS.2.1 b hbl hbA))⟩⟩ rfl rfl hl.1 rfl (lv_room (Nat.le_of_ble_eq_true rfl)) d_law_6 ⟨(Nat.le_of_ble_eq_true rfl), (Nat.le_of_ble_eq_true rfl)⟩) (fun r_6 er_6 => ?_)
  refine rw_callvI (As := [.int r_6]) (rest := [.ref x]) (wr := []) hx hb hml hT hown (c_PS_init l D x H.size r_6) (cs_law_15 hT ⟨(Nat.le_of_ble_eq_true rfl), (Nat.le_of_ble_eq_true rfl)⟩) (hK.sub [] rfl) hP hD hS hA [0] [] rfl rfl (by decide) (by decide) (by decide) rfl hl.1 rfl (Nat.le_of_ble_eq_true rfl) d_law_9 ⟨(Nat.le_of_ble_eq_true rfl), (Nat.le_of_ble_eq_true rfl)⟩ (fun u H locs hw hKn hP hD hS => ?_)
  obtain ⟨⟨rt, st, ba, ta, sa, xa, oa⟩, cB, cI, cS, cX, cO⟩ := u
  have hP : va_P D classes [(x, .inr (0, [.ref st, .ref rt, .ref xa, .ref oa, .int (nI 0), .int (nI 0)])), (rt, .inr (2, [.ref st, .int (nI 0), .int (nI 0), .int (nI 0), .int (nI 0)])), (st, .inr (1, [.ref ba, .ref ta, .ref sa, .int (nI 0), .int (nI 0), .int (nI 0), .int (nI 0), .int (nI 0), .int (nI 0)])), (ba, .inl (cB, (rmF r_6), .inl (fun _ => 0))), (ta, .inl (cI, (rmF r_6), .inl (fun _ => 0))), (sa, .inl (cS, (rmF r_6), .inl (fun _ => 0))), (xa, .inl (cX, 512, .inl (fun _ => 0))), (oa, .inl (cO, 512, .inl (fun _ => 0)))] H := hP
  have hD : va_D (fun q : Nat => s.heap.size ≤ q) [(x, .inr (0, [.ref st, .ref rt, .ref xa, .ref oa, .int (nI 0), .int (nI 0)])), (rt, .inr (2, [.ref st, .int (nI 0), .int (nI 0), .int (nI 0), .int (nI 0)])), (st, .inr (1, [.ref ba, .ref ta, .ref sa, .int (nI 0), .int (nI 0), .int (nI 0), .int (nI 0), .int (nI 0), .int (nI 0)])), (ba, .inl (cB, (rmF r_6), .inl (fun _ => 0))), (ta, .inl (cI, (rmF r_6), .inl (fun _ => 0))), (sa, .inl (cS, (rmF r_6), .inl (fun _ => 0))), (xa, .inl (cX, 512, .inl (fun _ => 0))), (oa, .inl (cO, 512, .inl (fun _ => 0)))] := hD
  have hK : va_K D classes [(cB, .byte), (cI, .int), (cS, .short), (cX, .byte), (cO, .byte)] s := hK.app hKn
  refine W.widen (k := 8) (n := 50196) (Nat.le_of_ble_eq_true rfl) (Nat.le_of_ble_eq_true rfl) ?_
  refine lv_astore_n (lv' := [(1, .ref x), (0, .ref b)]) hx hb d_law_12 rfl hl (by decide) rfl (fun ls hl => ?_)
  refine va_new (ci := 3) (fs := [.int (nI 0), .int (nI 0), .null, .int (nI 0), .null, .int (nI 0), .int (nI 0), .null, .null, .null, .int (nI 0), .int (nI 0), .int (nI 0), .int (nI 0), .int (nI 0), .int (nI 0), .int (nI 0), .int (nI 0)]) (C := R_Md) (T := F_Md) (N := 18) hx hb hT i_Md t_Md t_Md_ok hown (hT _ tb_1_208) (hT _ tb_1_209) (hT _ tb_1_5) hK hP hD hS hA rfl (fun j hj => by rcases (show j = 0 ∨ j = 1 ∨ j = 2 ∨ j = 3 ∨ j = 4 ∨ j = 5 ∨ j = 6 ∨ j = 7 ∨ j = 8 ∨ j = 9 ∨ j = 10 ∨ j = 11 ∨ j = 12 ∨ j = 13 ∨ j = 14 ∨ j = 15 ∨ j = 16 ∨ j = 17 by omega) with rfl | rfl | rfl | rfl | rfl | rfl | rfl | rfl | rfl | rfl | rfl | rfl | rfl | rfl | rfl | rfl | rfl | rfl <;> rfl) (Nat.le_of_ble_eq_true rfl) (Nat.le_of_ble_eq_true rfl) d_law_13 (fun mo H hP hD hS => ?_)
  have hP : va_P D classes [(x, .inr (0, [.ref st, .ref rt, .ref xa, .ref oa, .int (nI 0), .int (nI 0)])), (rt, .inr (2, [.ref st, .int (nI 0), .int (nI 0), .int (nI 0), .int (nI 0)])), (st, .inr (1, [.ref ba, .ref ta, .ref sa, .int (nI 0), .int (nI 0), .int (nI 0), .int (nI 0), .int (nI 0), .int (nI 0)])), (ba, .inl (cB, (rmF r_6), .inl (fun _ => 0))), (ta, .inl (cI, (rmF r_6), .inl (fun _ => 0))), (sa, .inl (cS, (rmF r_6), .inl (fun _ => 0))), (xa, .inl (cX, 512, .inl (fun _ => 0))), (oa, .inl (cO, 512, .inl (fun _ => 0))), (mo, .inr (3, [.int (nI 0), .int (nI 0), .null, .int (nI 0), .null, .int (nI 0), .int (nI 0), .null, .null, .null, .int (nI 0), .int (nI 0), .int (nI 0), .int (nI 0), .int (nI 0), .int (nI 0), .int (nI 0), .int (nI 0)]))] H := hP
  have hD : va_D (fun q : Nat => s.heap.size ≤ q) [(x, .inr (0, [.ref st, .ref rt, .ref xa, .ref oa, .int (nI 0), .int (nI 0)])), (rt, .inr (2, [.ref st, .int (nI 0), .int (nI 0), .int (nI 0), .int (nI 0)])), (st, .inr (1, [.ref ba, .ref ta, .ref sa, .int (nI 0), .int (nI 0), .int (nI 0), .int (nI 0), .int (nI 0), .int (nI 0)])), (ba, .inl (cB, (rmF r_6), .inl (fun _ => 0))), (ta, .inl (cI, (rmF r_6), .inl (fun _ => 0))), (sa, .inl (cS, (rmF r_6), .inl (fun _ => 0))), (xa, .inl (cX, 512, .inl (fun _ => 0))), (oa, .inl (cO, 512, .inl (fun _ => 0))), (mo, .inr (3, [.int (nI 0), .int (nI 0), .null, .int (nI 0), .null, .int (nI 0), .int (nI 0), .null, .null, .null, .int (nI 0), .int (nI 0), .int (nI 0), .int (nI 0), .int (nI 0), .int (nI 0), .int (nI 0), .int (nI 0)]))] := hD
  refine lv_dup hx hb d_law_16 rfl ?_
  refine lv_aload_n hx hb d_law_17 rfl (lv_at hl 1 rfl) ?_
  refine lv_iconst (v := nI 0) hx hb d_law_18 (by decide +kernel) ?_
  refine vp_callSi (W.runS (As := [.ref b, .int (nI 0)]) (rest := [.ref mo, .ref mo]) ⟨hx, hb, hml, hown, hT⟩ (c_law_cell l b L xs (by omega)) (cs_law_9 hT ⟨(Nat.le_of_ble_eq_true rfl), (Nat.le_of_ble_eq_true rfl)⟩) ⟨fun a U g mk q => ⟨q.1, va_X.moved (u := U) (U := U.calling g mk a) (Vm.Alike.refl U.vm) q.2⟩, fun U hU hW => ⟨rfl, by show va_X b L xs U U.heap; rw [hU]; exact va_X.moved hW.alike (hX.kept (hS.2.1 b hbl hbA))⟩⟩ rfl rfl hl.1 rfl (lv_room (Nat.le_of_ble_eq_true rfl)) d_law_19 ⟨(Nat.le_of_ble_eq_true rfl), (Nat.le_of_ble_eq_true rfl)⟩) (fun r_19 er_19 => ?_)
  have e6 : r_6 = r_19 := er_6.trans er_19.symm
  subst e6
  refine rw_callvI (As := [.int r_6]) (rest := [.ref mo]) (wr := [(x, .inr (0, [.ref st, .ref rt, .ref xa, .ref oa, .int (nI 0), .int (nI 0)])), (rt, .inr (2, [.ref st, .int (nI 0), .int (nI 0), .int (nI 0), .int (nI 0)])), (st, .inr (1, [.ref ba, .ref ta, .ref sa, .int (nI 0), .int (nI 0), .int (nI 0), .int (nI 0), .int (nI 0), .int (nI 0)])), (ba, .inl (cB, (rmF r_6), .inl (fun _ => 0))), (ta, .inl (cI, (rmF r_6), .inl (fun _ => 0))), (sa, .inl (cS, (rmF r_6), .inl (fun _ => 0))), (xa, .inl (cX, 512, .inl (fun _ => 0))), (oa, .inl (cO, 512, .inl (fun _ => 0)))]) hx hb hml hT hown (c_Md_init l D mo H.size r_6) (cs_law_20 hT ⟨(Nat.le_of_ble_eq_true rfl), (Nat.le_of_ble_eq_true rfl)⟩) (hK.sub [] rfl) hP hD hS hA [8] [0, 1, 2, 3, 4, 5, 6, 7] rfl rfl (by decide) (by decide) (by decide) rfl hl.1 rfl (Nat.le_of_ble_eq_true rfl) d_law_22 ⟨(Nat.le_of_ble_eq_true rfl), (Nat.le_of_ble_eq_true rfl)⟩ (fun u H locs hw hKn hP hD hS => ?_)
  obtain ⟨⟨ma, mu, mt, mz, mb⟩, kX, kO, kT, kZ, kB⟩ := u
  have hP : va_P D classes [(x, .inr (0, [.ref st, .ref rt, .ref xa, .ref oa, .int (nI 0), .int (nI 0)])), (rt, .inr (2, [.ref st, .int (nI 0), .int (nI 0), .int (nI 0), .int (nI 0)])), (st, .inr (1, [.ref ba, .ref ta, .ref sa, .int (nI 0), .int (nI 0), .int (nI 0), .int (nI 0), .int (nI 0), .int (nI 0)])), (ba, .inl (cB, (rmF r_6), .inl (fun _ => 0))), (ta, .inl (cI, (rmF r_6), .inl (fun _ => 0))), (sa, .inl (cS, (rmF r_6), .inl (fun _ => 0))), (xa, .inl (cX, 512, .inl (fun _ => 0))), (oa, .inl (cO, 512, .inl (fun _ => 0))), (mo, .inr (3, [.int (nI 0), .int (nI (rmF r_6)), .ref ma, .int (nI 0), .ref mu, .int (nI 0), .int (nI 0), .ref mt, .ref mz, .ref mb, .int (nI 0), .int (nI 0), .int (nI 0), .int (nI 0), .int (nI 0), .int (nI 0), .int (nI 0), .int (nI 0)])), (ma, .inl (kX, 512, .inl (fun _ => 0))), (mu, .inl (kO, 512, .inl (fun _ => 0))), (mt, .inl (kT, 16384, .inl (fun _ => 0))), (mz, .inl (kZ, 16384, .inl (fun _ => 0))), (mb, .inl (kB, 16384, .inl (fun _ => 0)))] H := hP
  have hD : va_D (fun q : Nat => s.heap.size ≤ q) [(x, .inr (0, [.ref st, .ref rt, .ref xa, .ref oa, .int (nI 0), .int (nI 0)])), (rt, .inr (2, [.ref st, .int (nI 0), .int (nI 0), .int (nI 0), .int (nI 0)])), (st, .inr (1, [.ref ba, .ref ta, .ref sa, .int (nI 0), .int (nI 0), .int (nI 0), .int (nI 0), .int (nI 0), .int (nI 0)])), (ba, .inl (cB, (rmF r_6), .inl (fun _ => 0))), (ta, .inl (cI, (rmF r_6), .inl (fun _ => 0))), (sa, .inl (cS, (rmF r_6), .inl (fun _ => 0))), (xa, .inl (cX, 512, .inl (fun _ => 0))), (oa, .inl (cO, 512, .inl (fun _ => 0))), (mo, .inr (3, [.int (nI 0), .int (nI (rmF r_6)), .ref ma, .int (nI 0), .ref mu, .int (nI 0), .int (nI 0), .ref mt, .ref mz, .ref mb, .int (nI 0), .int (nI 0), .int (nI 0), .int (nI 0), .int (nI 0), .int (nI 0), .int (nI 0), .int (nI 0)])), (ma, .inl (kX, 512, .inl (fun _ => 0))), (mu, .inl (kO, 512, .inl (fun _ => 0))), (mt, .inl (kT, 16384, .inl (fun _ => 0))), (mz, .inl (kZ, 16384, .inl (fun _ => 0))), (mb, .inl (kB, 16384, .inl (fun _ => 0)))] := hD
  have hK : va_K D classes [(cB, .byte), (cI, .int), (cS, .short), (cX, .byte), (cO, .byte), (kX, .byte), (kO, .byte), (kT, .int), (kZ, .int), (kB, .byte)] s := hK.app hKn
  refine W.widen (k := 14) (n := 100390) (Nat.le_of_ble_eq_true rfl) (Nat.le_of_ble_eq_true rfl) ?_
  refine lv_astore_n (lv' := [(2, .ref mo), (1, .ref x), (0, .ref b)]) hx hb d_law_25 rfl hl (by decide) rfl (fun ls hl => ?_)
  refine lv_iconst (v := nI 1) hx hb d_law_26 (by decide +kernel) ?_
  refine lv_istore_n (lv' := [(3, .int (nI 1)), (2, .ref mo), (1, .ref x), (0, .ref b)]) hx hb d_law_27 rfl hl (by decide) rfl (fun ls hl => ?_)
  refine W.widen (k := 600000) (n := 7302250) (Nat.le_of_ble_eq_true rfl) (Nat.le_of_ble_eq_true rfl) ?_
  have hv := rmF_b r_6
  have hP : va_P D classes [(x, .inr (0, [.ref st, .ref rt, .ref xa, .ref oa, .int (nI 0), .int (nI 0)])), (rt, .inr (2, [.ref st, .int (nI 0), .int (nI 0), .int (nI 0), .int (nI 0)])), (st, .inr (1, [.ref ba, .ref ta, .ref sa, .int (nI 0), .int (nI 0), .int (nI (0 % rmF r_6)), .int (nI 0), .int (nI 0), .int (nI 0)])), (ba, .inl (cB, (rmF r_6), .inl (fun _ => 0))), (ta, .inl (cI, (rmF r_6), .inl (fun _ => 0))), (sa, .inl (cS, (rmF r_6), .inl (fun _ => 0))), (xa, .inl (cX, 512, .inl (fun _ => 0))), (oa, .inl (cO, 512, .inl (fun _ => 0))), (mo, .inr (3, [.int (nI 0), .int (nI (rmF r_6)), .ref ma, .int (nI 0), .ref mu, .int (nI 0), .int (nI 0), .ref mt, .ref mz, .ref mb, .int (nI 0), .int (nI 0), .int (nI 0), .int (nI 0), .int (nI 0), .int (nI 0), .int (nI 0), .int (nI 0)])), (ma, .inl (kX, 512, .inl (fun _ => 0))), (mu, .inl (kO, 512, .inl (fun _ => 0))), (mt, .inl (kT, 16384, .inl (fun _ => 0))), (mz, .inl (kZ, 16384, .inl (fun _ => 0))), (mb, .inl (kB, 16384, .inl (fun _ => 0)))] H := by rw [Nat.zero_mod]; exact hP
  have hD : va_D (fun q : Nat => s.heap.size ≤ q) [(x, .inr (0, [.ref st, .ref rt, .ref xa, .ref oa, .int (nI 0), .int (nI 0)])), (rt, .inr (2, [.ref st, .int (nI 0), .int (nI 0), .int (nI 0), .int (nI 0)])), (st, .inr (1, [.ref ba, .ref ta, .ref sa, .int (nI 0), .int (nI 0), .int (nI (0 % rmF r_6)), .int (nI 0), .int (nI 0), .int (nI 0)])), (ba, .inl (cB, (rmF r_6), .inl (fun _ => 0))), (ta, .inl (cI, (rmF r_6), .inl (fun _ => 0))), (sa, .inl (cS, (rmF r_6), .inl (fun _ => 0))), (xa, .inl (cX, 512, .inl (fun _ => 0))), (oa, .inl (cO, 512, .inl (fun _ => 0))), (mo, .inr (3, [.int (nI 0), .int (nI (rmF r_6)), .ref ma, .int (nI 0), .ref mu, .int (nI 0), .int (nI 0), .ref mt, .ref mz, .ref mb, .int (nI 0), .int (nI 0), .int (nI 0), .int (nI 0), .int (nI 0), .int (nI 0), .int (nI 0), .int (nI 0)])), (ma, .inl (kX, 512, .inl (fun _ => 0))), (mu, .inl (kO, 512, .inl (fun _ => 0))), (mt, .inl (kT, 16384, .inl (fun _ => 0))), (mz, .inl (kZ, 16384, .inl (fun _ => 0))), (mb, .inl (kB, 16384, .inl (fun _ => 0)))] := by rw [Nat.zero_mod]; exact hD
  exact law_loop hL C0 x rt st ba ta sa xa oa cB cI cS cX cO mo ma mu mt mz mb kX kO kT kZ kB (rmF r_6) hK 1538 0 0 0 (nI 0) (nI 0) (nI 0) 0 0 0 (fun _ => 0) (fun _ => 0) (fun _ => 0) 0 0 (fun _ => 0) (fun _ => 0) (fun _ => 0) (fun _ => 0) (fun _ => 0) (fun _ => 0) (fun _ => 0) (fun _ => 0) (fun _ => 0) _ _ _ (by omega) (by omega) ⟨by omega, by omega, Nat.le_refl 0, Nat.le_refl 0, Nat.le_refl 0, by decide +kernel, by8_0, str_0 hv.1 hv.2, mdr_0 hv.1 hv.2, fun j q => rfl, hP, hD, hS, lv_sub hl [3, 2, 1, 0] rfl⟩
end
section
set_option maxHeartbeats 4000000 in
theorem lw_walk (l : Launch) (b : Addr) (xs : List Int32) : MetFree l x (headSpec (Jvm.Cond.code x code maxLocals ret :: tables_1) room_1) (lw_P b xs) (fun _ _ _ _ _ => True) lw_Q := by
  refine MetFree.of_bodyS (code := code) (maxLocals := maxLocals) (ret := ret) (by decide) ?_ ?_
  · intro args s m h hn
    obtain ⟨meth, c, h1, h2, h3, h4, h5, h6, -, -⟩ := Cond.code_spec hn (atoms_spec (ws := Jvm.Cond.code x code maxLocals ret :: tables_1) h _ List.mem_cons_self)
    exact ⟨meth, c, h1, h2, h3, h4, h5, h6⟩
  · intro p e s m args below meth c s₁ B hml0 hP _
    obtain ⟨rfl, hx, hbd, hgv⟩ := hP
    obtain ⟨scr, harrAt, hlist, hof, hsmall⟩ := hx
    obtain ⟨hcb, hkn, -, -⟩ := State.arrayAt?_spec harrAt
    have hown : s.vm.findClass R_law = some m.cls := findClass_of_methodNamed B.named
    have hts0 : ∀ c ∈ (Jvm.Cond.code x code maxLocals ret :: tables_1), c.before #[Value.ref b] s = true := atoms_spec (ws := Jvm.Cond.code x code maxLocals ret :: tables_1) B.pre
    have hts : ∀ w ∈ lw_tbl, w.before #[Value.ref b] s = true := k2_hts_sels lw_privs (fun w hw => hts0 w (List.mem_cons_of_mem _ hw)) lw_privs_ok
    have hml : c.maxLocals = 4 := B.maxLocals_eq (hts0 _ List.mem_cons_self)
    have X₀ : Stand p l e room_1 s m #[Value.ref b] below meth c s₁ [] 0 0 := Stand.of_body B
    have hh0 : s₁.heap = s.heap := by rw [B.state]; rfl
    have hsz : scr.slots.size = xs.length := by rw [← Array.length_toList, hlist, List.length_map]
    have hval : ∀ j : Nat, j < xs.length → scr.slots[j]? = some (.int (xs.getD j 0)) := fun j hj => by
      rw [← Array.getElem?_toList, hlist]
      simp [hj]
    have hbl : b < s.heap.size := (Array.getElem?_eq_some_iff.mp hcb).1
    have hX : va_X b xs.length (fun j => xs.getD j 0) s s.heap := ⟨scr, hcb, hof, hkn, hsz, hval⟩
    have K : W p l e room_1 s m #[Value.ref b] below meth c s₁.heap [] 0 0 (lw_Z below #[Value.ref b] s) (entryFrame m ([Value.ref b] : List Value).toArray 4) := by
      rw [hh0]
      exact whole_start l hbd ⟨B.exec, B.bytes, B.returns, hml, hown, hts, hX, hbl, B.notSynchronized, hgv⟩
    obtain ⟨t, a1, o, b1, b2, b3⟩ := K s₁ rfl X₀
    exact ⟨t, o, a1, b1, b2, b3⟩
theorem lw_pre_spec {args : Array Value} {s : State} (h : (Jvm.Cond.and given_1 narrow_1).before args s = true) (hr : rest_1_c.before args s = true) : ∃ (b : Addr) (xs : List Int32), lw_P b xs args s := by
  have hs := flat_of_before _ h
  have hq := flat_of_before _ hr
  have hc : (Cond.count 1).before args s = true := hs _ (by decide +kernel)
  have harr : (Cond.arrayOf (.arg 0) .int).before args s = true := hs _ (by decide +kernel)
  have hle : (Cond.le (.length (.arg 0)) (.int 1537)).before args s = true := hs _ (by decide +kernel)
  have hlen : (Cond.isInt (.length (.arg 0))).before args s = true := hq _ (by decide +kernel)
  have hall : (Cond.all (.arg 0) (.isInt (.elem (.arg 0) (.index 0)))).before args s = true := hq _ (by decide +kernel)
  obtain ⟨b, xs, hb, hx⟩ := State.ints_of_pre rfl harr hlen hall
  have hsm : xs.length < 2 ^ 31 := hx.choose_spec.2.2.2
  have hev : (Term.length (.arg 0)).eval args s none [] s = some (.int xs.length.toInt32) := hx.length_eval hb
  have hv := Cond.le_ints hev (show (Term.int 1537).eval args s none [] s = some (.int 1537) from rfl)
  have hd : xs.length.toInt32 ≤ 1537 := by
    simpa [Cond.before, Cond.holds, hv] using hle
  have hN : xs.length ≤ 1537 := (Int32.ofNat_le_ofNat hsm (by decide)).mp (show Int32.ofNat xs.length ≤ Int32.ofNat 1537 from hd)
  exact ⟨b, xs, Cond.one_arg hc (show args[0]? = some (.ref b) from hb), hx, hN, h⟩
theorem lw_comes (l : Launch) : Comes l x (Jvm.Cond.code x code maxLocals ret :: tables_1) room_1 (fun tb e args s => Calls_1 tb e args s ∧ rest_1 tb e args s ∧ Pre_1 tb e args s)
    (fun _ _ args s o t => lw_Q args s o t) := by
  intro p e ha hc hk s m args below hf hfit hheap happ hpre
  obtain ⟨b, xs, hP⟩ := lw_pre_spec hpre.2.2 hpre.2.1
  obtain ⟨k, o, h1, h2, h3, hQ⟩ := lw_walk l b xs p e ha hc hk s m args below hf ((Spec.applies_iff_loose hf).mp happ).1 hP trivial
  exact ⟨k, o, h1, h2, h3, hQ⟩
theorem lw_frame {s t : State} {o : Outcome} {args : Array Value} (h : Framed s o t [] 600000 7302250) :
    Framed s o t (fieldLocs frame_1_writes args s ++ arrayLocs frame_1_arrays args s ++ staticLocs frame_1_statics s) 600000 7302250 := h
theorem lw_limb (L : Cond) (hL : ∀ (args : Array Value) (s t : State), L.after args s (.returned (some (.int 1))) t = true) :
    ArmFor flags0 classFile x code maxLocals ret World_1 tables_1 room_1 Calls_1 rest_1 Pre_1
      (fun tb e a s o t => postC L tb e a s o t ∧ Framed s o t (fieldLocs frame_1_writes a s ++ arrayLocs frame_1_arrays a s ++ staticLocs frame_1_statics s) 600000 7302250) := by
  intro l _ _ _ p e ha hc hk s m args below hf hfit hheap happ hpre
  obtain ⟨k, o, h1, h2, h3, rfl, hF⟩ := lw_comes l p e ha hc hk s m args below hf hfit hheap happ hpre
  exact ⟨k, _, h1, h2, h3, hL args s _, lw_frame hF⟩
theorem i_vc : Claimed_1_1 ∧ Claimed_1_2 := ⟨lw_limb limb_1_1 (fun args s t => by simp [limb_1_1, Cond.after, Cond.holds, Cond.value]), lw_limb limb_1_2 (fun args s t => Cond.after_iff.mpr (by
  first | (rw [show limb_1_2 = Cond.eq .result (.int 1) from rfl, Cond.eq_ints (x := 1) (y := 1) rfl rfl]; simp; done) | (simp [limb_1_2, Cond.value, Term.eval]; done)))⟩
end
