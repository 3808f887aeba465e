section
-- ===== PART A: goes FIRST, ahead of the names: the tables' words, and 'selects' of the private methods out of them =====
/-- a private method of a class that the tables say can be made, by its rows of tables_1 -/
def lw_okq (q : MethodName × Nat) : Prop := (q.1.cls ≠ "java/lang/invoke/MethodHandle" ∧ q.1.cls ≠ "java/lang/invoke/VarHandle") ∧ Cond.instantiable q.1.cls q.2 ∈ tables_1 ∧ Cond.privateMethod q.1 ∈ tables_1 ∧ Cond.instanceMethod q.1 ∈ tables_1
theorem lw_p0 : lw_okq (⟨"TriangleRaster", "turn", "()J"⟩, 11) := ⟨⟨by decide +kernel, by decide +kernel⟩, List.mem_of_getElem? (i := 7) (by decide +kernel), List.mem_of_getElem? (i := 94) (by decide +kernel), List.mem_of_getElem? (i := 95) (by decide +kernel)⟩
theorem lw_p1 : lw_okq (⟨"TriangleRaster", "write", "(IJI)Z"⟩, 11) := ⟨⟨by decide +kernel, by decide +kernel⟩, List.mem_of_getElem? (i := 7) (by decide +kernel), List.mem_of_getElem? (i := 114) (by decide +kernel), List.mem_of_getElem? (i := 115) (by decide +kernel)⟩
theorem lw_p2 : lw_okq (⟨"TriangleRaster", "set", "(III)Z"⟩, 11) := ⟨⟨by decide +kernel, by decide +kernel⟩, List.mem_of_getElem? (i := 7) (by decide +kernel), List.mem_of_getElem? (i := 140) (by decide +kernel), List.mem_of_getElem? (i := 141) (by decide +kernel)⟩
theorem lw_p3 : lw_okq (⟨"TriangleRaster", "isPixel", "(II)Z"⟩, 11) := ⟨⟨by decide +kernel, by decide +kernel⟩, List.mem_of_getElem? (i := 7) (by decide +kernel), List.mem_of_getElem? (i := 144) (by decide +kernel), List.mem_of_getElem? (i := 145) (by decide +kernel)⟩
theorem lw_p4 : lw_okq (⟨"TriangleRaster", "forget", "()V"⟩, 11) := ⟨⟨by decide +kernel, by decide +kernel⟩, List.mem_of_getElem? (i := 7) (by decide +kernel), List.mem_of_getElem? (i := 152) (by decide +kernel), List.mem_of_getElem? (i := 153) (by decide +kernel)⟩
theorem lw_p5 : lw_okq (⟨"TriangleRaster", "spread", "(I)I"⟩, 11) := ⟨⟨by decide +kernel, by decide +kernel⟩, List.mem_of_getElem? (i := 7) (by decide +kernel), List.mem_of_getElem? (i := 156) (by decide +kernel), List.mem_of_getElem? (i := 157) (by decide +kernel)⟩
theorem lw_p6 : lw_okq (⟨"TriangleRaster", "push", "(III)I"⟩, 11) := ⟨⟨by decide +kernel, by decide +kernel⟩, List.mem_of_getElem? (i := 7) (by decide +kernel), List.mem_of_getElem? (i := 160) (by decide +kernel), List.mem_of_getElem? (i := 161) (by decide +kernel)⟩
theorem lw_p7 : lw_okq (⟨"TriangleRasterModel", "isCovered", "(II)Z"⟩, 8) := ⟨⟨by decide +kernel, by decide +kernel⟩, List.mem_of_getElem? (i := 183) (by decide +kernel), List.mem_of_getElem? (i := 231) (by decide +kernel), List.mem_of_getElem? (i := 232) (by decide +kernel)⟩
theorem lw_p8 : lw_okq (⟨"TriangleRasterModel", "area", "()J"⟩, 8) := ⟨⟨by decide +kernel, by decide +kernel⟩, List.mem_of_getElem? (i := 183) (by decide +kernel), List.mem_of_getElem? (i := 237) (by decide +kernel), List.mem_of_getElem? (i := 238) (by decide +kernel)⟩
theorem lw_p9 : lw_okq (⟨"TriangleRasterModel", "edge", "(IIJJ)J"⟩, 8) := ⟨⟨by decide +kernel, by decide +kernel⟩, List.mem_of_getElem? (i := 183) (by decide +kernel), List.mem_of_getElem? (i := 241) (by decide +kernel), List.mem_of_getElem? (i := 242) (by decide +kernel)⟩
theorem lw_p10 : lw_okq (⟨"TriangleRasterModel", "isInside", "(IIJJ)Z"⟩, 8) := ⟨⟨by decide +kernel, by decide +kernel⟩, List.mem_of_getElem? (i := 183) (by decide +kernel), List.mem_of_getElem? (i := 245) (by decide +kernel), List.mem_of_getElem? (i := 246) (by decide +kernel)⟩
theorem lw_p11 : lw_okq (⟨"TriangleRasterModel", "isTopOrLeft", "(II)Z"⟩, 8) := ⟨⟨by decide +kernel, by decide +kernel⟩, List.mem_of_getElem? (i := 183) (by decide +kernel), List.mem_of_getElem? (i := 249) (by decide +kernel), List.mem_of_getElem? (i := 250) (by decide +kernel)⟩
theorem lw_p12 : lw_okq (⟨"TriangleRasterModel", "depthOf", "(II)I"⟩, 8) := ⟨⟨by decide +kernel, by decide +kernel⟩, List.mem_of_getElem? (i := 183) (by decide +kernel), List.mem_of_getElem? (i := 253) (by decide +kernel), List.mem_of_getElem? (i := 254) (by decide +kernel)⟩
theorem lw_p13 : lw_okq (⟨"TriangleRasterModel", "isPixel", "(II)Z"⟩, 8) := ⟨⟨by decide +kernel, by decide +kernel⟩, List.mem_of_getElem? (i := 183) (by decide +kernel), List.mem_of_getElem? (i := 269) (by decide +kernel), List.mem_of_getElem? (i := 270) (by decide +kernel)⟩
theorem lw_p14 : lw_okq (⟨"TriangleRasterModel", "unmark", "()V"⟩, 8) := ⟨⟨by decide +kernel, by decide +kernel⟩, List.mem_of_getElem? (i := 183) (by decide +kernel), List.mem_of_getElem? (i := 277) (by decide +kernel), List.mem_of_getElem? (i := 278) (by decide +kernel)⟩
theorem lw_p15 : lw_okq (⟨"TriangleRasterModel", "mark", "(II)I"⟩, 8) := ⟨⟨by decide +kernel, by decide +kernel⟩, List.mem_of_getElem? (i := 183) (by decide +kernel), List.mem_of_getElem? (i := 281) (by decide +kernel), List.mem_of_getElem? (i := 282) (by decide +kernel)⟩
def lw_privs_1 : List (MethodName × Nat) := [(⟨"TriangleRaster", "turn", "()J"⟩, 11), (⟨"TriangleRaster", "write", "(IJI)Z"⟩, 11), (⟨"TriangleRaster", "set", "(III)Z"⟩, 11), (⟨"TriangleRaster", "isPixel", "(II)Z"⟩, 11), (⟨"TriangleRaster", "forget", "()V"⟩, 11), (⟨"TriangleRaster", "spread", "(I)I"⟩, 11), (⟨"TriangleRaster", "push", "(III)I"⟩, 11), (⟨"TriangleRasterModel", "isCovered", "(II)Z"⟩, 8), (⟨"TriangleRasterModel", "area", "()J"⟩, 8), (⟨"TriangleRasterModel", "edge", "(IIJJ)J"⟩, 8), (⟨"TriangleRasterModel", "isInside", "(IIJJ)Z"⟩, 8), (⟨"TriangleRasterModel", "isTopOrLeft", "(II)Z"⟩, 8), (⟨"TriangleRasterModel", "depthOf", "(II)I"⟩, 8), (⟨"TriangleRasterModel", "isPixel", "(II)Z"⟩, 8), (⟨"TriangleRasterModel", "unmark", "()V"⟩, 8), (⟨"TriangleRasterModel", "mark", "(II)I"⟩, 8)]
theorem lw_r1 : ∀ q ∈ lw_privs_1, lw_okq q := List.forall_mem_cons.mpr ⟨lw_p0, List.forall_mem_cons.mpr ⟨lw_p1, List.forall_mem_cons.mpr ⟨lw_p2, List.forall_mem_cons.mpr ⟨lw_p3, List.forall_mem_cons.mpr ⟨lw_p4, List.forall_mem_cons.mpr ⟨lw_p5, List.forall_mem_cons.mpr ⟨lw_p6, List.forall_mem_cons.mpr ⟨lw_p7, List.forall_mem_cons.mpr ⟨lw_p8, List.forall_mem_cons.mpr ⟨lw_p9, List.forall_mem_cons.mpr ⟨lw_p10, List.forall_mem_cons.mpr ⟨lw_p11, List.forall_mem_cons.mpr ⟨lw_p12, List.forall_mem_cons.mpr ⟨lw_p13, List.forall_mem_cons.mpr ⟨lw_p14, List.forall_mem_cons.mpr ⟨lw_p15, fun _ h => absurd h List.not_mem_nil⟩⟩⟩⟩⟩⟩⟩⟩⟩⟩⟩⟩⟩⟩⟩⟩
def lw_privs : List (MethodName × Nat) := lw_privs_1
def lw_tbl : List Cond := k2_sels lw_privs ++ tables_1
theorem lw_privs_ok : ∀ q ∈ lw_privs, lw_okq q := lw_r1
/-! THE CLAIM OUT OF ONE WALK OF THE LAW'S BODY. Your part is whole_start (and what it stands on); all else here is the same for every law, but numbers. -/
def R_law : String := "TriangleRasterLaw"
def lw_P (b : Addr) (xs : List Int32) (args : Array Value) (s : State) : Prop := args = #[.ref b] ∧ s.IntsAt b xs ∧ xs.length ≤ 3074 ∧ (Jvm.Cond.and given_1 narrow_1).before args s = true
def lw_Q (_ : Array Value) (s : State) (o : Outcome) (t : State) : Prop := o = .returned (some (.int 1)) ∧ Framed s o t [] 600000 7302250
def lw_Z (below : List Frame) (a : Array Value) (s : State) : State → Prop := fun t => ∃ o, t.status = .running ∧ Ended t below o ∧ lw_Q a s o t
/-- the law's own end, with 1 on the stack, nothing written that was there before, its room as the claim has it -/
theorem lw_ret {p : Program} {l : Launch} {e : Env} {s : State} {m : MethodId} {below : List Frame} {meth : Method} {c : Code} {b : Nat} (hx : p.tables.exec = Jvm.exec) (hb : c.code = code) (hr : meth.sig.returnType = ret) (hlocks : meth.locks = false) {pc : Nat} {H : Heap} {ls : Array Slot} (hdg : decode code pc = .ok (.ireturn, 1)) : W p l e room_1 s m #[Value.ref b] below meth c H [] 600000 7302250 (lw_Z below #[Value.ref b] s) (F0 m pc ls [.int 1]) := by
  intro T hT X
  obtain ⟨fs, hret, hrun, hended, hW, hframe⟩ := X.leave (v := some (.int 1)) (hlocks := hlocks) (fun h => by rw [hr] at h; cases h)
  have hmeth' : T.vm.method? m = some meth := X.method'
  refine ⟨T.setFrames fs, ?_, .returned (some (.int 1)), hrun, hended, rfl, ⟨_, rfl⟩, hW, hframe⟩
  jvm_step X.here [X.here.top, hx, hb, hdg, hmeth', hr, ret, narrow_b1]
  (try refine ⟨rfl, ?_⟩); (try refine ⟨rfl, ?_⟩)
  first | (intro acts; rw [hret _ acts rfl rfl rfl]) | rw [hret _ _ rfl rfl rfl]
  exact Steps.refl _
/-- what holds at the law's entry: the machine, the code, the tables' words (any of lw_tbl by 'hts w (by decide +kernel)'), the script of L ints xs at the cell b, what the Statement gives of the start (any of its parts by flat_of_before) -/
def lw_At (p : Program) (s : State) (m : MethodId) (meth : Method) (c : Code) (b L : Nat) (xs : Nat → Int32) : Prop :=
  p.tables.exec = Jvm.exec ∧ c.code = code ∧ meth.sig.returnType = ret ∧ c.maxLocals = 4 ∧ s.vm.findClass R_law = some m.cls ∧ (∀ w ∈ lw_tbl, w.before #[Value.ref b] s = true) ∧ va_X b L xs s s.heap ∧ b < s.heap.size ∧ meth.locks = false ∧ (Jvm.Cond.and given_1 narrow_1).before #[Value.ref b] s = true
-- ===== names =====
def R_TR : String := "TriangleRaster"
def F_TR : u_T := fun k => match k with
  | 0 => ("TriangleRaster", "w", "I", true)
  | 1 => ("TriangleRaster", "h", "I", true)
  | 2 => ("TriangleRaster", "colors", "[I", true)
  | 3 => ("TriangleRaster", "depths", "[C", true)
  | 4 => ("TriangleRaster", "stack", "[S", true)
  | 5 => ("TriangleRaster", "seen", "[Z", true)
  | 6 => ("TriangleRaster", "xs", "[I", true)
  | 7 => ("TriangleRaster", "ys", "[I", true)
  | 8 => ("TriangleRaster", "zs", "[I", true)
  | 9 => ("TriangleRaster", "edges", "[LTriangleRaster$Edge;", true)
  | _ => ("TriangleRaster", "order", "[I", true)
def t_TR : Nat → FieldType := fun k => match k with
  | 0 => .int
  | 1 => .int
  | 2 => .array .int
  | 3 => .array .char
  | 4 => .array .short
  | 5 => .array .boolean
  | 6 => .array .int
  | 7 => .array .int
  | 8 => .array .int
  | 9 => .array (.object "TriangleRaster$Edge")
  | _ => .array .int
theorem n_TR : ∀ a, a < 11 → ∀ b, b < 11 → a ≠ b → (F_TR a).2.1 ≠ (F_TR b).2.1 := by decide +kernel
theorem t_TR_ok : ∀ k, k < 11 → parseFieldDescriptor (F_TR k).2.2.1 = some (t_TR k) := by decide +kernel
def R_Ed : String := "TriangleRaster$Edge"
def F_Ed : u_T := fun k => match k with
  | 0 => ("TriangleRaster$Edge", "now", "J", false)
  | 1 => ("TriangleRaster$Edge", "right", "J", false)
  | 2 => ("TriangleRaster$Edge", "down", "J", false)
  | 3 => ("TriangleRaster$Edge", "begin", "J", false)
  | _ => ("TriangleRaster$Edge", "least", "I", false)
def t_Ed : Nat → FieldType := fun k => match k with
  | 0 => .long
  | 1 => .long
  | 2 => .long
  | 3 => .long
  | _ => .int
theorem n_Ed : ∀ a, a < 5 → ∀ b, b < 5 → a ≠ b → (F_Ed a).2.1 ≠ (F_Ed b).2.1 := by decide +kernel
theorem t_Ed_ok : ∀ k, k < 5 → parseFieldDescriptor (F_Ed k).2.2.1 = some (t_Ed k) := by decide +kernel
def R_TM : String := "TriangleRasterModel"
def F_TM : u_T := fun k => match k with
  | 0 => ("TriangleRasterModel", "w", "I", true)
  | 1 => ("TriangleRasterModel", "h", "I", true)
  | 2 => ("TriangleRasterModel", "colours", "[I", true)
  | 3 => ("TriangleRasterModel", "depths", "[I", true)
  | 4 => ("TriangleRasterModel", "xs", "[I", true)
  | 5 => ("TriangleRasterModel", "ys", "[I", true)
  | 6 => ("TriangleRasterModel", "zs", "[I", true)
  | _ => ("TriangleRasterModel", "marks", "[Z", true)
def t_TM : Nat → FieldType := fun k => match k with
  | 0 => .int
  | 1 => .int
  | 2 => .array .int
  | 3 => .array .int
  | 4 => .array .int
  | 5 => .array .int
  | 6 => .array .int
  | _ => .array .boolean
theorem n_TM : ∀ a, a < 8 → ∀ b, b < 8 → a ≠ b → (F_TM a).2.1 ≠ (F_TM b).2.1 := by decide +kernel
theorem t_TM_ok : ∀ k, k < 8 → parseFieldDescriptor (F_TM k).2.2.1 = some (t_TM k) := by decide +kernel
abbrev cls3 : List vw_C := [(R_TR, F_TR, 11), (R_Ed, F_Ed, 5), (R_TM, F_TM, 8)]
def tys (ta : Nat → ClassId) : List (ClassId × FieldType) := [(ta 0, .int), (ta 1, .char), (ta 2, .short), (ta 3, .boolean), (ta 4, .object "TriangleRaster$Edge")]
/-- the tables' words that hold on in every warmed state -/
def gw : List Cond := lw_tbl.filter goodWord
theorem gw_good : GoodIn gw gw := fun w h => ⟨h, good_of_word (List.mem_filter.mp h).2⟩
theorem gw_of {w : Cond} (i : Nat) (h : lw_tbl[i]? = some w) (hg : goodWord w = true) : w ∈ gw := List.mem_filter.mpr ⟨List.mem_of_getElem? h, hg⟩
abbrev b_TR_init : ByteArray := prog_1_method_1_code
def y_TR_init : MethodName := ⟨"TriangleRaster", "<init>", "(II)V"⟩
abbrev b_Ed_init : ByteArray := prog_2_method_1_code
def y_Ed_init : MethodName := ⟨"TriangleRaster$Edge", "<init>", "()V"⟩
abbrev b_TR_clear : ByteArray := prog_1_method_4_code
def y_TR_clear : MethodName := ⟨"TriangleRaster", "clear", "(II)Z"⟩
abbrev b_TR_vertex : ByteArray := prog_1_method_5_code
def y_TR_vertex : MethodName := ⟨"TriangleRaster", "vertex", "(IIII)Z"⟩
abbrev b_TR_isFar : ByteArray := prog_1_method_3_code
def y_TR_isFar : MethodName := ⟨"TriangleRaster", "isFar", "(I)Z"⟩
abbrev b_TR_triangle : ByteArray := prog_1_method_7_code
def y_TR_triangle : MethodName := ⟨"TriangleRaster", "triangle", "(I)I"⟩
abbrev b_TR_turn : ByteArray := prog_1_method_6_code
def y_TR_turn : MethodName := ⟨"TriangleRaster", "turn", "()J"⟩
abbrev b_Ed_set : ByteArray := prog_2_method_2_code
def y_Ed_set : MethodName := ⟨"TriangleRaster$Edge", "set", "(IIII)V"⟩
abbrev b_Ma_absL : ByteArray := prog_6_method_61_code
def y_Ma_absL : MethodName := ⟨"java/lang/Math", "abs", "(J)J"⟩
abbrev b_Ed_toRow : ByteArray := prog_2_method_3_code
def y_Ed_toRow : MethodName := ⟨"TriangleRaster$Edge", "toRow", "(I)V"⟩
abbrev b_Ed_isIn : ByteArray := prog_2_method_5_code
def y_Ed_isIn : MethodName := ⟨"TriangleRaster$Edge", "isIn", "()Z"⟩
abbrev b_TR_write : ByteArray := prog_1_method_8_code
def y_TR_write : MethodName := ⟨"TriangleRaster", "write", "(IJI)Z"⟩
abbrev b_Ed_toRight : ByteArray := prog_2_method_4_code
def y_Ed_toRight : MethodName := ⟨"TriangleRaster$Edge", "toRight", "()V"⟩
abbrev b_TR_covers : ByteArray := prog_1_method_9_code
def y_TR_covers : MethodName := ⟨"TriangleRaster", "covers", "(II)Z"⟩
abbrev b_Ed_isIn2 : ByteArray := prog_2_method_6_code
def y_Ed_isIn2 : MethodName := ⟨"TriangleRaster$Edge", "isIn", "(II)Z"⟩
abbrev b_TR_line : ByteArray := prog_1_method_11_code
def y_TR_line : MethodName := ⟨"TriangleRaster", "line", "(IIIII)I"⟩
abbrev b_Ma_abs : ByteArray := prog_6_method_59_code
def y_Ma_abs : MethodName := ⟨"java/lang/Math", "abs", "(I)I"⟩
abbrev b_In_signum : ByteArray := prog_5_method_56_code
def y_In_signum : MethodName := ⟨"java/lang/Integer", "signum", "(I)I"⟩
abbrev b_TR_set : ByteArray := prog_1_method_10_code
def y_TR_set : MethodName := ⟨"TriangleRaster", "set", "(III)Z"⟩
abbrev b_TR_isPixel : ByteArray := prog_1_method_2_code
def y_TR_isPixel : MethodName := ⟨"TriangleRaster", "isPixel", "(II)Z"⟩
abbrev b_TR_fill : ByteArray := prog_1_method_15_code
def y_TR_fill : MethodName := ⟨"TriangleRaster", "fill", "(III)I"⟩
abbrev b_TR_forget : ByteArray := prog_1_method_14_code
def y_TR_forget : MethodName := ⟨"TriangleRaster", "forget", "()V"⟩
abbrev b_TR_spread : ByteArray := prog_1_method_12_code
def y_TR_spread : MethodName := ⟨"TriangleRaster", "spread", "(I)I"⟩
abbrev b_TR_push : ByteArray := prog_1_method_13_code
def y_TR_push : MethodName := ⟨"TriangleRaster", "push", "(III)I"⟩
abbrev b_TR_pixel : ByteArray := prog_1_method_16_code
def y_TR_pixel : MethodName := ⟨"TriangleRaster", "pixel", "(II)I"⟩
abbrev b_TR_depthAt : ByteArray := prog_1_method_17_code
def y_TR_depthAt : MethodName := ⟨"TriangleRaster", "depthAt", "(II)I"⟩
abbrev b_TR_count : ByteArray := prog_1_method_18_code
def y_TR_count : MethodName := ⟨"TriangleRaster", "count", "(I)I"⟩
abbrev b_TR_pieces : ByteArray := prog_1_method_19_code
def y_TR_pieces : MethodName := ⟨"TriangleRaster", "pieces", "(I)I"⟩
abbrev b_LW_cell : ByteArray := method_2_code
def y_LW_cell : MethodName := ⟨"TriangleRasterLaw", "cell", "([II)I"⟩
abbrev b_TM_init : ByteArray := prog_4_method_1_code
def y_TM_init : MethodName := ⟨"TriangleRasterModel", "<init>", "(II)V"⟩
abbrev b_TM_clear : ByteArray := prog_4_method_4_code
def y_TM_clear : MethodName := ⟨"TriangleRasterModel", "clear", "(II)Z"⟩
abbrev b_TM_vertex : ByteArray := prog_4_method_6_code
def y_TM_vertex : MethodName := ⟨"TriangleRasterModel", "vertex", "(IIII)Z"⟩
abbrev b_TM_isFar : ByteArray := prog_4_method_5_code
def y_TM_isFar : MethodName := ⟨"TriangleRasterModel", "isFar", "(I)Z"⟩
abbrev b_TM_triangle : ByteArray := prog_4_method_13_code
def y_TM_triangle : MethodName := ⟨"TriangleRasterModel", "triangle", "(I)I"⟩
abbrev b_TM_isCovered : ByteArray := prog_4_method_11_code
def y_TM_isCovered : MethodName := ⟨"TriangleRasterModel", "isCovered", "(II)Z"⟩
abbrev b_TM_area : ByteArray := prog_4_method_8_code
def y_TM_area : MethodName := ⟨"TriangleRasterModel", "area", "()J"⟩
abbrev b_TM_edge : ByteArray := prog_4_method_7_code
def y_TM_edge : MethodName := ⟨"TriangleRasterModel", "edge", "(IIJJ)J"⟩
abbrev b_TM_isInside : ByteArray := prog_4_method_10_code
def y_TM_isInside : MethodName := ⟨"TriangleRasterModel", "isInside", "(IIJJ)Z"⟩
abbrev b_TM_isTopOrLeft : ByteArray := prog_4_method_9_code
def y_TM_isTopOrLeft : MethodName := ⟨"TriangleRasterModel", "isTopOrLeft", "(II)Z"⟩
abbrev b_TM_depthOf : ByteArray := prog_4_method_12_code
def y_TM_depthOf : MethodName := ⟨"TriangleRasterModel", "depthOf", "(II)I"⟩
abbrev b_TM_covers : ByteArray := prog_4_method_14_code
def y_TM_covers : MethodName := ⟨"TriangleRasterModel", "covers", "(II)Z"⟩
abbrev b_TM_line : ByteArray := prog_4_method_16_code
def y_TM_line : MethodName := ⟨"TriangleRasterModel", "line", "(IIIII)I"⟩
abbrev b_TM_sign : ByteArray := prog_4_method_15_code
def y_TM_sign : MethodName := ⟨"TriangleRasterModel", "sign", "(I)I"⟩
abbrev b_TM_isPixel : ByteArray := prog_4_method_3_code
def y_TM_isPixel : MethodName := ⟨"TriangleRasterModel", "isPixel", "(II)Z"⟩
abbrev b_TM_fill : ByteArray := prog_4_method_19_code
def y_TM_fill : MethodName := ⟨"TriangleRasterModel", "fill", "(III)I"⟩
abbrev b_TM_unmark : ByteArray := prog_4_method_18_code
def y_TM_unmark : MethodName := ⟨"TriangleRasterModel", "unmark", "()V"⟩
abbrev b_TM_mark : ByteArray := prog_4_method_17_code
def y_TM_mark : MethodName := ⟨"TriangleRasterModel", "mark", "(II)I"⟩
abbrev b_TM_pieces : ByteArray := prog_4_method_20_code
def y_TM_pieces : MethodName := ⟨"TriangleRasterModel", "pieces", "(I)I"⟩
abbrev b_TM_pixel : ByteArray := prog_4_method_21_code
def y_TM_pixel : MethodName := ⟨"TriangleRasterModel", "pixel", "(II)I"⟩
abbrev b_TM_depthAt : ByteArray := prog_4_method_22_code
def y_TM_depthAt : MethodName := ⟨"TriangleRasterModel", "depthAt", "(II)I"⟩
abbrev b_TM_count : ByteArray := prog_4_method_23_code
def y_TM_count : MethodName := ⟨"TriangleRasterModel", "count", "(I)I"⟩
theorem g_0 : Cond.initialized "TriangleRasterLaw" ∈ gw := gw_of 16 rfl rfl
theorem g_1 : Cond.initialized "TriangleRaster" ∈ gw := gw_of 17 rfl rfl
theorem g_2 : Cond.initialized "TriangleRaster$Edge" ∈ gw := gw_of 18 rfl rfl
theorem g_3 : Cond.initialized "TriangleRasterModel" ∈ gw := gw_of 19 rfl rfl
theorem g_4 : Cond.initialized "java/lang/Math" ∈ gw := gw_of 20 rfl rfl
theorem g_5 : Cond.initialized "java/lang/Integer" ∈ gw := gw_of 21 rfl rfl
theorem g_6 : Cond.classLink "TriangleRasterLaw" 7 "TriangleRaster" ∈ gw := gw_of 22 rfl rfl
theorem g_7 : Cond.instantiable "TriangleRaster" 11 ∈ gw := gw_of 23 rfl rfl
theorem g_8 : Cond.methodLink "TriangleRasterLaw" 15 y_TR_init ∈ gw := gw_of 24 rfl rfl
theorem g_9 : Cond.instanceMethod y_TR_init ∈ gw := gw_of 25 rfl rfl
theorem g_10 : Cond.code y_TR_init b_TR_init 4 none ∈ gw := gw_of 26 rfl rfl
theorem g_11 : Cond.methodLink "TriangleRaster" 1 objectInit ∈ gw := gw_of 27 rfl rfl
theorem g_12 : Cond.instanceMethod objectInit ∈ gw := gw_of 28 rfl rfl
theorem g_13 : Cond.code objectInit ⟨#[0xb1]⟩ 1 none ∈ gw := gw_of 29 rfl rfl
theorem g_14 : Cond.classLink "TriangleRaster" 34 "TriangleRaster$Edge" ∈ gw := gw_of 30 rfl rfl
theorem g_16 : Cond.instantiable "TriangleRaster$Edge" 5 ∈ gw := gw_of 32 rfl rfl
theorem g_18 : Cond.instanceMethod y_Ed_init ∈ gw := gw_of 34 rfl rfl
theorem g_19 : Cond.code y_Ed_init b_Ed_init 1 none ∈ gw := gw_of 35 rfl rfl
theorem g_20 : Cond.methodLink "TriangleRaster$Edge" 3 objectInit ∈ gw := gw_of 36 rfl rfl
theorem g_21 : Cond.fieldLink "TriangleRaster$Edge" 27 "TriangleRaster$Edge" "now" "J" ∈ gw := gw_of 37 rfl rfl
theorem g_22 : Cond.fieldLink "TriangleRaster" 86 "TriangleRaster$Edge" "now" "J" ∈ gw := gw_of 38 rfl rfl
theorem g_23 : Cond.fieldLink "TriangleRaster$Edge" 17 "TriangleRaster$Edge" "right" "J" ∈ gw := gw_of 39 rfl rfl
theorem g_24 : Cond.fieldLink "TriangleRaster$Edge" 20 "TriangleRaster$Edge" "down" "J" ∈ gw := gw_of 40 rfl rfl
theorem g_25 : Cond.fieldLink "TriangleRaster$Edge" 9 "TriangleRaster$Edge" "begin" "J" ∈ gw := gw_of 41 rfl rfl
theorem g_26 : Cond.fieldLink "TriangleRaster$Edge" 23 "TriangleRaster$Edge" "least" "I" ∈ gw := gw_of 42 rfl rfl
theorem g_38 : Cond.arrayClass .int ∈ gw := gw_of 54 rfl rfl
theorem g_39 : Cond.arrayClass .char ∈ gw := gw_of 55 rfl rfl
theorem g_40 : Cond.arrayClass .short ∈ gw := gw_of 56 rfl rfl
theorem g_41 : Cond.arrayClass .boolean ∈ gw := gw_of 57 rfl rfl
theorem g_42 : Cond.fieldLink "TriangleRaster" 43 "TriangleRaster" "w" "I" ∈ gw := gw_of 58 rfl rfl
theorem g_43 : Cond.fieldLink "TriangleRaster" 47 "TriangleRaster" "h" "I" ∈ gw := gw_of 59 rfl rfl
theorem g_44 : Cond.fieldLink "TriangleRaster" 7 "TriangleRaster" "colors" "[I" ∈ gw := gw_of 60 rfl rfl
theorem g_45 : Cond.fieldLink "TriangleRaster" 13 "TriangleRaster" "depths" "[C" ∈ gw := gw_of 61 rfl rfl
theorem g_46 : Cond.fieldLink "TriangleRaster" 17 "TriangleRaster" "stack" "[S" ∈ gw := gw_of 62 rfl rfl
theorem g_47 : Cond.fieldLink "TriangleRaster" 21 "TriangleRaster" "seen" "[Z" ∈ gw := gw_of 63 rfl rfl
theorem g_48 : Cond.fieldLink "TriangleRaster" 25 "TriangleRaster" "xs" "[I" ∈ gw := gw_of 64 rfl rfl
theorem g_49 : Cond.fieldLink "TriangleRaster" 28 "TriangleRaster" "ys" "[I" ∈ gw := gw_of 65 rfl rfl
theorem g_50 : Cond.fieldLink "TriangleRaster" 31 "TriangleRaster" "zs" "[I" ∈ gw := gw_of 66 rfl rfl
theorem g_51 : Cond.fieldLink "TriangleRaster" 36 "TriangleRaster" "edges" "[LTriangleRaster$Edge;" ∈ gw := gw_of 67 rfl rfl
theorem g_52 : Cond.fieldLink "TriangleRaster" 40 "TriangleRaster" "order" "[I" ∈ gw := gw_of 68 rfl rfl
theorem g_76 : Cond.methodLink "TriangleRasterLaw" 21 y_TR_clear ∈ gw := gw_of 92 rfl rfl
theorem g_77 : Cond.instanceMethod y_TR_clear ∈ gw := gw_of 93 rfl rfl
theorem g_78 : Cond.selects "TriangleRaster" y_TR_clear y_TR_clear ∈ gw := gw_of 94 rfl rfl
theorem g_79 : Cond.code y_TR_clear b_TR_clear 4 (some .boolean) ∈ gw := gw_of 95 rfl rfl
theorem g_80 : Cond.constant "TriangleRaster" 51 (65535 : Int32) ∈ gw := gw_of 96 rfl rfl
theorem g_81 : Cond.methodLink "TriangleRasterLaw" 26 y_TR_vertex ∈ gw := gw_of 97 rfl rfl
theorem g_82 : Cond.instanceMethod y_TR_vertex ∈ gw := gw_of 98 rfl rfl
theorem g_83 : Cond.selects "TriangleRaster" y_TR_vertex y_TR_vertex ∈ gw := gw_of 99 rfl rfl
theorem g_84 : Cond.code y_TR_vertex b_TR_vertex 5 (some .boolean) ∈ gw := gw_of 100 rfl rfl
theorem g_85 : Cond.methodLink "TriangleRaster" 52 y_TR_isFar ∈ gw := gw_of 101 rfl rfl
theorem g_86 : Cond.static y_TR_isFar ∈ gw := gw_of 102 rfl rfl
theorem g_87 : Cond.code y_TR_isFar b_TR_isFar 1 (some .boolean) ∈ gw := gw_of 103 rfl rfl
theorem g_88 : Cond.constant "TriangleRaster" 56 (32768 : Int32) ∈ gw := gw_of 104 rfl rfl
theorem g_89 : Cond.methodLink "TriangleRasterLaw" 31 y_TR_triangle ∈ gw := gw_of 105 rfl rfl
theorem g_90 : Cond.instanceMethod y_TR_triangle ∈ gw := gw_of 106 rfl rfl
theorem g_91 : Cond.selects "TriangleRaster" y_TR_triangle y_TR_triangle ∈ gw := gw_of 107 rfl rfl
theorem g_92 : Cond.code y_TR_triangle b_TR_triangle 11 (some .int) ∈ gw := gw_of 108 rfl rfl
theorem g_93 : Cond.methodLink "TriangleRaster" 67 y_TR_turn ∈ gw := gw_of 109 rfl rfl
theorem g_95 : Cond.instanceMethod y_TR_turn ∈ gw := gw_of 111 rfl rfl
theorem g_96 : Cond.code y_TR_turn b_TR_turn 6 (some .long) ∈ gw := gw_of 112 rfl rfl
theorem g_97 : Cond.methodLink "TriangleRaster" 57 y_Ed_set ∈ gw := gw_of 113 rfl rfl
theorem g_98 : Cond.instanceMethod y_Ed_set ∈ gw := gw_of 114 rfl rfl
theorem g_99 : Cond.selects "TriangleRaster$Edge" y_Ed_set y_Ed_set ∈ gw := gw_of 115 rfl rfl
theorem g_100 : Cond.code y_Ed_set b_Ed_set 9 none ∈ gw := gw_of 116 rfl rfl
theorem g_101 : Cond.constantLong "TriangleRaster$Edge" 15 (16 : Int64) ∈ gw := gw_of 117 rfl rfl
theorem g_102 : Cond.methodLink "TriangleRaster" 61 y_Ma_absL ∈ gw := gw_of 118 rfl rfl
theorem g_103 : Cond.static y_Ma_absL ∈ gw := gw_of 119 rfl rfl
theorem g_104 : Cond.code y_Ma_absL b_Ma_absL 2 (some .long) ∈ gw := gw_of 120 rfl rfl
theorem g_105 : Cond.methodLink "TriangleRaster" 71 y_Ed_toRow ∈ gw := gw_of 121 rfl rfl
theorem g_106 : Cond.instanceMethod y_Ed_toRow ∈ gw := gw_of 122 rfl rfl
theorem g_107 : Cond.selects "TriangleRaster$Edge" y_Ed_toRow y_Ed_toRow ∈ gw := gw_of 123 rfl rfl
theorem g_108 : Cond.code y_Ed_toRow b_Ed_toRow 2 none ∈ gw := gw_of 124 rfl rfl
theorem g_109 : Cond.methodLink "TriangleRaster" 75 y_Ed_isIn ∈ gw := gw_of 125 rfl rfl
theorem g_110 : Cond.instanceMethod y_Ed_isIn ∈ gw := gw_of 126 rfl rfl
theorem g_111 : Cond.selects "TriangleRaster$Edge" y_Ed_isIn y_Ed_isIn ∈ gw := gw_of 127 rfl rfl
theorem g_112 : Cond.code y_Ed_isIn b_Ed_isIn 1 (some .boolean) ∈ gw := gw_of 128 rfl rfl
theorem g_113 : Cond.methodLink "TriangleRaster" 79 y_TR_write ∈ gw := gw_of 129 rfl rfl
theorem g_115 : Cond.instanceMethod y_TR_write ∈ gw := gw_of 131 rfl rfl
theorem g_116 : Cond.code y_TR_write b_TR_write 9 (some .boolean) ∈ gw := gw_of 132 rfl rfl
theorem g_117 : Cond.methodLink "TriangleRaster" 83 y_Ed_toRight ∈ gw := gw_of 133 rfl rfl
theorem g_118 : Cond.instanceMethod y_Ed_toRight ∈ gw := gw_of 134 rfl rfl
theorem g_119 : Cond.selects "TriangleRaster$Edge" y_Ed_toRight y_Ed_toRight ∈ gw := gw_of 135 rfl rfl
theorem g_120 : Cond.code y_Ed_toRight b_Ed_toRight 1 none ∈ gw := gw_of 136 rfl rfl
theorem g_121 : Cond.methodLink "TriangleRasterLaw" 36 y_TR_covers ∈ gw := gw_of 137 rfl rfl
theorem g_122 : Cond.instanceMethod y_TR_covers ∈ gw := gw_of 138 rfl rfl
theorem g_123 : Cond.selects "TriangleRaster" y_TR_covers y_TR_covers ∈ gw := gw_of 139 rfl rfl
theorem g_124 : Cond.code y_TR_covers b_TR_covers 3 (some .boolean) ∈ gw := gw_of 140 rfl rfl
theorem g_125 : Cond.methodLink "TriangleRaster" 90 y_Ed_isIn2 ∈ gw := gw_of 141 rfl rfl
theorem g_126 : Cond.instanceMethod y_Ed_isIn2 ∈ gw := gw_of 142 rfl rfl
theorem g_127 : Cond.selects "TriangleRaster$Edge" y_Ed_isIn2 y_Ed_isIn2 ∈ gw := gw_of 143 rfl rfl
theorem g_128 : Cond.code y_Ed_isIn2 b_Ed_isIn2 3 (some .boolean) ∈ gw := gw_of 144 rfl rfl
theorem g_129 : Cond.methodLink "TriangleRasterLaw" 40 y_TR_line ∈ gw := gw_of 145 rfl rfl
theorem g_130 : Cond.instanceMethod y_TR_line ∈ gw := gw_of 146 rfl rfl
theorem g_131 : Cond.selects "TriangleRaster" y_TR_line y_TR_line ∈ gw := gw_of 147 rfl rfl
theorem g_132 : Cond.code y_TR_line b_TR_line 19 (some .int) ∈ gw := gw_of 148 rfl rfl
theorem g_133 : Cond.methodLink "TriangleRaster" 96 y_Ma_abs ∈ gw := gw_of 149 rfl rfl
theorem g_134 : Cond.static y_Ma_abs ∈ gw := gw_of 150 rfl rfl
theorem g_135 : Cond.code y_Ma_abs b_Ma_abs 1 (some .int) ∈ gw := gw_of 151 rfl rfl
theorem g_136 : Cond.methodLink "TriangleRaster" 99 y_In_signum ∈ gw := gw_of 152 rfl rfl
theorem g_137 : Cond.static y_In_signum ∈ gw := gw_of 153 rfl rfl
theorem g_138 : Cond.code y_In_signum b_In_signum 1 (some .int) ∈ gw := gw_of 154 rfl rfl
theorem g_139 : Cond.methodLink "TriangleRaster" 104 y_TR_set ∈ gw := gw_of 155 rfl rfl
theorem g_141 : Cond.instanceMethod y_TR_set ∈ gw := gw_of 157 rfl rfl
theorem g_142 : Cond.code y_TR_set b_TR_set 4 (some .boolean) ∈ gw := gw_of 158 rfl rfl
theorem g_143 : Cond.methodLink "TriangleRaster" 93 y_TR_isPixel ∈ gw := gw_of 159 rfl rfl
theorem g_145 : Cond.instanceMethod y_TR_isPixel ∈ gw := gw_of 161 rfl rfl
theorem g_146 : Cond.code y_TR_isPixel b_TR_isPixel 3 (some .boolean) ∈ gw := gw_of 162 rfl rfl
theorem g_147 : Cond.methodLink "TriangleRasterLaw" 45 y_TR_fill ∈ gw := gw_of 163 rfl rfl
theorem g_148 : Cond.instanceMethod y_TR_fill ∈ gw := gw_of 164 rfl rfl
theorem g_149 : Cond.selects "TriangleRaster" y_TR_fill y_TR_fill ∈ gw := gw_of 165 rfl rfl
theorem g_150 : Cond.code y_TR_fill b_TR_fill 6 (some .int) ∈ gw := gw_of 166 rfl rfl
theorem g_151 : Cond.methodLink "TriangleRaster" 111 y_TR_forget ∈ gw := gw_of 167 rfl rfl
theorem g_153 : Cond.instanceMethod y_TR_forget ∈ gw := gw_of 169 rfl rfl
theorem g_154 : Cond.code y_TR_forget b_TR_forget 2 none ∈ gw := gw_of 170 rfl rfl
theorem g_155 : Cond.methodLink "TriangleRaster" 114 y_TR_spread ∈ gw := gw_of 171 rfl rfl
theorem g_157 : Cond.instanceMethod y_TR_spread ∈ gw := gw_of 173 rfl rfl
theorem g_158 : Cond.code y_TR_spread b_TR_spread 7 (some .int) ∈ gw := gw_of 174 rfl rfl
theorem g_159 : Cond.methodLink "TriangleRaster" 107 y_TR_push ∈ gw := gw_of 175 rfl rfl
theorem g_161 : Cond.instanceMethod y_TR_push ∈ gw := gw_of 177 rfl rfl
theorem g_162 : Cond.code y_TR_push b_TR_push 4 (some .int) ∈ gw := gw_of 178 rfl rfl
theorem g_163 : Cond.methodLink "TriangleRasterLaw" 50 y_TR_pixel ∈ gw := gw_of 179 rfl rfl
theorem g_164 : Cond.instanceMethod y_TR_pixel ∈ gw := gw_of 180 rfl rfl
theorem g_165 : Cond.selects "TriangleRaster" y_TR_pixel y_TR_pixel ∈ gw := gw_of 181 rfl rfl
theorem g_166 : Cond.code y_TR_pixel b_TR_pixel 3 (some .int) ∈ gw := gw_of 182 rfl rfl
theorem g_167 : Cond.methodLink "TriangleRasterLaw" 55 y_TR_depthAt ∈ gw := gw_of 183 rfl rfl
theorem g_168 : Cond.instanceMethod y_TR_depthAt ∈ gw := gw_of 184 rfl rfl
theorem g_169 : Cond.selects "TriangleRaster" y_TR_depthAt y_TR_depthAt ∈ gw := gw_of 185 rfl rfl
theorem g_170 : Cond.code y_TR_depthAt b_TR_depthAt 3 (some .int) ∈ gw := gw_of 186 rfl rfl
theorem g_171 : Cond.methodLink "TriangleRasterLaw" 59 y_TR_count ∈ gw := gw_of 187 rfl rfl
theorem g_172 : Cond.instanceMethod y_TR_count ∈ gw := gw_of 188 rfl rfl
theorem g_173 : Cond.selects "TriangleRaster" y_TR_count y_TR_count ∈ gw := gw_of 189 rfl rfl
theorem g_174 : Cond.code y_TR_count b_TR_count 4 (some .int) ∈ gw := gw_of 190 rfl rfl
theorem g_175 : Cond.methodLink "TriangleRasterLaw" 63 y_TR_pieces ∈ gw := gw_of 191 rfl rfl
theorem g_176 : Cond.instanceMethod y_TR_pieces ∈ gw := gw_of 192 rfl rfl
theorem g_177 : Cond.selects "TriangleRaster" y_TR_pieces y_TR_pieces ∈ gw := gw_of 193 rfl rfl
theorem g_178 : Cond.code y_TR_pieces b_TR_pieces 4 (some .int) ∈ gw := gw_of 194 rfl rfl
theorem g_179 : Cond.methodLink "TriangleRasterLaw" 9 y_LW_cell ∈ gw := gw_of 195 rfl rfl
theorem g_180 : Cond.static y_LW_cell ∈ gw := gw_of 196 rfl rfl
theorem g_181 : Cond.code y_LW_cell b_LW_cell 2 (some .int) ∈ gw := gw_of 197 rfl rfl
theorem g_182 : Cond.classLink "TriangleRasterLaw" 18 "TriangleRasterModel" ∈ gw := gw_of 198 rfl rfl
theorem g_183 : Cond.instantiable "TriangleRasterModel" 8 ∈ gw := gw_of 199 rfl rfl
theorem g_184 : Cond.methodLink "TriangleRasterLaw" 20 y_TM_init ∈ gw := gw_of 200 rfl rfl
theorem g_185 : Cond.instanceMethod y_TM_init ∈ gw := gw_of 201 rfl rfl
theorem g_186 : Cond.code y_TM_init b_TM_init 3 none ∈ gw := gw_of 202 rfl rfl
theorem g_187 : Cond.methodLink "TriangleRasterModel" 1 objectInit ∈ gw := gw_of 203 rfl rfl
theorem g_188 : Cond.fieldLink "TriangleRasterModel" 29 "TriangleRasterModel" "w" "I" ∈ gw := gw_of 204 rfl rfl
theorem g_189 : Cond.fieldLink "TriangleRasterModel" 33 "TriangleRasterModel" "h" "I" ∈ gw := gw_of 205 rfl rfl
theorem g_190 : Cond.fieldLink "TriangleRasterModel" 7 "TriangleRasterModel" "colours" "[I" ∈ gw := gw_of 206 rfl rfl
theorem g_191 : Cond.fieldLink "TriangleRasterModel" 13 "TriangleRasterModel" "depths" "[I" ∈ gw := gw_of 207 rfl rfl
theorem g_192 : Cond.fieldLink "TriangleRasterModel" 16 "TriangleRasterModel" "xs" "[I" ∈ gw := gw_of 208 rfl rfl
theorem g_193 : Cond.fieldLink "TriangleRasterModel" 19 "TriangleRasterModel" "ys" "[I" ∈ gw := gw_of 209 rfl rfl
theorem g_194 : Cond.fieldLink "TriangleRasterModel" 22 "TriangleRasterModel" "zs" "[I" ∈ gw := gw_of 210 rfl rfl
theorem g_195 : Cond.fieldLink "TriangleRasterModel" 25 "TriangleRasterModel" "marks" "[Z" ∈ gw := gw_of 211 rfl rfl
theorem g_213 : Cond.methodLink "TriangleRasterLaw" 25 y_TM_clear ∈ gw := gw_of 229 rfl rfl
theorem g_214 : Cond.instanceMethod y_TM_clear ∈ gw := gw_of 230 rfl rfl
theorem g_215 : Cond.selects "TriangleRasterModel" y_TM_clear y_TM_clear ∈ gw := gw_of 231 rfl rfl
theorem g_216 : Cond.code y_TM_clear b_TM_clear 4 (some .boolean) ∈ gw := gw_of 232 rfl rfl
theorem g_217 : Cond.constant "TriangleRasterModel" 36 (65535 : Int32) ∈ gw := gw_of 233 rfl rfl
theorem g_218 : Cond.methodLink "TriangleRasterLaw" 30 y_TM_vertex ∈ gw := gw_of 234 rfl rfl
theorem g_219 : Cond.instanceMethod y_TM_vertex ∈ gw := gw_of 235 rfl rfl
theorem g_220 : Cond.selects "TriangleRasterModel" y_TM_vertex y_TM_vertex ∈ gw := gw_of 236 rfl rfl
theorem g_221 : Cond.code y_TM_vertex b_TM_vertex 5 (some .boolean) ∈ gw := gw_of 237 rfl rfl
theorem g_222 : Cond.methodLink "TriangleRasterModel" 37 y_TM_isFar ∈ gw := gw_of 238 rfl rfl
theorem g_223 : Cond.static y_TM_isFar ∈ gw := gw_of 239 rfl rfl
theorem g_224 : Cond.code y_TM_isFar b_TM_isFar 1 (some .boolean) ∈ gw := gw_of 240 rfl rfl
theorem g_225 : Cond.constant "TriangleRasterModel" 41 (32768 : Int32) ∈ gw := gw_of 241 rfl rfl
theorem g_226 : Cond.methodLink "TriangleRasterLaw" 35 y_TM_triangle ∈ gw := gw_of 242 rfl rfl
theorem g_227 : Cond.instanceMethod y_TM_triangle ∈ gw := gw_of 243 rfl rfl
theorem g_228 : Cond.selects "TriangleRasterModel" y_TM_triangle y_TM_triangle ∈ gw := gw_of 244 rfl rfl
theorem g_229 : Cond.code y_TM_triangle b_TM_triangle 5 (some .int) ∈ gw := gw_of 245 rfl rfl
theorem g_230 : Cond.methodLink "TriangleRasterModel" 62 y_TM_isCovered ∈ gw := gw_of 246 rfl rfl
theorem g_232 : Cond.instanceMethod y_TM_isCovered ∈ gw := gw_of 248 rfl rfl
theorem g_233 : Cond.code y_TM_isCovered b_TM_isCovered 9 (some .boolean) ∈ gw := gw_of 249 rfl rfl
theorem g_234 : Cond.constantLong "TriangleRasterModel" 50 (16 : Int64) ∈ gw := gw_of 250 rfl rfl
theorem g_235 : Cond.constantLong "TriangleRasterModel" 52 (8 : Int64) ∈ gw := gw_of 251 rfl rfl
theorem g_236 : Cond.methodLink "TriangleRasterModel" 54 y_TM_area ∈ gw := gw_of 252 rfl rfl
theorem g_238 : Cond.instanceMethod y_TM_area ∈ gw := gw_of 254 rfl rfl
theorem g_239 : Cond.code y_TM_area b_TM_area 1 (some .long) ∈ gw := gw_of 255 rfl rfl
theorem g_240 : Cond.methodLink "TriangleRasterModel" 42 y_TM_edge ∈ gw := gw_of 256 rfl rfl
theorem g_242 : Cond.instanceMethod y_TM_edge ∈ gw := gw_of 258 rfl rfl
theorem g_243 : Cond.code y_TM_edge b_TM_edge 7 (some .long) ∈ gw := gw_of 259 rfl rfl
theorem g_244 : Cond.methodLink "TriangleRasterModel" 58 y_TM_isInside ∈ gw := gw_of 260 rfl rfl
theorem g_246 : Cond.instanceMethod y_TM_isInside ∈ gw := gw_of 262 rfl rfl
theorem g_247 : Cond.code y_TM_isInside b_TM_isInside 9 (some .boolean) ∈ gw := gw_of 263 rfl rfl
theorem g_248 : Cond.methodLink "TriangleRasterModel" 46 y_TM_isTopOrLeft ∈ gw := gw_of 264 rfl rfl
theorem g_250 : Cond.instanceMethod y_TM_isTopOrLeft ∈ gw := gw_of 266 rfl rfl
theorem g_251 : Cond.code y_TM_isTopOrLeft b_TM_isTopOrLeft 3 (some .boolean) ∈ gw := gw_of 267 rfl rfl
theorem g_252 : Cond.methodLink "TriangleRasterModel" 65 y_TM_depthOf ∈ gw := gw_of 268 rfl rfl
theorem g_254 : Cond.instanceMethod y_TM_depthOf ∈ gw := gw_of 270 rfl rfl
theorem g_255 : Cond.code y_TM_depthOf b_TM_depthOf 9 (some .int) ∈ gw := gw_of 271 rfl rfl
theorem g_256 : Cond.methodLink "TriangleRasterLaw" 39 y_TM_covers ∈ gw := gw_of 272 rfl rfl
theorem g_257 : Cond.instanceMethod y_TM_covers ∈ gw := gw_of 273 rfl rfl
theorem g_258 : Cond.selects "TriangleRasterModel" y_TM_covers y_TM_covers ∈ gw := gw_of 274 rfl rfl
theorem g_259 : Cond.code y_TM_covers b_TM_covers 4 (some .boolean) ∈ gw := gw_of 275 rfl rfl
theorem g_260 : Cond.methodLink "TriangleRasterLaw" 44 y_TM_line ∈ gw := gw_of 276 rfl rfl
theorem g_261 : Cond.instanceMethod y_TM_line ∈ gw := gw_of 277 rfl rfl
theorem g_262 : Cond.selects "TriangleRasterModel" y_TM_line y_TM_line ∈ gw := gw_of 278 rfl rfl
theorem g_263 : Cond.code y_TM_line b_TM_line 16 (some .int) ∈ gw := gw_of 279 rfl rfl
theorem g_264 : Cond.constantLong "TriangleRasterModel" 69 (2 : Int64) ∈ gw := gw_of 280 rfl rfl
theorem g_265 : Cond.methodLink "TriangleRasterModel" 71 y_TM_sign ∈ gw := gw_of 281 rfl rfl
theorem g_266 : Cond.static y_TM_sign ∈ gw := gw_of 282 rfl rfl
theorem g_267 : Cond.code y_TM_sign b_TM_sign 1 (some .int) ∈ gw := gw_of 283 rfl rfl
theorem g_268 : Cond.methodLink "TriangleRasterModel" 75 y_TM_isPixel ∈ gw := gw_of 284 rfl rfl
theorem g_270 : Cond.instanceMethod y_TM_isPixel ∈ gw := gw_of 286 rfl rfl
theorem g_271 : Cond.code y_TM_isPixel b_TM_isPixel 3 (some .boolean) ∈ gw := gw_of 287 rfl rfl
theorem g_272 : Cond.methodLink "TriangleRasterLaw" 49 y_TM_fill ∈ gw := gw_of 288 rfl rfl
theorem g_273 : Cond.instanceMethod y_TM_fill ∈ gw := gw_of 289 rfl rfl
theorem g_274 : Cond.selects "TriangleRasterModel" y_TM_fill y_TM_fill ∈ gw := gw_of 290 rfl rfl
theorem g_275 : Cond.code y_TM_fill b_TM_fill 6 (some .int) ∈ gw := gw_of 291 rfl rfl
theorem g_276 : Cond.methodLink "TriangleRasterModel" 78 y_TM_unmark ∈ gw := gw_of 292 rfl rfl
theorem g_278 : Cond.instanceMethod y_TM_unmark ∈ gw := gw_of 294 rfl rfl
theorem g_279 : Cond.code y_TM_unmark b_TM_unmark 2 none ∈ gw := gw_of 295 rfl rfl
theorem g_280 : Cond.methodLink "TriangleRasterModel" 81 y_TM_mark ∈ gw := gw_of 296 rfl rfl
theorem g_282 : Cond.instanceMethod y_TM_mark ∈ gw := gw_of 298 rfl rfl
theorem g_283 : Cond.code y_TM_mark b_TM_mark 10 (some .int) ∈ gw := gw_of 299 rfl rfl
theorem g_284 : Cond.methodLink "TriangleRasterLaw" 66 y_TM_pieces ∈ gw := gw_of 300 rfl rfl
theorem g_285 : Cond.instanceMethod y_TM_pieces ∈ gw := gw_of 301 rfl rfl
theorem g_286 : Cond.selects "TriangleRasterModel" y_TM_pieces y_TM_pieces ∈ gw := gw_of 302 rfl rfl
theorem g_287 : Cond.code y_TM_pieces b_TM_pieces 5 (some .int) ∈ gw := gw_of 303 rfl rfl
theorem g_288 : Cond.methodLink "TriangleRasterLaw" 54 y_TM_pixel ∈ gw := gw_of 304 rfl rfl
theorem g_289 : Cond.instanceMethod y_TM_pixel ∈ gw := gw_of 305 rfl rfl
theorem g_290 : Cond.selects "TriangleRasterModel" y_TM_pixel y_TM_pixel ∈ gw := gw_of 306 rfl rfl
theorem g_291 : Cond.code y_TM_pixel b_TM_pixel 3 (some .int) ∈ gw := gw_of 307 rfl rfl
theorem g_292 : Cond.methodLink "TriangleRasterLaw" 58 y_TM_depthAt ∈ gw := gw_of 308 rfl rfl
theorem g_293 : Cond.instanceMethod y_TM_depthAt ∈ gw := gw_of 309 rfl rfl
theorem g_294 : Cond.selects "TriangleRasterModel" y_TM_depthAt y_TM_depthAt ∈ gw := gw_of 310 rfl rfl
theorem g_295 : Cond.code y_TM_depthAt b_TM_depthAt 3 (some .int) ∈ gw := gw_of 311 rfl rfl
theorem g_296 : Cond.methodLink "TriangleRasterLaw" 62 y_TM_count ∈ gw := gw_of 312 rfl rfl
theorem g_297 : Cond.instanceMethod y_TM_count ∈ gw := gw_of 313 rfl rfl
theorem g_298 : Cond.selects "TriangleRasterModel" y_TM_count y_TM_count ∈ gw := gw_of 314 rfl rfl
theorem g_299 : Cond.code y_TM_count b_TM_count 5 (some .int) ∈ gw := gw_of 315 rfl rfl
theorem gs_TR_turn : Cond.selects "TriangleRaster" y_TR_turn y_TR_turn ∈ gw := gw_of 0 rfl rfl
theorem gs_TR_write : Cond.selects "TriangleRaster" y_TR_write y_TR_write ∈ gw := gw_of 1 rfl rfl
theorem gs_TR_set : Cond.selects "TriangleRaster" y_TR_set y_TR_set ∈ gw := gw_of 2 rfl rfl
theorem gs_TR_isPixel : Cond.selects "TriangleRaster" y_TR_isPixel y_TR_isPixel ∈ gw := gw_of 3 rfl rfl
theorem gs_TR_forget : Cond.selects "TriangleRaster" y_TR_forget y_TR_forget ∈ gw := gw_of 4 rfl rfl
theorem gs_TR_spread : Cond.selects "TriangleRaster" y_TR_spread y_TR_spread ∈ gw := gw_of 5 rfl rfl
theorem gs_TR_push : Cond.selects "TriangleRaster" y_TR_push y_TR_push ∈ gw := gw_of 6 rfl rfl
theorem gs_TM_isCovered : Cond.selects "TriangleRasterModel" y_TM_isCovered y_TM_isCovered ∈ gw := gw_of 7 rfl rfl
theorem gs_TM_area : Cond.selects "TriangleRasterModel" y_TM_area y_TM_area ∈ gw := gw_of 8 rfl rfl
theorem gs_TM_edge : Cond.selects "TriangleRasterModel" y_TM_edge y_TM_edge ∈ gw := gw_of 9 rfl rfl
theorem gs_TM_isInside : Cond.selects "TriangleRasterModel" y_TM_isInside y_TM_isInside ∈ gw := gw_of 10 rfl rfl
theorem gs_TM_isTopOrLeft : Cond.selects "TriangleRasterModel" y_TM_isTopOrLeft y_TM_isTopOrLeft ∈ gw := gw_of 11 rfl rfl
theorem gs_TM_depthOf : Cond.selects "TriangleRasterModel" y_TM_depthOf y_TM_depthOf ∈ gw := gw_of 12 rfl rfl
theorem gs_TM_isPixel : Cond.selects "TriangleRasterModel" y_TM_isPixel y_TM_isPixel ∈ gw := gw_of 13 rfl rfl
theorem gs_TM_unmark : Cond.selects "TriangleRasterModel" y_TM_unmark y_TM_unmark ∈ gw := gw_of 14 rfl rfl
theorem gs_TM_mark : Cond.selects "TriangleRasterModel" y_TM_mark y_TM_mark ∈ gw := gw_of 15 rfl rfl
theorem i_TR : ∀ w ∈ u_ws R_TR F_TR 11, w ∈ gw := by
  intro w hw
  obtain ⟨k, hk, rfl⟩ := List.mem_map.mp hw
  have hk := List.mem_range.mp hk
  rcases (show k = 0 ∨ k = 1 ∨ k = 2 ∨ k = 3 ∨ k = 4 ∨ k = 5 ∨ k = 6 ∨ k = 7 ∨ k = 8 ∨ k = 9 ∨ k = 10 by omega) with rfl | rfl | rfl | rfl | rfl | rfl | rfl | rfl | rfl | rfl | rfl
  · exact gw_of 69 rfl rfl
  · exact gw_of 71 rfl rfl
  · exact gw_of 73 rfl rfl
  · exact gw_of 75 rfl rfl
  · exact gw_of 77 rfl rfl
  · exact gw_of 79 rfl rfl
  · exact gw_of 81 rfl rfl
  · exact gw_of 83 rfl rfl
  · exact gw_of 85 rfl rfl
  · exact gw_of 87 rfl rfl
  · exact gw_of 89 rfl rfl
theorem i_Ed : ∀ w ∈ u_ws R_Ed F_Ed 5, w ∈ gw := by
  intro w hw
  obtain ⟨k, hk, rfl⟩ := List.mem_map.mp hw
  have hk := List.mem_range.mp hk
  rcases (show k = 0 ∨ k = 1 ∨ k = 2 ∨ k = 3 ∨ k = 4 by omega) with rfl | rfl | rfl | rfl | rfl
  · exact gw_of 43 rfl rfl
  · exact gw_of 45 rfl rfl
  · exact gw_of 47 rfl rfl
  · exact gw_of 49 rfl rfl
  · exact gw_of 51 rfl rfl
theorem i_TM : ∀ w ∈ u_ws R_TM F_TM 8, w ∈ gw := by
  intro w hw
  obtain ⟨k, hk, rfl⟩ := List.mem_map.mp hw
  have hk := List.mem_range.mp hk
  rcases (show k = 0 ∨ k = 1 ∨ k = 2 ∨ k = 3 ∨ k = 4 ∨ k = 5 ∨ k = 6 ∨ k = 7 by omega) with rfl | rfl | rfl | rfl | rfl | rfl | rfl | rfl
  · exact gw_of 212 rfl rfl
  · exact gw_of 214 rfl rfl
  · exact gw_of 216 rfl rfl
  · exact gw_of 218 rfl rfl
  · exact gw_of 220 rfl rfl
  · exact gw_of 222 rfl rfl
  · exact gw_of 224 rfl rfl
  · exact gw_of 226 rfl rfl
end
section
/-! ===== the walking judgement: G pc lv st ws; CX says what G is ===== -/
abbrev GT : Type := Nat → List (Nat × Value) → List Value → va_W → Prop
def Dc (cc : ByteArray) (pc : Nat) (i : Instr) (n pc' : Nat) : Prop := decode cc pc = .ok (i, n) ∧ pc' = pc + n
def Dj (cc : ByteArray) (pc : Nat) (i : Instr) (off : Int) (pc' tgt : Nat) : Prop := decode cc pc = .ok (i, 3) ∧ pc' = pc + 3 ∧ (pc : Int) + off = (tgt : Int)
def CX (l : Launch) (cc : ByteArray) (nL : Nat) (own : String) (R : Room) (D : va_G) (ta : Nat → ClassId) (G : GT) : Prop :=
  ∃ (p : Program) (e : Env) (s : State) (m : MethodId) (args : Array Value) (below : List Frame) (meth : Method) (c : Code) (A : Nat → Prop) (H0 : Heap) (Q : State → Prop) (ck cs : Nat),
    p.tables.exec = Jvm.exec ∧ c.code = cc ∧ c.maxLocals = nL ∧ s.vm.findClass own = some m.cls ∧ (∀ w ∈ gw, w.before args s = true) ∧ va_K D cls3 (tys ta) s ∧ ck ≤ R.cells ∧ cs ≤ R.slots ∧
    G = fun pc lv st ws => ∀ (ls : Array Slot) (H : Heap) (locs : List Loc), lv_has ls nL lv → va_P D cls3 ws H → va_D A ws → va_S A H0 H locs → W p l e R s m args below meth c H locs ck cs Q (F0 m pc ls st)
section RX
variable {l : Launch} {cc : ByteArray} {nL : Nat} {own : String} {R : Room} {D : va_G} {ta : Nat → ClassId} {G : GT} {pc pc' tgt : Nat} {lv lv' : List (Nat × Value)} {st : List Value} {ws ws' : va_W}
theorem rx_iadd (C : CX l cc nL own R D ta G) {x y : Int32} (hd : Dc cc pc (.iadd) 1 pc') (k : G pc' lv (.int (x + y) :: st) ws) : G pc lv (.int y :: .int x :: st) ws := by
  obtain ⟨p, e, s, m, args, below, meth, c, A, H0, Q, ck, cs, hx, hb, hml, ho, hts, hK, hck, hcs, rfl⟩ := C
  obtain ⟨hd, rfl⟩ := hd
  exact fun ls H locs hl hP hD hS => lv_iadd hx hb hd (k ls H locs hl hP hD hS)
theorem rx_isub (C : CX l cc nL own R D ta G) {x y : Int32} (hd : Dc cc pc (.isub) 1 pc') (k : G pc' lv (.int (x - y) :: st) ws) : G pc lv (.int y :: .int x :: st) ws := by
  obtain ⟨p, e, s, m, args, below, meth, c, A, H0, Q, ck, cs, hx, hb, hml, ho, hts, hK, hck, hcs, rfl⟩ := C
  obtain ⟨hd, rfl⟩ := hd
  exact fun ls H locs hl hP hD hS => lv_isub hx hb hd (k ls H locs hl hP hD hS)
theorem rx_imul (C : CX l cc nL own R D ta G) {x y : Int32} (hd : Dc cc pc (.imul) 1 pc') (k : G pc' lv (.int (x * y) :: st) ws) : G pc lv (.int y :: .int x :: st) ws := by
  obtain ⟨p, e, s, m, args, below, meth, c, A, H0, Q, ck, cs, hx, hb, hml, ho, hts, hK, hck, hcs, rfl⟩ := C
  obtain ⟨hd, rfl⟩ := hd
  exact fun ls H locs hl hP hD hS => lv_imul hx hb hd (k ls H locs hl hP hD hS)
theorem rx_iand (C : CX l cc nL own R D ta G) {x y : Int32} (hd : Dc cc pc (.iand) 1 pc') (k : G pc' lv (.int (x &&& y) :: st) ws) : G pc lv (.int y :: .int x :: st) ws := by
  obtain ⟨p, e, s, m, args, below, meth, c, A, H0, Q, ck, cs, hx, hb, hml, ho, hts, hK, hck, hcs, rfl⟩ := C
  obtain ⟨hd, rfl⟩ := hd
  exact fun ls H locs hl hP hD hS => lv_iand hx hb hd (k ls H locs hl hP hD hS)
theorem rx_ior (C : CX l cc nL own R D ta G) {x y : Int32} (hd : Dc cc pc (.ior) 1 pc') (k : G pc' lv (.int (x ||| y) :: st) ws) : G pc lv (.int y :: .int x :: st) ws := by
  obtain ⟨p, e, s, m, args, below, meth, c, A, H0, Q, ck, cs, hx, hb, hml, ho, hts, hK, hck, hcs, rfl⟩ := C
  obtain ⟨hd, rfl⟩ := hd
  exact fun ls H locs hl hP hD hS => lv_ior hx hb hd (k ls H locs hl hP hD hS)
theorem rx_irem (C : CX l cc nL own R D ta G) {x y : Int32} (hne : ¬ y = 0) (hd : Dc cc pc (.irem) 1 pc') (k : G pc' lv (.int (x - x / y * y) :: st) ws) : G pc lv (.int y :: .int x :: st) ws := by
  obtain ⟨p, e, s, m, args, below, meth, c, A, H0, Q, ck, cs, hx, hb, hml, ho, hts, hK, hck, hcs, rfl⟩ := C
  obtain ⟨hd, rfl⟩ := hd
  exact fun ls H locs hl hP hD hS => lv_irem hx hb hd hne (k ls H locs hl hP hD hS)
theorem rx_ineg (C : CX l cc nL own R D ta G) {x : Int32} (hd : Dc cc pc (.ineg) 1 pc') (k : G pc' lv (.int (-x) :: st) ws) : G pc lv (.int x :: st) ws := by
  obtain ⟨p, e, s, m, args, below, meth, c, A, H0, Q, ck, cs, hx, hb, hml, ho, hts, hK, hck, hcs, rfl⟩ := C
  obtain ⟨hd, rfl⟩ := hd
  exact fun ls H locs hl hP hD hS => lv_ineg hx hb hd (k ls H locs hl hP hD hS)
theorem rx_ishr (C : CX l cc nL own R D ta G) {x y : Int32} (hd : Dc cc pc (.ishr) 1 pc') (k : G pc' lv (.int (x >>> (y &&& 31)) :: st) ws) : G pc lv (.int y :: .int x :: st) ws := by
  obtain ⟨p, e, s, m, args, below, meth, c, A, H0, Q, ck, cs, hx, hb, hml, ho, hts, hK, hck, hcs, rfl⟩ := C
  obtain ⟨hd, rfl⟩ := hd
  exact fun ls H locs hl hP hD hS => lv_ishr hx hb hd (k ls H locs hl hP hD hS)
theorem rx_iushr (C : CX l cc nL own R D ta G) {x y : Int32} (hd : Dc cc pc (.iushr) 1 pc') (k : G pc' lv (.int ((x.toUInt32 >>> (y.toUInt32 &&& Int32.toUInt32 31)).toInt32) :: st) ws) : G pc lv (.int y :: .int x :: st) ws := by
  obtain ⟨p, e, s, m, args, below, meth, c, A, H0, Q, ck, cs, hx, hb, hml, ho, hts, hK, hck, hcs, rfl⟩ := C
  obtain ⟨hd, rfl⟩ := hd
  exact fun ls H locs hl hP hD hS => lv_iushr hx hb hd rfl (k ls H locs hl hP hD hS)
theorem rx_ladd (C : CX l cc nL own R D ta G) {x y : Int64} (hd : Dc cc pc (.ladd) 1 pc') (k : G pc' lv (.long (x + y) :: st) ws) : G pc lv (.long y :: .long x :: st) ws := by
  obtain ⟨p, e, s, m, args, below, meth, c, A, H0, Q, ck, cs, hx, hb, hml, ho, hts, hK, hck, hcs, rfl⟩ := C
  obtain ⟨hd, rfl⟩ := hd
  exact fun ls H locs hl hP hD hS => lv_ladd hx hb hd (k ls H locs hl hP hD hS)
theorem rx_lsub (C : CX l cc nL own R D ta G) {x y : Int64} (hd : Dc cc pc (.lsub) 1 pc') (k : G pc' lv (.long (x - y) :: st) ws) : G pc lv (.long y :: .long x :: st) ws := by
  obtain ⟨p, e, s, m, args, below, meth, c, A, H0, Q, ck, cs, hx, hb, hml, ho, hts, hK, hck, hcs, rfl⟩ := C
  obtain ⟨hd, rfl⟩ := hd
  exact fun ls H locs hl hP hD hS => lv_lsub hx hb hd (k ls H locs hl hP hD hS)
theorem rx_lmul (C : CX l cc nL own R D ta G) {x y : Int64} (hd : Dc cc pc (.lmul) 1 pc') (k : G pc' lv (.long (x * y) :: st) ws) : G pc lv (.long y :: .long x :: st) ws := by
  obtain ⟨p, e, s, m, args, below, meth, c, A, H0, Q, ck, cs, hx, hb, hml, ho, hts, hK, hck, hcs, rfl⟩ := C
  obtain ⟨hd, rfl⟩ := hd
  exact fun ls H locs hl hP hD hS => lv_lmul hx hb hd (k ls H locs hl hP hD hS)
theorem rx_ldiv (C : CX l cc nL own R D ta G) {x y : Int64} (hne : ¬ y = 0) (hd : Dc cc pc (.ldiv) 1 pc') (k : G pc' lv (.long (x / y) :: st) ws) : G pc lv (.long y :: .long x :: st) ws := by
  obtain ⟨p, e, s, m, args, below, meth, c, A, H0, Q, ck, cs, hx, hb, hml, ho, hts, hK, hck, hcs, rfl⟩ := C
  obtain ⟨hd, rfl⟩ := hd
  exact fun ls H locs hl hP hD hS => lv_ldiv hx hb hd hne (k ls H locs hl hP hD hS)
theorem rx_lneg (C : CX l cc nL own R D ta G) {x : Int64} (hd : Dc cc pc (.lneg) 1 pc') (k : G pc' lv (.long (-x) :: st) ws) : G pc lv (.long x :: st) ws := by
  obtain ⟨p, e, s, m, args, below, meth, c, A, H0, Q, ck, cs, hx, hb, hml, ho, hts, hK, hck, hcs, rfl⟩ := C
  obtain ⟨hd, rfl⟩ := hd
  exact fun ls H locs hl hP hD hS => lv_lneg hx hb hd (k ls H locs hl hP hD hS)
theorem rx_lcmp (C : CX l cc nL own R D ta G) {x y : Int64} (hd : Dc cc pc (.lcmp) 1 pc') (k : G pc' lv (.int (lg_cmp x y) :: st) ws) : G pc lv (.long y :: .long x :: st) ws := by
  obtain ⟨p, e, s, m, args, below, meth, c, A, H0, Q, ck, cs, hx, hb, hml, ho, hts, hK, hck, hcs, rfl⟩ := C
  obtain ⟨hd, rfl⟩ := hd
  exact fun ls H locs hl hP hD hS => W.lcmp hx hb hd (k ls H locs hl hP hD hS)
theorem rx_i2l (C : CX l cc nL own R D ta G) {x : Int32} (hd : Dc cc pc (.i2l) 1 pc') (k : G pc' lv (.long x.toInt64 :: st) ws) : G pc lv (.int x :: st) ws := by
  obtain ⟨p, e, s, m, args, below, meth, c, A, H0, Q, ck, cs, hx, hb, hml, ho, hts, hK, hck, hcs, rfl⟩ := C
  obtain ⟨hd, rfl⟩ := hd
  exact fun ls H locs hl hP hD hS => lv_i2l hx hb hd rfl (k ls H locs hl hP hD hS)
theorem rx_l2i (C : CX l cc nL own R D ta G) {x : Int64} (hd : Dc cc pc (.l2i) 1 pc') (k : G pc' lv (.int x.toInt32 :: st) ws) : G pc lv (.long x :: st) ws := by
  obtain ⟨p, e, s, m, args, below, meth, c, A, H0, Q, ck, cs, hx, hb, hml, ho, hts, hK, hck, hcs, rfl⟩ := C
  obtain ⟨hd, rfl⟩ := hd
  exact fun ls H locs hl hP hD hS => lv_l2i hx hb hd rfl (k ls H locs hl hP hD hS)
theorem rx_i2s (C : CX l cc nL own R D ta G) {x : Int32} (hd : Dc cc pc (.i2s) 1 pc') (k : G pc' lv (.int x.toInt16.toInt32 :: st) ws) : G pc lv (.int x :: st) ws := by
  obtain ⟨p, e, s, m, args, below, meth, c, A, H0, Q, ck, cs, hx, hb, hml, ho, hts, hK, hck, hcs, rfl⟩ := C
  obtain ⟨hd, rfl⟩ := hd
  exact fun ls H locs hl hP hD hS => lv_i2s hx hb hd rfl (k ls H locs hl hP hD hS)
theorem rx_i2c (C : CX l cc nL own R D ta G) {x : Int32} (hd : Dc cc pc (.i2c) 1 pc') (k : G pc' lv (.int (x.toUInt32 % 65536).toInt32 :: st) ws) : G pc lv (.int x :: st) ws := by
  obtain ⟨p, e, s, m, args, below, meth, c, A, H0, Q, ck, cs, hx, hb, hml, ho, hts, hK, hck, hcs, rfl⟩ := C
  obtain ⟨hd, rfl⟩ := hd
  exact fun ls H locs hl hP hD hS => lv_i2c hx hb hd rfl (k ls H locs hl hP hD hS)
theorem rx_dup (C : CX l cc nL own R D ta G) {v : Value} (hv : v.category = 1) (hd : Dc cc pc (.dup) 1 pc') (k : G pc' lv (v :: v :: st) ws) : G pc lv (v :: st) ws := by
  obtain ⟨p, e, s, m, args, below, meth, c, A, H0, Q, ck, cs, hx, hb, hml, ho, hts, hK, hck, hcs, rfl⟩ := C
  obtain ⟨hd, rfl⟩ := hd
  exact fun ls H locs hl hP hD hS => lv_dup hx hb hd hv (k ls H locs hl hP hD hS)
theorem rx_pop (C : CX l cc nL own R D ta G) {v : Value} (hv : v.category = 1) (hd : Dc cc pc (.pop) 1 pc') (k : G pc' lv (st) ws) : G pc lv (v :: st) ws := by
  obtain ⟨p, e, s, m, args, below, meth, c, A, H0, Q, ck, cs, hx, hb, hml, ho, hts, hK, hck, hcs, rfl⟩ := C
  obtain ⟨hd, rfl⟩ := hd
  exact fun ls H locs hl hP hD hS => lv_pop hx hb hd hv (k ls H locs hl hP hD hS)
theorem rx_iconst (C : CX l cc nL own R D ta G) {n : Int} (v : Int32) (hv : Int32.ofInt n = v) (hd : Dc cc pc (.iconst n) 1 pc') (k : G pc' lv (.int v :: st) ws) : G pc lv (st) ws := by
  obtain ⟨p, e, s, m, args, below, meth, c, A, H0, Q, ck, cs, hx, hb, hml, ho, hts, hK, hck, hcs, rfl⟩ := C
  obtain ⟨hd, rfl⟩ := hd
  exact fun ls H locs hl hP hD hS => lv_iconst hx hb hd hv (k ls H locs hl hP hD hS)
theorem rx_bipush (C : CX l cc nL own R D ta G) {n : Int} (v : Int32) (hv : (Int8.ofInt n).toInt32 = v) (hd : Dc cc pc (.bipush n) 2 pc') (k : G pc' lv (.int v :: st) ws) : G pc lv (st) ws := by
  obtain ⟨p, e, s, m, args, below, meth, c, A, H0, Q, ck, cs, hx, hb, hml, ho, hts, hK, hck, hcs, rfl⟩ := C
  obtain ⟨hd, rfl⟩ := hd
  exact fun ls H locs hl hP hD hS => lv_bipush hx hb hd hv (k ls H locs hl hP hD hS)
theorem rx_sipush (C : CX l cc nL own R D ta G) {n : Int} (v : Int32) (hv : (Int16.ofInt n).toInt32 = v) (hd : Dc cc pc (.sipush n) 3 pc') (k : G pc' lv (.int v :: st) ws) : G pc lv (st) ws := by
  obtain ⟨p, e, s, m, args, below, meth, c, A, H0, Q, ck, cs, hx, hb, hml, ho, hts, hK, hck, hcs, rfl⟩ := C
  obtain ⟨hd, rfl⟩ := hd
  exact fun ls H locs hl hP hD hS => lv_sipush hx hb hd hv (k ls H locs hl hP hD hS)
theorem rx_lconst (C : CX l cc nL own R D ta G) {n : Fin 2} (v : Int64) (hv : Int64.ofNat (n : Nat) = v) (hd : Dc cc pc (.lconst n) 1 pc') (k : G pc' lv (.long v :: st) ws) : G pc lv (st) ws := by
  obtain ⟨p, e, s, m, args, below, meth, c, A, H0, Q, ck, cs, hx, hb, hml, ho, hts, hK, hck, hcs, rfl⟩ := C
  obtain ⟨hd, rfl⟩ := hd
  exact fun ls H locs hl hP hD hS => lv_lconst hx hb hd hv (k ls H locs hl hP hD hS)
theorem rx_ldc (C : CX l cc nL own R D ta G) {i : Nat} {v : Int32} (hw : Cond.constant own i v ∈ gw) (hd : Dc cc pc (.ldc i) 2 pc') (k : G pc' lv (.int v :: st) ws) : G pc lv (st) ws := by
  obtain ⟨p, e, s, m, args, below, meth, c, A, H0, Q, ck, cs, hx, hb, hml, ho, hts, hK, hck, hcs, rfl⟩ := C
  obtain ⟨hd, rfl⟩ := hd
  exact fun ls H locs hl hP hD hS => lv_ldc hx hb ho (hts _ hw) hd (k ls H locs hl hP hD hS)
theorem rx_ldc2 (C : CX l cc nL own R D ta G) {i : Nat} {v : Int64} (hw : Cond.constantLong own i v ∈ gw) (hd : Dc cc pc (.ldc2_w i) 3 pc') (k : G pc' lv (.long v :: st) ws) : G pc lv (st) ws := by
  obtain ⟨p, e, s, m, args, below, meth, c, A, H0, Q, ck, cs, hx, hb, hml, ho, hts, hK, hck, hcs, rfl⟩ := C
  obtain ⟨hd, rfl⟩ := hd
  exact fun ls H locs hl hP hD hS => lv_ldc2 hx hb ho (hts _ hw) hd (k ls H locs hl hP hD hS)
theorem rx_iload_n (C : CX l cc nL own R D ta G) {i : Fin 4} {x : Int32} (j : Nat) (hj : lv[j]? = some ((i : Nat), .int x)) (hd : Dc cc pc (.iload_n i) 1 pc') (k : G pc' lv (.int x :: st) ws) : G pc lv (st) ws := by
  obtain ⟨p, e, s, m, args, below, meth, c, A, H0, Q, ck, cs, hx, hb, hml, ho, hts, hK, hck, hcs, rfl⟩ := C
  obtain ⟨hd, rfl⟩ := hd
  exact fun ls H locs hl hP hD hS => lv_iload_n hx hb hd rfl (lv_at hl j hj) (k ls H locs hl hP hD hS)
theorem rx_iload (C : CX l cc nL own R D ta G) {i : Nat} {x : Int32} (j : Nat) (hj : lv[j]? = some (i, .int x)) (hd : Dc cc pc (.iload i) 2 pc') (k : G pc' lv (.int x :: st) ws) : G pc lv (st) ws := by
  obtain ⟨p, e, s, m, args, below, meth, c, A, H0, Q, ck, cs, hx, hb, hml, ho, hts, hK, hck, hcs, rfl⟩ := C
  obtain ⟨hd, rfl⟩ := hd
  exact fun ls H locs hl hP hD hS => lv_iload hx hb hd (lv_at hl j hj) (k ls H locs hl hP hD hS)
theorem rx_lload_n (C : CX l cc nL own R D ta G) {i : Fin 4} {x : Int64} (j : Nat) (hj : lv[j]? = some ((i : Nat), .long x)) (hd : Dc cc pc (.lload_n i) 1 pc') (k : G pc' lv (.long x :: st) ws) : G pc lv (st) ws := by
  obtain ⟨p, e, s, m, args, below, meth, c, A, H0, Q, ck, cs, hx, hb, hml, ho, hts, hK, hck, hcs, rfl⟩ := C
  obtain ⟨hd, rfl⟩ := hd
  exact fun ls H locs hl hP hD hS => lv_lload_n hx hb hd rfl (lv_at hl j hj) (k ls H locs hl hP hD hS)
theorem rx_lload (C : CX l cc nL own R D ta G) {i : Nat} {x : Int64} (j : Nat) (hj : lv[j]? = some (i, .long x)) (hd : Dc cc pc (.lload i) 2 pc') (k : G pc' lv (.long x :: st) ws) : G pc lv (st) ws := by
  obtain ⟨p, e, s, m, args, below, meth, c, A, H0, Q, ck, cs, hx, hb, hml, ho, hts, hK, hck, hcs, rfl⟩ := C
  obtain ⟨hd, rfl⟩ := hd
  exact fun ls H locs hl hP hD hS => lv_lload hx hb hd (lv_at hl j hj) (k ls H locs hl hP hD hS)
theorem rx_aload_n (C : CX l cc nL own R D ta G) {i : Fin 4} {x : Nat} (j : Nat) (hj : lv[j]? = some ((i : Nat), .ref x)) (hd : Dc cc pc (.aload_n i) 1 pc') (k : G pc' lv (.ref x :: st) ws) : G pc lv (st) ws := by
  obtain ⟨p, e, s, m, args, below, meth, c, A, H0, Q, ck, cs, hx, hb, hml, ho, hts, hK, hck, hcs, rfl⟩ := C
  obtain ⟨hd, rfl⟩ := hd
  exact fun ls H locs hl hP hD hS => lv_aload_n hx hb hd rfl (lv_at hl j hj) (k ls H locs hl hP hD hS)
theorem rx_aload (C : CX l cc nL own R D ta G) {i : Nat} {x : Nat} (j : Nat) (hj : lv[j]? = some (i, .ref x)) (hd : Dc cc pc (.aload i) 2 pc') (k : G pc' lv (.ref x :: st) ws) : G pc lv (st) ws := by
  obtain ⟨p, e, s, m, args, below, meth, c, A, H0, Q, ck, cs, hx, hb, hml, ho, hts, hK, hck, hcs, rfl⟩ := C
  obtain ⟨hd, rfl⟩ := hd
  exact fun ls H locs hl hP hD hS => lv_aload hx hb hd (lv_at hl j hj) (k ls H locs hl hP hD hS)
theorem rx_istore_n (C : CX l cc nL own R D ta G) {i : Fin 4} {x : Int32} (hn : (i : Nat) < nL) (ks : List Nat) (he : lv_pick (((i : Nat), Value.int x) :: lv.filter (fun q => !(q.1 == (i : Nat)) && !(q.1 + 1 == (i : Nat) && q.2.category == 2))) ks = lv') (hd : Dc cc pc (.istore_n i) 1 pc') (k : G pc' lv' st ws) : G pc lv (.int x :: st) ws := by
  obtain ⟨p, e, s, m, args, below, meth, c, A, H0, Q, ck, cs, hx, hb, hml, ho, hts, hK, hck, hcs, rfl⟩ := C
  obtain ⟨hd, rfl⟩ := hd
  exact fun ls H locs hl hP hD hS => lv_istore_n hx hb hd rfl hl hn rfl (fun ls' hl' => k ls' H locs (lv_sub hl' ks he) hP hD hS)
theorem rx_istore (C : CX l cc nL own R D ta G) {i : Nat} {x : Int32} (hn : i < nL) (ks : List Nat) (he : lv_pick ((i, Value.int x) :: lv.filter (fun q => !(q.1 == i) && !(q.1 + 1 == i && q.2.category == 2))) ks = lv') (hd : Dc cc pc (.istore i) 2 pc') (k : G pc' lv' st ws) : G pc lv (.int x :: st) ws := by
  obtain ⟨p, e, s, m, args, below, meth, c, A, H0, Q, ck, cs, hx, hb, hml, ho, hts, hK, hck, hcs, rfl⟩ := C
  obtain ⟨hd, rfl⟩ := hd
  exact fun ls H locs hl hP hD hS => lv_istore hx hb hd hl hn rfl (fun ls' hl' => k ls' H locs (lv_sub hl' ks he) hP hD hS)
theorem rx_lstore_n (C : CX l cc nL own R D ta G) {i : Fin 4} {x : Int64} (hn : (i : Nat) + 1 < nL) (ks : List Nat) (he : lv_pick (((i : Nat), Value.long x) :: lv.filter (fun q => !(q.1 == (i : Nat)) && (!(q.1 == (i : Nat) + 1) && !(q.1 + 1 == (i : Nat) && q.2.category == 2)))) ks = lv') (hd : Dc cc pc (.lstore_n i) 1 pc') (k : G pc' lv' st ws) : G pc lv (.long x :: st) ws := by
  obtain ⟨p, e, s, m, args, below, meth, c, A, H0, Q, ck, cs, hx, hb, hml, ho, hts, hK, hck, hcs, rfl⟩ := C
  obtain ⟨hd, rfl⟩ := hd
  exact fun ls H locs hl hP hD hS => lv_lstore_n hx hb hd rfl hl hn rfl (fun ls' hl' => k ls' H locs (lv_sub hl' ks he) hP hD hS)
theorem rx_lstore (C : CX l cc nL own R D ta G) {i : Nat} {x : Int64} (hn : i + 1 < nL) (ks : List Nat) (he : lv_pick ((i, Value.long x) :: lv.filter (fun q => !(q.1 == i) && (!(q.1 == i + 1) && !(q.1 + 1 == i && q.2.category == 2)))) ks = lv') (hd : Dc cc pc (.lstore i) 2 pc') (k : G pc' lv' st ws) : G pc lv (.long x :: st) ws := by
  obtain ⟨p, e, s, m, args, below, meth, c, A, H0, Q, ck, cs, hx, hb, hml, ho, hts, hK, hck, hcs, rfl⟩ := C
  obtain ⟨hd, rfl⟩ := hd
  exact fun ls H locs hl hP hD hS => lv_lstore hx hb hd hl hn rfl (fun ls' hl' => k ls' H locs (lv_sub hl' ks he) hP hD hS)
theorem rx_astore_n (C : CX l cc nL own R D ta G) {i : Fin 4} {x : Nat} (hn : (i : Nat) < nL) (ks : List Nat) (he : lv_pick (((i : Nat), Value.ref x) :: lv.filter (fun q => !(q.1 == (i : Nat)) && !(q.1 + 1 == (i : Nat) && q.2.category == 2))) ks = lv') (hd : Dc cc pc (.astore_n i) 1 pc') (k : G pc' lv' st ws) : G pc lv (.ref x :: st) ws := by
  obtain ⟨p, e, s, m, args, below, meth, c, A, H0, Q, ck, cs, hx, hb, hml, ho, hts, hK, hck, hcs, rfl⟩ := C
  obtain ⟨hd, rfl⟩ := hd
  exact fun ls H locs hl hP hD hS => lv_astore_n hx hb hd rfl hl hn rfl (fun ls' hl' => k ls' H locs (lv_sub hl' ks he) hP hD hS)
theorem rx_astore (C : CX l cc nL own R D ta G) {i : Nat} {x : Nat} (hn : i < nL) (ks : List Nat) (he : lv_pick ((i, Value.ref x) :: lv.filter (fun q => !(q.1 == i) && !(q.1 + 1 == i && q.2.category == 2))) ks = lv') (hd : Dc cc pc (.astore i) 2 pc') (k : G pc' lv' st ws) : G pc lv (.ref x :: st) ws := by
  obtain ⟨p, e, s, m, args, below, meth, c, A, H0, Q, ck, cs, hx, hb, hml, ho, hts, hK, hck, hcs, rfl⟩ := C
  obtain ⟨hd, rfl⟩ := hd
  exact fun ls H locs hl hP hD hS => lv_astore hx hb hd hl hn rfl (fun ls' hl' => k ls' H locs (lv_sub hl' ks he) hP hD hS)
theorem rx_iinc (C : CX l cc nL own R D ta G) {i : Nat} {n : Int} {x : Int32} (j : Nat) (hj : lv[j]? = some (i, .int x)) (v : Int32) (hv : x + Int32.ofInt n = v) (hn : i < nL) (ks : List Nat) (he : lv_pick ((i, Value.int v) :: lv.filter (fun q => !(q.1 == i) && !(q.1 + 1 == i && q.2.category == 2))) ks = lv') (hd : Dc cc pc (.iinc i n) 3 pc') (k : G pc' lv' st ws) : G pc lv st ws := by
  obtain ⟨p, e, s, m, args, below, meth, c, A, H0, Q, ck, cs, hx, hb, hml, ho, hts, hK, hck, hcs, rfl⟩ := C
  obtain ⟨hd, rfl⟩ := hd
  exact fun ls H locs hl hP hD hS => lv_iinc hx hb hd hl hj hv hn rfl (fun ls' hl' => k ls' H locs (lv_sub hl' ks he) hP hD hS)
theorem rx_lv (C : CX l cc nL own R D ta G) (ks : List Nat) (he : lv_pick lv ks = lv') (k : G pc lv' st ws) : G pc lv st ws := by
  obtain ⟨p, e, s, m, args, below, meth, c, A, H0, Q, ck, cs, hx, hb, hml, ho, hts, hK, hck, hcs, rfl⟩ := C
  exact fun ls H locs hl hP hD hS => k ls H locs (lv_sub hl ks he) hP hD hS
theorem rx_goto (C : CX l cc nL own R D ta G) {off : Int} (hd : Dj cc pc (.goto off) off pc' tgt) (k : G tgt lv st ws) : G pc lv st ws := by
  obtain ⟨p, e, s, m, args, below, meth, c, A, H0, Q, ck, cs, hx, hb, hml, ho, hts, hK, hck, hcs, rfl⟩ := C
  obtain ⟨hd, rfl, ht⟩ := hd
  exact fun ls H locs hl hP hD hS => lv_goto hx hb hd ht (k ls H locs hl hP hD hS)
theorem rx_icmp_eq (C : CX l cc nL own R D ta G) {x y : Int32} {off : Int} (hd : Dj cc pc (.if_icmp .eq off) off pc' tgt) (kt : x = y → G tgt lv st ws) (kf : ¬ x = y → G pc' lv st ws) : G pc lv (.int y :: .int x :: st) ws := by
  obtain ⟨p, e, s, m, args, below, meth, c, A, H0, Q, ck, cs, hx, hb, hml, ho, hts, hK, hck, hcs, rfl⟩ := C
  obtain ⟨hd, rfl, ht⟩ := hd
  exact fun ls H locs hl hP hD hS => lv_icmp_eq hx hb hd ht (fun h => kt h ls H locs hl hP hD hS) (fun h => kf h ls H locs hl hP hD hS)
theorem rx_if_eq (C : CX l cc nL own R D ta G) {x : Int32} {off : Int} (hd : Dj cc pc (.ifCond .eq off) off pc' tgt) (kt : x = 0 → G tgt lv st ws) (kf : ¬ x = 0 → G pc' lv st ws) : G pc lv (.int x :: st) ws := by
  obtain ⟨p, e, s, m, args, below, meth, c, A, H0, Q, ck, cs, hx, hb, hml, ho, hts, hK, hck, hcs, rfl⟩ := C
  obtain ⟨hd, rfl, ht⟩ := hd
  exact fun ls H locs hl hP hD hS => lv_if_eq hx hb hd ht (fun h => kt h ls H locs hl hP hD hS) (fun h => kf h ls H locs hl hP hD hS)
theorem rx_icmp_ne (C : CX l cc nL own R D ta G) {x y : Int32} {off : Int} (hd : Dj cc pc (.if_icmp .ne off) off pc' tgt) (kt : ¬ x = y → G tgt lv st ws) (kf : x = y → G pc' lv st ws) : G pc lv (.int y :: .int x :: st) ws := by
  obtain ⟨p, e, s, m, args, below, meth, c, A, H0, Q, ck, cs, hx, hb, hml, ho, hts, hK, hck, hcs, rfl⟩ := C
  obtain ⟨hd, rfl, ht⟩ := hd
  exact fun ls H locs hl hP hD hS => lv_icmp_ne hx hb hd ht (fun h => kt h ls H locs hl hP hD hS) (fun h => kf h ls H locs hl hP hD hS)
theorem rx_if_ne (C : CX l cc nL own R D ta G) {x : Int32} {off : Int} (hd : Dj cc pc (.ifCond .ne off) off pc' tgt) (kt : ¬ x = 0 → G tgt lv st ws) (kf : x = 0 → G pc' lv st ws) : G pc lv (.int x :: st) ws := by
  obtain ⟨p, e, s, m, args, below, meth, c, A, H0, Q, ck, cs, hx, hb, hml, ho, hts, hK, hck, hcs, rfl⟩ := C
  obtain ⟨hd, rfl, ht⟩ := hd
  exact fun ls H locs hl hP hD hS => lv_if_ne hx hb hd ht (fun h => kt h ls H locs hl hP hD hS) (fun h => kf h ls H locs hl hP hD hS)
theorem rx_icmp_lt (C : CX l cc nL own R D ta G) {x y : Int32} {off : Int} (hd : Dj cc pc (.if_icmp .lt off) off pc' tgt) (kt : x < y → G tgt lv st ws) (kf : ¬ x < y → G pc' lv st ws) : G pc lv (.int y :: .int x :: st) ws := by
  obtain ⟨p, e, s, m, args, below, meth, c, A, H0, Q, ck, cs, hx, hb, hml, ho, hts, hK, hck, hcs, rfl⟩ := C
  obtain ⟨hd, rfl, ht⟩ := hd
  exact fun ls H locs hl hP hD hS => lv_icmp_lt hx hb hd ht (fun h => kt h ls H locs hl hP hD hS) (fun h => kf h ls H locs hl hP hD hS)
theorem rx_if_lt (C : CX l cc nL own R D ta G) {x : Int32} {off : Int} (hd : Dj cc pc (.ifCond .lt off) off pc' tgt) (kt : x < 0 → G tgt lv st ws) (kf : ¬ x < 0 → G pc' lv st ws) : G pc lv (.int x :: st) ws := by
  obtain ⟨p, e, s, m, args, below, meth, c, A, H0, Q, ck, cs, hx, hb, hml, ho, hts, hK, hck, hcs, rfl⟩ := C
  obtain ⟨hd, rfl, ht⟩ := hd
  exact fun ls H locs hl hP hD hS => lv_if_lt hx hb hd ht (fun h => kt h ls H locs hl hP hD hS) (fun h => kf h ls H locs hl hP hD hS)
theorem rx_icmp_ge (C : CX l cc nL own R D ta G) {x y : Int32} {off : Int} (hd : Dj cc pc (.if_icmp .ge off) off pc' tgt) (kt : y ≤ x → G tgt lv st ws) (kf : ¬ y ≤ x → G pc' lv st ws) : G pc lv (.int y :: .int x :: st) ws := by
  obtain ⟨p, e, s, m, args, below, meth, c, A, H0, Q, ck, cs, hx, hb, hml, ho, hts, hK, hck, hcs, rfl⟩ := C
  obtain ⟨hd, rfl, ht⟩ := hd
  exact fun ls H locs hl hP hD hS => lv_icmp_ge hx hb hd ht (fun h => kt h ls H locs hl hP hD hS) (fun h => kf h ls H locs hl hP hD hS)
theorem rx_if_ge (C : CX l cc nL own R D ta G) {x : Int32} {off : Int} (hd : Dj cc pc (.ifCond .ge off) off pc' tgt) (kt : 0 ≤ x → G tgt lv st ws) (kf : ¬ 0 ≤ x → G pc' lv st ws) : G pc lv (.int x :: st) ws := by
  obtain ⟨p, e, s, m, args, below, meth, c, A, H0, Q, ck, cs, hx, hb, hml, ho, hts, hK, hck, hcs, rfl⟩ := C
  obtain ⟨hd, rfl, ht⟩ := hd
  exact fun ls H locs hl hP hD hS => lv_if_ge hx hb hd ht (fun h => kt h ls H locs hl hP hD hS) (fun h => kf h ls H locs hl hP hD hS)
theorem rx_icmp_gt (C : CX l cc nL own R D ta G) {x y : Int32} {off : Int} (hd : Dj cc pc (.if_icmp .gt off) off pc' tgt) (kt : y < x → G tgt lv st ws) (kf : ¬ y < x → G pc' lv st ws) : G pc lv (.int y :: .int x :: st) ws := by
  obtain ⟨p, e, s, m, args, below, meth, c, A, H0, Q, ck, cs, hx, hb, hml, ho, hts, hK, hck, hcs, rfl⟩ := C
  obtain ⟨hd, rfl, ht⟩ := hd
  exact fun ls H locs hl hP hD hS => lv_icmp_gt hx hb hd ht (fun h => kt h ls H locs hl hP hD hS) (fun h => kf h ls H locs hl hP hD hS)
theorem rx_if_gt (C : CX l cc nL own R D ta G) {x : Int32} {off : Int} (hd : Dj cc pc (.ifCond .gt off) off pc' tgt) (kt : 0 < x → G tgt lv st ws) (kf : ¬ 0 < x → G pc' lv st ws) : G pc lv (.int x :: st) ws := by
  obtain ⟨p, e, s, m, args, below, meth, c, A, H0, Q, ck, cs, hx, hb, hml, ho, hts, hK, hck, hcs, rfl⟩ := C
  obtain ⟨hd, rfl, ht⟩ := hd
  exact fun ls H locs hl hP hD hS => lv_if_gt hx hb hd ht (fun h => kt h ls H locs hl hP hD hS) (fun h => kf h ls H locs hl hP hD hS)
theorem rx_icmp_le (C : CX l cc nL own R D ta G) {x y : Int32} {off : Int} (hd : Dj cc pc (.if_icmp .le off) off pc' tgt) (kt : x ≤ y → G tgt lv st ws) (kf : ¬ x ≤ y → G pc' lv st ws) : G pc lv (.int y :: .int x :: st) ws := by
  obtain ⟨p, e, s, m, args, below, meth, c, A, H0, Q, ck, cs, hx, hb, hml, ho, hts, hK, hck, hcs, rfl⟩ := C
  obtain ⟨hd, rfl, ht⟩ := hd
  exact fun ls H locs hl hP hD hS => lv_icmp_le hx hb hd ht (fun h => kt h ls H locs hl hP hD hS) (fun h => kf h ls H locs hl hP hD hS)
theorem rx_if_le (C : CX l cc nL own R D ta G) {x : Int32} {off : Int} (hd : Dj cc pc (.ifCond .le off) off pc' tgt) (kt : x ≤ 0 → G tgt lv st ws) (kf : ¬ x ≤ 0 → G pc' lv st ws) : G pc lv (.int x :: st) ws := by
  obtain ⟨p, e, s, m, args, below, meth, c, A, H0, Q, ck, cs, hx, hb, hml, ho, hts, hK, hck, hcs, rfl⟩ := C
  obtain ⟨hd, rfl, ht⟩ := hd
  exact fun ls H locs hl hP hD hS => lv_if_le hx hb hd ht (fun h => kt h ls H locs hl hP hD hS) (fun h => kf h ls H locs hl hP hD hS)
theorem rx_get (C : CX l cc nL own R D ta G) {a ci index N : Nat} {Cn ref : String} {T : u_T} (q0 kf : Nat) {fs : List Value} {v : Value} (hin : ∀ w ∈ u_ws Cn T N, w ∈ gw) (he : ws[q0]? = some (a, .inr (ci, fs))) (hc : cls3[ci]? = some (Cn, T, N)) (hk : kf < N) (hw : Cond.fieldLink own index ref (T kf).2.1 (T kf).2.2.1 ∈ gw) (hrf : (T kf).1 = ref) (hv : fs[kf]? = some v) (hd : Dc cc pc (.getfield index) 3 pc') (k : G pc' lv (v :: st) ws) : G pc lv (.ref a :: st) ws := by
  obtain ⟨p, e, s, m, args, below, meth, c, A, H0, Q, ck, cs, hx, hb, hml, ho, hts, hK, hck, hcs, rfl⟩ := C
  obtain ⟨hd, rfl⟩ := hd
  subst hrf
  exact fun ls H locs hl hP hD hS => va_get hx hb hts hin ho hK hP q0 he hc kf hk (hts _ hw) (fun _ h9 => h9) hv hd (k ls H locs hl hP hD hS)
theorem rx_put (C : CX l cc nL own R D ta G) {a ci index N : Nat} {Cn ref : String} {T : u_T} (q0 kf : Nat) {fs : List Value} {v : Value} (hin : ∀ w ∈ u_ws Cn T N, w ∈ gw) (ty0 : Nat → FieldType) (hty : ∀ k, k < N → parseFieldDescriptor (T k).2.2.1 = some (ty0 k)) (hnm : ∀ a, a < N → ∀ b, b < N → a ≠ b → (T a).2.1 ≠ (T b).2.1) (he : ws[q0]? = some (a, .inr (ci, fs))) (hc : cls3[ci]? = some (Cn, T, N)) (hk : kf < N) (hw : Cond.fieldLink own index ref (T kf).2.1 (T kf).2.2.1 ∈ gw) (hrf : (T kf).1 = ref) (hfin : (T kf).2.2.2 = false) (hn : narrow (ty0 kf) v = v) (hfit : fits (ty0 kf) v = true) (hln : kf < fs.length) (hws : ws.set q0 (a, .inr (ci, fs.set kf v)) = ws') (hd : Dc cc pc (.putfield index) 3 pc') (k : G pc' lv st ws') : G pc lv (v :: .ref a :: st) ws := by
  obtain ⟨p, e, s, m, args, below, meth, c, A, H0, Q, ck, cs, hx, hb, hml, ho, hts, hK, hck, hcs, rfl⟩ := C
  obtain ⟨hd, rfl⟩ := hd
  subst hrf; subst hws
  exact fun ls H locs hl hP hD hS => va_put hx hb hts hin ty0 hty hnm ho hK hP hD hS q0 he hc kf hk (hts _ hw) (fun _ h9 => h9) hfin (hty kf hk) hn hfit hln hd (fun H1 locs1 hP1 hD1 hS1 => k ls H1 locs1 hl hP1 hD1 hS1)
theorem rx_iald (C : CX l cc nL own R D ta G) {a n : Nat} {f : Nat → Int32} (q0 : Nat) (he : ws[q0]? = some (a, .inl (ta 0, n, .inl f))) (hN : n ≤ 1000) {i : Int32} (j : Nat) (hi : i = nI j) (hj : j < n) (hd : Dc cc pc (.iaload) 1 pc') (k : G pc' lv (.int (f j) :: st) ws) : G pc lv (.int i :: .ref a :: st) ws := by
  obtain ⟨p, e, s, m, args, below, meth, c, A, H0, Q, ck, cs, hx, hb, hml, ho, hts, hK, hck, hcs, rfl⟩ := C
  obtain ⟨hd, rfl⟩ := hd
  subst hi
  have hj31 : j < 2 ^ 31 := by omega
  refine fun ls H locs hl hP hD hS => va_iald hx hb hK hP q0 0 he rfl (vp_in_nI hj (by omega)) hd ?_
  rw [nI_clamp hj31]
  exact k ls H locs hl hP hD hS
theorem rx_zald (C : CX l cc nL own R D ta G) {a n : Nat} {f : Nat → Int32} (q0 : Nat) (he : ws[q0]? = some (a, .inl (ta 3, n, .inl f))) (hN : n ≤ 1000) {i : Int32} (j : Nat) (hi : i = nI j) (hj : j < n) (hd : Dc cc pc (.baload) 1 pc') (k : G pc' lv (.int (f j) :: st) ws) : G pc lv (.int i :: .ref a :: st) ws := by
  obtain ⟨p, e, s, m, args, below, meth, c, A, H0, Q, ck, cs, hx, hb, hml, ho, hts, hK, hck, hcs, rfl⟩ := C
  obtain ⟨hd, rfl⟩ := hd
  subst hi
  have hj31 : j < 2 ^ 31 := by omega
  refine fun ls H locs hl hP hD hS => va_zald hx hb hK hP q0 3 he rfl (vp_in_nI hj (by omega)) hd ?_
  rw [nI_clamp hj31]
  exact k ls H locs hl hP hD hS
theorem rx_cald (C : CX l cc nL own R D ta G) {a n : Nat} {f : Nat → Int32} (q0 : Nat) (he : ws[q0]? = some (a, .inl (ta 1, n, .inl f))) (hN : n ≤ 1000) {i : Int32} (j : Nat) (hi : i = nI j) (hj : j < n) (hd : Dc cc pc (.caload) 1 pc') (k : G pc' lv (.int (f j) :: st) ws) : G pc lv (.int i :: .ref a :: st) ws := by
  obtain ⟨p, e, s, m, args, below, meth, c, A, H0, Q, ck, cs, hx, hb, hml, ho, hts, hK, hck, hcs, rfl⟩ := C
  obtain ⟨hd, rfl⟩ := hd
  subst hi
  have hj31 : j < 2 ^ 31 := by omega
  refine fun ls H locs hl hP hD hS => va_cald hx hb hK hP q0 1 he rfl (vp_in_nI hj (by omega)) hd ?_
  rw [nI_clamp hj31]
  exact k ls H locs hl hP hD hS
theorem rx_sald (C : CX l cc nL own R D ta G) {a n : Nat} {f : Nat → Int32} (q0 : Nat) (he : ws[q0]? = some (a, .inl (ta 2, n, .inl f))) (hN : n ≤ 1000) {i : Int32} (j : Nat) (hi : i = nI j) (hj : j < n) (hd : Dc cc pc (.saload) 1 pc') (k : G pc' lv (.int (f j) :: st) ws) : G pc lv (.int i :: .ref a :: st) ws := by
  obtain ⟨p, e, s, m, args, below, meth, c, A, H0, Q, ck, cs, hx, hb, hml, ho, hts, hK, hck, hcs, rfl⟩ := C
  obtain ⟨hd, rfl⟩ := hd
  subst hi
  have hj31 : j < 2 ^ 31 := by omega
  refine fun ls H locs hl hP hD hS => va_sald hx hb hK hP q0 2 he rfl (vp_in_nI hj (by omega)) hd ?_
  rw [nI_clamp hj31]
  exact k ls H locs hl hP hD hS
theorem rx_aald (C : CX l cc nL own R D ta G) {a n b : Nat} {f : Nat → Option Nat} (q0 : Nat) (he : ws[q0]? = some (a, .inl (ta 4, n, .inr (.inr (.inr (.inr f)))))) (hN : n ≤ 1000) {i : Int32} (j : Nat) (hi : i = nI j) (hj : j < n) (hf : f j = some b) (hd : Dc cc pc (.aaload) 1 pc') (k : G pc' lv (.ref b :: st) ws) : G pc lv (.int i :: .ref a :: st) ws := by
  obtain ⟨p, e, s, m, args, below, meth, c, A, H0, Q, ck, cs, hx, hb, hml, ho, hts, hK, hck, hcs, rfl⟩ := C
  obtain ⟨hd, rfl⟩ := hd
  subst hi
  have hj31 : j < 2 ^ 31 := by omega
  refine fun ls H locs hl hP hD hS => va_aldq hx hb hK hP q0 4 he rfl (vp_in_nI hj (by omega)) hd ?_
  rw [nI_clamp hj31, hf]
  exact k ls H locs hl hP hD hS
theorem rx_alen (C : CX l cc nL own R D ta G) {a t0 : Nat} {x : vp_A} {cA : ClassId} {ty : FieldType} (q0 : Nat) (he : ws[q0]? = some (a, .inl (cA, x))) (ht : (tys ta)[t0]? = some (cA, ty)) (hd : Dc cc pc (.arraylength) 1 pc') (k : G pc' lv (.int (nI x.1) :: st) ws) : G pc lv (.ref a :: st) ws := by
  obtain ⟨p, e, s, m, args, below, meth, c, A, H0, Q, ck, cs, hx, hb, hml, ho, hts, hK, hck, hcs, rfl⟩ := C
  obtain ⟨hd, rfl⟩ := hd
  exact fun ls H locs hl hP hD hS => va_alen hx hb hK hP q0 t0 he ht rfl hd (k ls H locs hl hP hD hS)
theorem rx_iast (C : CX l cc nL own R D ta G) {a n : Nat} {f : Nat → Int32} (q0 : Nat) (he : ws[q0]? = some (a, .inl (ta 0, n, .inl f))) (hN : n ≤ 1000) {i x : Int32} (j : Nat) (hi : i = nI j) (hj : j < n) (hws : ws.set q0 (a, .inl (ta 0, n, .inl (upd f j x))) = ws') (hd : Dc cc pc (.iastore) 1 pc') (k : G pc' lv st ws') : G pc lv (.int x :: .int i :: .ref a :: st) ws := by
  obtain ⟨p, e, s, m, args, below, meth, c, A, H0, Q, ck, cs, hx, hb, hml, ho, hts, hK, hck, hcs, rfl⟩ := C
  obtain ⟨hd, rfl⟩ := hd
  subst hi; subst hws
  have hj31 : j < 2 ^ 31 := by omega
  refine fun ls H locs hl hP hD hS => va_iast hx hb hK hP hD hS q0 0 he rfl (vp_in_nI hj (by omega)) hd (fun H1 locs1 hP1 hD1 hS1 => ?_)
  rw [nI_clamp hj31] at hP1 hD1
  exact k ls H1 locs1 hl hP1 hD1 hS1
theorem rx_zast (C : CX l cc nL own R D ta G) {a n : Nat} {f : Nat → Int32} (q0 : Nat) (he : ws[q0]? = some (a, .inl (ta 3, n, .inl f))) (hN : n ≤ 1000) {i x : Int32} (hx0 : vp_nar .boolean x = x) (j : Nat) (hi : i = nI j) (hj : j < n) (hws : ws.set q0 (a, .inl (ta 3, n, .inl (upd f j x))) = ws') (hd : Dc cc pc (.bastore) 1 pc') (k : G pc' lv st ws') : G pc lv (.int x :: .int i :: .ref a :: st) ws := by
  obtain ⟨p, e, s, m, args, below, meth, c, A, H0, Q, ck, cs, hx, hb, hml, ho, hts, hK, hck, hcs, rfl⟩ := C
  obtain ⟨hd, rfl⟩ := hd
  subst hi; subst hws
  have hj31 : j < 2 ^ 31 := by omega
  refine fun ls H locs hl hP hD hS => va_zast hx hb hK hP hD hS q0 3 he rfl (vp_in_nI hj (by omega)) hd (fun H1 locs1 hP1 hD1 hS1 => ?_)
  rw [nI_clamp hj31, hx0] at hP1 hD1
  exact k ls H1 locs1 hl hP1 hD1 hS1
theorem rx_cast (C : CX l cc nL own R D ta G) {a n : Nat} {f : Nat → Int32} (q0 : Nat) (he : ws[q0]? = some (a, .inl (ta 1, n, .inl f))) (hN : n ≤ 1000) {i x : Int32} (hx0 : vp_nar .char x = x) (j : Nat) (hi : i = nI j) (hj : j < n) (hws : ws.set q0 (a, .inl (ta 1, n, .inl (upd f j x))) = ws') (hd : Dc cc pc (.castore) 1 pc') (k : G pc' lv st ws') : G pc lv (.int x :: .int i :: .ref a :: st) ws := by
  obtain ⟨p, e, s, m, args, below, meth, c, A, H0, Q, ck, cs, hx, hb, hml, ho, hts, hK, hck, hcs, rfl⟩ := C
  obtain ⟨hd, rfl⟩ := hd
  subst hi; subst hws
  have hj31 : j < 2 ^ 31 := by omega
  refine fun ls H locs hl hP hD hS => va_cast hx hb hK hP hD hS q0 1 he rfl (vp_in_nI hj (by omega)) hd (fun H1 locs1 hP1 hD1 hS1 => ?_)
  rw [nI_clamp hj31, hx0] at hP1 hD1
  exact k ls H1 locs1 hl hP1 hD1 hS1
theorem rx_sast (C : CX l cc nL own R D ta G) {a n : Nat} {f : Nat → Int32} (q0 : Nat) (he : ws[q0]? = some (a, .inl (ta 2, n, .inl f))) (hN : n ≤ 1000) {i x : Int32} (hx0 : vp_nar .short x = x) (j : Nat) (hi : i = nI j) (hj : j < n) (hws : ws.set q0 (a, .inl (ta 2, n, .inl (upd f j x))) = ws') (hd : Dc cc pc (.sastore) 1 pc') (k : G pc' lv st ws') : G pc lv (.int x :: .int i :: .ref a :: st) ws := by
  obtain ⟨p, e, s, m, args, below, meth, c, A, H0, Q, ck, cs, hx, hb, hml, ho, hts, hK, hck, hcs, rfl⟩ := C
  obtain ⟨hd, rfl⟩ := hd
  subst hi; subst hws
  have hj31 : j < 2 ^ 31 := by omega
  refine fun ls H locs hl hP hD hS => va_sast hx hb hK hP hD hS q0 2 he rfl (vp_in_nI hj (by omega)) hd (fun H1 locs1 hP1 hD1 hS1 => ?_)
  rw [nI_clamp hj31, hx0] at hP1 hD1
  exact k ls H1 locs1 hl hP1 hD1 hS1
theorem rx_top (e : Int32) {x : Int32} (h : x = e) (k : G pc lv (.int e :: st) ws) : G pc lv (.int x :: st) ws := h ▸ k
theorem rx_topl (e : Int64) {x : Int64} (h : x = e) (k : G pc lv (.long e :: st) ws) : G pc lv (.long x :: st) ws := h ▸ k
end RX
/-! ===== contracts ===== -/
def InW (wc : va_W) : Nat → Prop := fun q => ∃ (k : Nat) (e : va_E), wc[k]? = some (q, e)
def PreC (D : va_G) (ta : Nat → ClassId) (wc : va_W) (av : List Value) : Array Value → State → Prop := va_Pc av (fun U => va_P D cls3 wc U.heap ∧ va_K D cls3 (tys ta) U ∧ va_D (fun _ => True) wc)
def Cti (l : Launch) (y : MethodName) (cc : ByteArray) (nL : Nat) (ty : FieldType) (rm : Room) (D : va_G) (ta : Nat → ClassId) (av : List Value) (wc : va_W) {S : Type} (wf : S → va_W) (post : Int32 → S → Prop) : Prop := Met l y (.code y cc nL (some ty) :: gw) rm (PreC D ta wc av) (va_Qi post (fun u t => va_P D cls3 (wf u) t.heap) (InW wc)) 0 0 (InW wc)
def Ctl (l : Launch) (y : MethodName) (cc : ByteArray) (nL : Nat) (rm : Room) (D : va_G) (ta : Nat → ClassId) (av : List Value) (wc : va_W) {S : Type} (wf : S → va_W) (post : Int64 → S → Prop) : Prop := Met l y (.code y cc nL (some .long) :: gw) rm (PreC D ta wc av) (va_Ql post (fun u t => va_P D cls3 (wf u) t.heap) (InW wc)) 0 0 (InW wc)
def Ctv (l : Launch) (y : MethodName) (cc : ByteArray) (nL : Nat) (rm : Room) (D : va_G) (ta : Nat → ClassId) (av : List Value) (wc : va_W) {S : Type} (wf : S → va_W) (post : S → Prop) : Prop := Met l y (.code y cc nL none :: gw) rm (PreC D ta wc av) (va_Qv post (fun u t => va_P D cls3 (wf u) t.heap) (InW wc)) 0 0 (InW wc)
theorem PreC.blind {D : va_G} {ta : Nat → ClassId} {wc : va_W} {av : List Value} : FrameBlind (PreC D ta wc av) := fun a U g mk q => by
  obtain ⟨q0, qP, qK, qD⟩ := q
  exact ⟨q0, qP, va_K.moved (u := U) (U := U.calling g mk a) (Vm.Alike.refl U.vm) qK, qD⟩
section START
variable {l : Launch} {y : MethodName} {cc : ByteArray} {nL : Nat} {ty : FieldType} {rm : Room} {D : va_G} {ta : Nat → ClassId} {av : List Value} {wc : va_W} {S : Type} {wf : S → va_W}
theorem start_i {post : Int32 → S → Prop} (hy : plainName y.cls = true) (hn : (lg_sl av).length ≤ nL)
    (body : ∀ G : GT, CX l cc nL y.cls rm D ta G → (∀ (pc pc' : Nat) (lv : List (Nat × Value)) (v : Int32) (u : S), Dc cc pc .ireturn 1 pc' → narrow ty (.int v) = .int v → post v u → G pc lv [.int v] (wf u)) → G 0 (lv_args 0 av) [] wc) : Cti l y cc nL ty rm D ta av wc wf post := by
  refine Met.ofW (cc := cc) (maxL := nL) (ret := (some ty)) hy rfl ?_
  intro p e s m args below meth c s₁ B hml hv
  obtain ⟨rfl, hP0, hK, hD0⟩ := hv
  have hx := B.exec
  have hb := B.bytes
  have hr := B.returns
  have hts := atoms_spec B.pre
  have hown : s.vm.findClass y.cls = some m.cls := findClass_of_methodNamed B.named
  have hlocks := B.notSynchronized
  rw [lg_entry_eq]
  refine body _ ⟨p, e, s, m, _, below, meth, c, InW wc, s.heap, _, 0, 0, hx, hb, hml, hown, fun w hw => hts w (List.mem_cons_of_mem _ hw), hK, Nat.zero_le _, Nat.zero_le _, rfl⟩ ?_ _ _ [] (lv_entry av hn) hP0 ⟨hD0.1, fun k q hk => ⟨k, q.2, hk⟩⟩ va_S.rf
  intro pc pc' lv v u hd hn hp ls H locs hl hP hD hS
  exact W.zret hx hb hr hn (fun t ht hW => ⟨⟨v, u, rfl, hp, by show va_P D cls3 (wf u) t.heap; rw [ht]; exact hP⟩, hS.F ht⟩) hS.2.2 hd.1
theorem start_l {post : Int64 → S → Prop} (hy : plainName y.cls = true) (hn : (lg_sl av).length ≤ nL)
    (body : ∀ G : GT, CX l cc nL y.cls rm D ta G → (∀ (pc pc' : Nat) (lv : List (Nat × Value)) (v : Int64) (u : S), Dc cc pc .lreturn 1 pc' → post v u → G pc lv [.long v] (wf u)) → G 0 (lv_args 0 av) [] wc) : Ctl l y cc nL rm D ta av wc wf post := by
  refine Met.ofW (cc := cc) (maxL := nL) (ret := (some .long)) hy rfl ?_
  intro p e s m args below meth c s₁ B hml hv
  obtain ⟨rfl, hP0, hK, hD0⟩ := hv
  have hx := B.exec
  have hb := B.bytes
  have hr := B.returns
  have hts := atoms_spec B.pre
  have hown : s.vm.findClass y.cls = some m.cls := findClass_of_methodNamed B.named
  have hlocks := B.notSynchronized
  rw [lg_entry_eq]
  refine body _ ⟨p, e, s, m, _, below, meth, c, InW wc, s.heap, _, 0, 0, hx, hb, hml, hown, fun w hw => hts w (List.mem_cons_of_mem _ hw), hK, Nat.zero_le _, Nat.zero_le _, rfl⟩ ?_ _ _ [] (lv_entry av hn) hP0 ⟨hD0.1, fun k q hk => ⟨k, q.2, hk⟩⟩ va_S.rf
  intro pc pc' lv v u hd hp ls H locs hl hP hD hS
  exact W.lret hx hb hr (fun t ht hW => ⟨⟨v, u, rfl, hp, by show va_P D cls3 (wf u) t.heap; rw [ht]; exact hP⟩, hS.F ht⟩) hS.2.2 hd.1
theorem start_v {post : S → Prop} (hy : plainName y.cls = true) (hn : (lg_sl av).length ≤ nL)
    (body : ∀ G : GT, CX l cc nL y.cls rm D ta G → (∀ (pc pc' : Nat) (lv : List (Nat × Value)) (u : S), Dc cc pc .return_ 1 pc' → post u → G pc lv [] (wf u)) → G 0 (lv_args 0 av) [] wc) : Ctv l y cc nL rm D ta av wc wf post := by
  refine Met.ofW (cc := cc) (maxL := nL) (ret := none) hy rfl ?_
  intro p e s m args below meth c s₁ B hml hv
  obtain ⟨rfl, hP0, hK, hD0⟩ := hv
  have hx := B.exec
  have hb := B.bytes
  have hr := B.returns
  have hts := atoms_spec B.pre
  have hown : s.vm.findClass y.cls = some m.cls := findClass_of_methodNamed B.named
  have hlocks := B.notSynchronized
  rw [lg_entry_eq]
  refine body _ ⟨p, e, s, m, _, below, meth, c, InW wc, s.heap, _, 0, 0, hx, hb, hml, hown, fun w hw => hts w (List.mem_cons_of_mem _ hw), hK, Nat.zero_le _, Nat.zero_le _, rfl⟩ ?_ _ _ [] (lv_entry av hn) hP0 ⟨hD0.1, fun k q hk => ⟨k, q.2, hk⟩⟩ va_S.rf
  intro pc pc' lv u hd hp ls H locs hl hP hD hS
  exact W.vret hx hb hr (fun t ht hW => ⟨⟨u, rfl, hp, by show va_P D cls3 (wf u) t.heap; rw [ht]; exact hP⟩, hS.F ht⟩) hS.2.2 hd.1
end START
/-! ===== calls ===== -/
def setAll : va_W → List Nat → va_W → va_W
  | ws, i :: is, e :: es => setAll (ws.set i e) is es
  | ws, [], _ => ws
  | ws, _ :: _, [] => ws
theorem setAll_get : ∀ (is : List Nat) (es ws : va_W) (k : Nat) (q : Nat × va_E), (setAll ws is es)[k]? = some q → (∃ j : Nat, is[j]? = some k ∧ es[j]? = some q) ∨ ((∀ j : Nat, j < es.length → is[j]? ≠ some k) ∧ ws[k]? = some q)
  | [], es, ws, k, q, h => Or.inr ⟨fun j _ => by simp, by cases es <;> exact h⟩
  | i :: is, [], ws, k, q, h => Or.inr ⟨fun j hj => by simp at hj, h⟩
  | i :: is, e :: es, ws, k, q, h => by
    rcases setAll_get is es (ws.set i e) k q h with ⟨j, h1, h2⟩ | ⟨h1, h2⟩
    · exact Or.inl ⟨j + 1, by simpa using h1, by simpa using h2⟩
    · by_cases hik : i = k
      · subst hik
        rw [List.getElem?_set_self' ] at h2
        refine Or.inl ⟨0, rfl, ?_⟩
        cases hw : ws[i]? with
        | none => rw [hw] at h2; simp at h2
        | some z => rw [hw] at h2; simpa using h2
      · rw [List.getElem?_set_ne hik] at h2
        refine Or.inr ⟨fun j hj => ?_, h2⟩
        cases j with
        | zero => simpa using hik
        | succ j => simpa using h1 j (by simpa using hj)
theorem all_join {D : va_G} {A : Nat → Prop} {ws wc wn : va_W} {H H1 : Heap} {is : List Nat} (hP : va_P D cls3 ws H) (hD : va_D A ws) (hC : is.map (fun i => ws[i]?) = wc.map some) (ha : wn.map (fun q => q.1) = wc.map (fun q => q.1)) (hk : ∀ q : Nat, q < H.size → ¬ InW wc q → H1[q]? = H[q]?) (hP1 : va_P D cls3 wn H1) : va_P D cls3 (setAll ws is wn) H1 ∧ va_D A (setAll ws is wn) := by
  have hlen : is.length = wc.length := by have := congrArg List.length hC; simpa using this
  have hlen2 : wn.length = wc.length := by have := congrArg List.length ha; simpa using this
  have key : ∀ (k : Nat) (q : Nat × va_E), (setAll ws is wn)[k]? = some q → ∃ q', ws[k]? = some q' ∧ q'.1 = q.1 := by
    intro k q h
    rcases setAll_get is wn ws k q h with ⟨j, h1, h2⟩ | ⟨-, h2⟩
    · have h3 : (is.map (fun i => ws[i]?))[j]? = some ws[k]? := by simp [List.getElem?_map, h1]
      rw [hC] at h3
      have h4 : (wn.map (fun q => q.1))[j]? = some q.1 := by simp [List.getElem?_map, h2]
      rw [ha] at h4
      simp only [List.getElem?_map] at h3 h4
      cases hw : wc[j]? with
      | none => rw [hw] at h3; simp at h3
      | some z =>
        rw [hw] at h3 h4
        simp at h3 h4
        exact ⟨z, h3.symm, h4⟩
    · exact ⟨q, h2, rfl⟩
  refine ⟨fun k q h => ?_, fun i j p q hi hj e => ?_, fun k q h => ?_⟩
  · rcases setAll_get is wn ws k q h with ⟨j, h1, h2⟩ | ⟨h1, h2⟩
    · exact hP1 j q h2
    · have hq := hP k q h2
      refine hq.kept (hk _ hq.lt ?_)
      rintro ⟨j, e, hj⟩
      have hjl : j < wc.length := (List.getElem?_eq_some_iff.mp hj).1
      have hjs : j < is.length := by omega
      have h3 : (is.map (fun i => ws[i]?))[j]? = some ws[is[j]]? := by simp [List.getElem?_map, hjs]
      rw [hC] at h3
      simp only [List.getElem?_map, hj, Option.map_some, Option.some.injEq] at h3
      have := hD.1 k is[j] q (q.1, e) h2 h3.symm rfl
      exact h1 j (by omega) (by rw [this]; simp [hjs])
  · obtain ⟨p', h1, h2⟩ := key i p hi
    obtain ⟨q', h3, h4⟩ := key j q hj
    exact hD.1 i j p' q' h1 h3 (by rw [h2, h4]; exact e)
  · obtain ⟨q', h3, h4⟩ := key k q h
    rw [← h4]
    exact hD.2 k q' h3
theorem cut_P {D : va_G} {ws wc : va_W} {H : Heap} {is : List Nat} (hP : va_P D cls3 ws H) (hC : is.map (fun i => ws[i]?) = wc.map some) : va_P D cls3 wc H := fun k q hk => by
  obtain ⟨i, -, h⟩ := va_in_of is hC hk
  exact hP i q h
theorem cut_A {A : Nat → Prop} {ws wc : va_W} {is : List Nat} (hD : va_D A ws) (hC : is.map (fun i => ws[i]?) = wc.map some) : ∀ q, InW wc q → A q := by
  rintro q ⟨k, e, hk⟩
  obtain ⟨i, -, h⟩ := va_in_of is hC hk
  exact hD.2 i _ h
theorem gw_code {y : MethodName} {b : ByteArray} {n : Nat} {r : Option FieldType} (h : Cond.code y b n r ∈ gw) : GoodIn gw (.code y b n r :: gw) := fun w hw => by
  rcases List.mem_cons.mp hw with rfl | hw
  · exact gw_good _ h
  · exact gw_good _ hw
/-- the words of a call -/
def CwV (own : String) (idx : Nat) (y : MethodName) (b : ByteArray) (mL : Nat) (r : Option FieldType) (n : Nat) : Prop := Cond.methodLink own idx y ∈ gw ∧ Cond.instanceMethod y ∈ gw ∧ Cond.selects y.cls y y ∈ gw ∧ Cond.initialized y.cls ∈ gw ∧ Cond.code y b mL r ∈ gw ∧ y.cls ≠ "java/lang/invoke/MethodHandle" ∧ y.cls ≠ "java/lang/invoke/VarHandle" ∧ (parseMethodDescriptor y.desc).map (fun d => d.parameters.length) = some n
def CwS (own : String) (idx : Nat) (y : MethodName) (b : ByteArray) (mL : Nat) (r : Option FieldType) (n : Nat) : Prop := Cond.methodLink own idx y ∈ gw ∧ Cond.static y ∈ gw ∧ Cond.initialized y.cls ∈ gw ∧ Cond.code y b mL r ∈ gw ∧ y.cls ≠ "java/lang/invoke/MethodHandle" ∧ y.cls ≠ "java/lang/invoke/VarHandle" ∧ (parseMethodDescriptor y.desc).map (fun d => d.parameters.length) = some n
def RmOk (rm R : Room) (mL : Nat) : Prop := rm.cells = 0 ∧ rm.slots = 0 ∧ rm.frames + 1 ≤ R.frames ∧ 8 + (mL + 11) + rm.locals ≤ R.locals
section CALL
variable {l : Launch} {cc : ByteArray} {nL : Nat} {own : String} {R : Room} {D : va_G} {ta : Nat → ClassId} {G : GT} {pc pc' : Nat} {lv : List (Nat × Value)} {st : List Value} {ws : va_W} {y : MethodName} {b : ByteArray} {mL n idx : Nat} {ty : FieldType} {rm : Room} {wc : va_W} {S : Type} {wf : S → va_W}
theorem rx_callVi {post : Int32 → S → Prop} (C : CX l cc nL own R D ta G) {o : Nat} {As : List Value} (hM : Cti l y b mL ty rm D ta (.ref o :: As) wc wf post) (hw : CwV own idx y b mL (some ty) n) (hR : RmOk rm R mL) (hn : As.length = n) (is : List Nat) (hnd : va_nd is = true) (hC : is.map (fun i => ws[i]?) = wc.map some) {q0 ci : Nat} {fs : List Value} {cq : vw_C} (hq : wc[q0]? = some (o, .inr (ci, fs))) (hc : cls3[ci]? = some cq) (hcy : cq.1 = y.cls) (rest : List Value) (hst : st = As.reverse ++ .ref o :: rest) (hrest : (rest.map fun v => v.category).sum ≤ 8) (ha : ∀ u, (wf u).map (fun q => q.1) = wc.map (fun q => q.1)) (hd : Dc cc pc (.invokevirtual idx) 3 pc') (k : ∀ (r : Int32) (u : S), post r u → G pc' lv (.int r :: rest) (setAll ws is (wf u))) : G pc lv st ws := by
  obtain ⟨p, e, s, m, args, below, meth, c, A, H0, Q, ck, cs, hx, hb, hml, ho, hts, hK, hck, hcs, rfl⟩ := C
  obtain ⟨hd, rfl⟩ := hd
  obtain ⟨h1, h2, h3, h4, h5, h6⟩ := hw
  obtain ⟨r1, r2, r3, r4⟩ := hR
  intro ls H locs hl hP hD hS
  have hPc := cut_P hP hC
  have hDc := hD.sub is hnd hC
  have hAc := cut_A hD hC
  refine va_calli (va_runV (rest := rest) ⟨hx, hb, hml, ho, hts⟩ hM ⟨callB_of n hts (gw_code h5) rfl r1 r2 (hts _ h4) (hts _ h1) h6 ⟨r3, r4⟩, hts _ h2, hts _ h3⟩ ⟨PreC.blind, by have := va_recv hK hPc hc hq; rw [hcy] at this; exact this, fun U hU hW => ⟨rfl, by rw [hU]; exact hPc, va_K.moved hW.alike hK, hDc.weaken (fun _ _ _ _ => trivial)⟩⟩ rfl hn hl.1 hst (lv_room hrest) hd ⟨hck, hcs⟩) hS (fun q _ h => hAc q h) hAc (fun r u t H1 locs1 ht hvm hp hB hz hk hS1 => ?_)
  have hB : va_P D cls3 (wf u) t.heap := hB
  rw [ht] at hB
  obtain ⟨hP2, hD2⟩ := all_join hP hD hC (ha u) hk hB
  exact k r u hp ls H1 locs1 hl hP2 hD2 hS1
theorem rx_callSi {post : Int32 → S → Prop} (C : CX l cc nL own R D ta G) {As : List Value} (hM : Cti l y b mL ty rm D ta As wc wf post) (hw : CwS own idx y b mL (some ty) n) (hR : RmOk rm R mL) (hn : As.length = n) (is : List Nat) (hnd : va_nd is = true) (hC : is.map (fun i => ws[i]?) = wc.map some) (rest : List Value) (hst : st = As.reverse ++ rest) (hrest : (rest.map fun v => v.category).sum ≤ 8) (ha : ∀ u, (wf u).map (fun q => q.1) = wc.map (fun q => q.1)) (hd : Dc cc pc (.invokestatic idx) 3 pc') (k : ∀ (r : Int32) (u : S), post r u → G pc' lv (.int r :: rest) (setAll ws is (wf u))) : G pc lv st ws := by
  obtain ⟨p, e, s, m, args, below, meth, c, A, H0, Q, ck, cs, hx, hb, hml, ho, hts, hK, hck, hcs, rfl⟩ := C
  obtain ⟨hd, rfl⟩ := hd
  obtain ⟨h1, h2, h4, h5, h6⟩ := hw
  obtain ⟨r1, r2, r3, r4⟩ := hR
  intro ls H locs hl hP hD hS
  have hPc := cut_P hP hC
  have hDc := hD.sub is hnd hC
  have hAc := cut_A hD hC
  refine va_calli (va_runS (rest := rest) ⟨hx, hb, hml, ho, hts⟩ hM ⟨callB_of n hts (gw_code h5) rfl r1 r2 (hts _ h4) (hts _ h1) h6 ⟨r3, r4⟩, hts _ h2⟩ ⟨PreC.blind, fun U hU hW => ⟨rfl, by rw [hU]; exact hPc, va_K.moved hW.alike hK, hDc.weaken (fun _ _ _ _ => trivial)⟩⟩ rfl hn hl.1 hst (lv_room hrest) hd ⟨hck, hcs⟩) hS (fun q _ h => hAc q h) hAc (fun r u t H1 locs1 ht hvm hp hB hz hk hS1 => ?_)
  have hB : va_P D cls3 (wf u) t.heap := hB
  rw [ht] at hB
  obtain ⟨hP2, hD2⟩ := all_join hP hD hC (ha u) hk hB
  exact k r u hp ls H1 locs1 hl hP2 hD2 hS1
theorem rx_callVl {post : Int64 → S → Prop} (C : CX l cc nL own R D ta G) {o : Nat} {As : List Value} (hM : Ctl l y b mL rm D ta (.ref o :: As) wc wf post) (hw : CwV own idx y b mL (some .long) n) (hR : RmOk rm R mL) (hn : As.length = n) (is : List Nat) (hnd : va_nd is = true) (hC : is.map (fun i => ws[i]?) = wc.map some) {q0 ci : Nat} {fs : List Value} {cq : vw_C} (hq : wc[q0]? = some (o, .inr (ci, fs))) (hc : cls3[ci]? = some cq) (hcy : cq.1 = y.cls) (rest : List Value) (hst : st = As.reverse ++ .ref o :: rest) (hrest : (rest.map fun v => v.category).sum ≤ 8) (ha : ∀ u, (wf u).map (fun q => q.1) = wc.map (fun q => q.1)) (hd : Dc cc pc (.invokevirtual idx) 3 pc') (k : ∀ (r : Int64) (u : S), post r u → G pc' lv (.long r :: rest) (setAll ws is (wf u))) : G pc lv st ws := by
  obtain ⟨p, e, s, m, args, below, meth, c, A, H0, Q, ck, cs, hx, hb, hml, ho, hts, hK, hck, hcs, rfl⟩ := C
  obtain ⟨hd, rfl⟩ := hd
  obtain ⟨h1, h2, h3, h4, h5, h6⟩ := hw
  obtain ⟨r1, r2, r3, r4⟩ := hR
  intro ls H locs hl hP hD hS
  have hPc := cut_P hP hC
  have hDc := hD.sub is hnd hC
  have hAc := cut_A hD hC
  refine va_calll (va_runV (rest := rest) ⟨hx, hb, hml, ho, hts⟩ hM ⟨callB_of n hts (gw_code h5) rfl r1 r2 (hts _ h4) (hts _ h1) h6 ⟨r3, r4⟩, hts _ h2, hts _ h3⟩ ⟨PreC.blind, by have := va_recv hK hPc hc hq; rw [hcy] at this; exact this, fun U hU hW => ⟨rfl, by rw [hU]; exact hPc, va_K.moved hW.alike hK, hDc.weaken (fun _ _ _ _ => trivial)⟩⟩ rfl hn hl.1 hst (lv_room hrest) hd ⟨hck, hcs⟩) hS (fun q _ h => hAc q h) hAc (fun r u t H1 locs1 ht hvm hp hB hz hk hS1 => ?_)
  have hB : va_P D cls3 (wf u) t.heap := hB
  rw [ht] at hB
  obtain ⟨hP2, hD2⟩ := all_join hP hD hC (ha u) hk hB
  exact k r u hp ls H1 locs1 hl hP2 hD2 hS1
theorem rx_callSl {post : Int64 → S → Prop} (C : CX l cc nL own R D ta G) {As : List Value} (hM : Ctl l y b mL rm D ta As wc wf post) (hw : CwS own idx y b mL (some .long) n) (hR : RmOk rm R mL) (hn : As.length = n) (is : List Nat) (hnd : va_nd is = true) (hC : is.map (fun i => ws[i]?) = wc.map some) (rest : List Value) (hst : st = As.reverse ++ rest) (hrest : (rest.map fun v => v.category).sum ≤ 8) (ha : ∀ u, (wf u).map (fun q => q.1) = wc.map (fun q => q.1)) (hd : Dc cc pc (.invokestatic idx) 3 pc') (k : ∀ (r : Int64) (u : S), post r u → G pc' lv (.long r :: rest) (setAll ws is (wf u))) : G pc lv st ws := by
  obtain ⟨p, e, s, m, args, below, meth, c, A, H0, Q, ck, cs, hx, hb, hml, ho, hts, hK, hck, hcs, rfl⟩ := C
  obtain ⟨hd, rfl⟩ := hd
  obtain ⟨h1, h2, h4, h5, h6⟩ := hw
  obtain ⟨r1, r2, r3, r4⟩ := hR
  intro ls H locs hl hP hD hS
  have hPc := cut_P hP hC
  have hDc := hD.sub is hnd hC
  have hAc := cut_A hD hC
  refine va_calll (va_runS (rest := rest) ⟨hx, hb, hml, ho, hts⟩ hM ⟨callB_of n hts (gw_code h5) rfl r1 r2 (hts _ h4) (hts _ h1) h6 ⟨r3, r4⟩, hts _ h2⟩ ⟨PreC.blind, fun U hU hW => ⟨rfl, by rw [hU]; exact hPc, va_K.moved hW.alike hK, hDc.weaken (fun _ _ _ _ => trivial)⟩⟩ rfl hn hl.1 hst (lv_room hrest) hd ⟨hck, hcs⟩) hS (fun q _ h => hAc q h) hAc (fun r u t H1 locs1 ht hvm hp hB hz hk hS1 => ?_)
  have hB : va_P D cls3 (wf u) t.heap := hB
  rw [ht] at hB
  obtain ⟨hP2, hD2⟩ := all_join hP hD hC (ha u) hk hB
  exact k r u hp ls H1 locs1 hl hP2 hD2 hS1
theorem rx_callVv {post : S → Prop} (C : CX l cc nL own R D ta G) {o : Nat} {As : List Value} (hM : Ctv l y b mL rm D ta (.ref o :: As) wc wf post) (hw : CwV own idx y b mL none n) (hR : RmOk rm R mL) (hn : As.length = n) (is : List Nat) (hnd : va_nd is = true) (hC : is.map (fun i => ws[i]?) = wc.map some) {q0 ci : Nat} {fs : List Value} {cq : vw_C} (hq : wc[q0]? = some (o, .inr (ci, fs))) (hc : cls3[ci]? = some cq) (hcy : cq.1 = y.cls) (rest : List Value) (hst : st = As.reverse ++ .ref o :: rest) (hrest : (rest.map fun v => v.category).sum ≤ 8) (ha : ∀ u, (wf u).map (fun q => q.1) = wc.map (fun q => q.1)) (hd : Dc cc pc (.invokevirtual idx) 3 pc') (k : ∀ (u : S), post u → G pc' lv (rest) (setAll ws is (wf u))) : G pc lv st ws := by
  obtain ⟨p, e, s, m, args, below, meth, c, A, H0, Q, ck, cs, hx, hb, hml, ho, hts, hK, hck, hcs, rfl⟩ := C
  obtain ⟨hd, rfl⟩ := hd
  obtain ⟨h1, h2, h3, h4, h5, h6⟩ := hw
  obtain ⟨r1, r2, r3, r4⟩ := hR
  intro ls H locs hl hP hD hS
  have hPc := cut_P hP hC
  have hDc := hD.sub is hnd hC
  have hAc := cut_A hD hC
  refine va_callv (va_runV (rest := rest) ⟨hx, hb, hml, ho, hts⟩ hM ⟨callB_of n hts (gw_code h5) rfl r1 r2 (hts _ h4) (hts _ h1) h6 ⟨r3, r4⟩, hts _ h2, hts _ h3⟩ ⟨PreC.blind, by have := va_recv hK hPc hc hq; rw [hcy] at this; exact this, fun U hU hW => ⟨rfl, by rw [hU]; exact hPc, va_K.moved hW.alike hK, hDc.weaken (fun _ _ _ _ => trivial)⟩⟩ rfl hn hl.1 hst (lv_room hrest) hd ⟨hck, hcs⟩) hS (fun q _ h => hAc q h) hAc (fun u t H1 locs1 ht hvm hp hB hz hk hS1 => ?_)
  have hB : va_P D cls3 (wf u) t.heap := hB
  rw [ht] at hB
  obtain ⟨hP2, hD2⟩ := all_join hP hD hC (ha u) hk hB
  exact k u hp ls H1 locs1 hl hP2 hD2 hS1
theorem rx_callSv {post : S → Prop} (C : CX l cc nL own R D ta G) {As : List Value} (hM : Ctv l y b mL rm D ta As wc wf post) (hw : CwS own idx y b mL none n) (hR : RmOk rm R mL) (hn : As.length = n) (is : List Nat) (hnd : va_nd is = true) (hC : is.map (fun i => ws[i]?) = wc.map some) (rest : List Value) (hst : st = As.reverse ++ rest) (hrest : (rest.map fun v => v.category).sum ≤ 8) (ha : ∀ u, (wf u).map (fun q => q.1) = wc.map (fun q => q.1)) (hd : Dc cc pc (.invokestatic idx) 3 pc') (k : ∀ (u : S), post u → G pc' lv (rest) (setAll ws is (wf u))) : G pc lv st ws := by
  obtain ⟨p, e, s, m, args, below, meth, c, A, H0, Q, ck, cs, hx, hb, hml, ho, hts, hK, hck, hcs, rfl⟩ := C
  obtain ⟨hd, rfl⟩ := hd
  obtain ⟨h1, h2, h4, h5, h6⟩ := hw
  obtain ⟨r1, r2, r3, r4⟩ := hR
  intro ls H locs hl hP hD hS
  have hPc := cut_P hP hC
  have hDc := hD.sub is hnd hC
  have hAc := cut_A hD hC
  refine va_callv (va_runS (rest := rest) ⟨hx, hb, hml, ho, hts⟩ hM ⟨callB_of n hts (gw_code h5) rfl r1 r2 (hts _ h4) (hts _ h1) h6 ⟨r3, r4⟩, hts _ h2⟩ ⟨PreC.blind, fun U hU hW => ⟨rfl, by rw [hU]; exact hPc, va_K.moved hW.alike hK, hDc.weaken (fun _ _ _ _ => trivial)⟩⟩ rfl hn hl.1 hst (lv_room hrest) hd ⟨hck, hcs⟩) hS (fun q _ h => hAc q h) hAc (fun u t H1 locs1 ht hvm hp hB hz hk hS1 => ?_)
  have hB : va_P D cls3 (wf u) t.heap := hB
  rw [ht] at hB
  obtain ⟨hP2, hD2⟩ := all_join hP hD hC (ha u) hk hB
  exact k u hp ls H1 locs1 hl hP2 hD2 hS1
end CALL
end
section
theorem d_TR_init_0 : Dc b_TR_init 0 (.aload_n 0) 1 1 := ⟨by decide +kernel, rfl⟩
theorem d_TR_init_1 : Dc b_TR_init 1 (.invokespecial 1) 3 4 := ⟨by decide +kernel, rfl⟩
theorem d_TR_init_4 : Dc b_TR_init 4 (.aload_n 0) 1 5 := ⟨by decide +kernel, rfl⟩
theorem d_TR_init_5 : Dc b_TR_init 5 (.sipush 576) 3 8 := ⟨by decide +kernel, rfl⟩
theorem d_TR_init_8 : Dc b_TR_init 8 (.newarray .int) 2 10 := ⟨by decide +kernel, rfl⟩
theorem d_TR_init_10 : Dc b_TR_init 10 (.putfield 7) 3 13 := ⟨by decide +kernel, rfl⟩
theorem d_TR_init_13 : Dc b_TR_init 13 (.aload_n 0) 1 14 := ⟨by decide +kernel, rfl⟩
theorem d_TR_init_14 : Dc b_TR_init 14 (.sipush 576) 3 17 := ⟨by decide +kernel, rfl⟩
theorem d_TR_init_17 : Dc b_TR_init 17 (.newarray .char) 2 19 := ⟨by decide +kernel, rfl⟩
theorem d_TR_init_19 : Dc b_TR_init 19 (.putfield 13) 3 22 := ⟨by decide +kernel, rfl⟩
theorem d_TR_init_22 : Dc b_TR_init 22 (.aload_n 0) 1 23 := ⟨by decide +kernel, rfl⟩
theorem d_TR_init_23 : Dc b_TR_init 23 (.sipush 576) 3 26 := ⟨by decide +kernel, rfl⟩
theorem d_TR_init_26 : Dc b_TR_init 26 (.newarray .short) 2 28 := ⟨by decide +kernel, rfl⟩
theorem d_TR_init_28 : Dc b_TR_init 28 (.putfield 17) 3 31 := ⟨by decide +kernel, rfl⟩
theorem d_TR_init_31 : Dc b_TR_init 31 (.aload_n 0) 1 32 := ⟨by decide +kernel, rfl⟩
theorem d_TR_init_32 : Dc b_TR_init 32 (.sipush 576) 3 35 := ⟨by decide +kernel, rfl⟩
theorem d_TR_init_35 : Dc b_TR_init 35 (.newarray .boolean) 2 37 := ⟨by decide +kernel, rfl⟩
theorem d_TR_init_37 : Dc b_TR_init 37 (.putfield 21) 3 40 := ⟨by decide +kernel, rfl⟩
theorem d_TR_init_40 : Dc b_TR_init 40 (.aload_n 0) 1 41 := ⟨by decide +kernel, rfl⟩
theorem d_TR_init_41 : Dc b_TR_init 41 (.iconst 3) 1 42 := ⟨by decide +kernel, rfl⟩
theorem d_TR_init_42 : Dc b_TR_init 42 (.newarray .int) 2 44 := ⟨by decide +kernel, rfl⟩
theorem d_TR_init_44 : Dc b_TR_init 44 (.putfield 25) 3 47 := ⟨by decide +kernel, rfl⟩
theorem d_TR_init_47 : Dc b_TR_init 47 (.aload_n 0) 1 48 := ⟨by decide +kernel, rfl⟩
theorem d_TR_init_48 : Dc b_TR_init 48 (.iconst 3) 1 49 := ⟨by decide +kernel, rfl⟩
theorem d_TR_init_49 : Dc b_TR_init 49 (.newarray .int) 2 51 := ⟨by decide +kernel, rfl⟩
theorem d_TR_init_51 : Dc b_TR_init 51 (.putfield 28) 3 54 := ⟨by decide +kernel, rfl⟩
theorem d_TR_init_54 : Dc b_TR_init 54 (.aload_n 0) 1 55 := ⟨by decide +kernel, rfl⟩
theorem d_TR_init_55 : Dc b_TR_init 55 (.iconst 3) 1 56 := ⟨by decide +kernel, rfl⟩
theorem d_TR_init_56 : Dc b_TR_init 56 (.newarray .int) 2 58 := ⟨by decide +kernel, rfl⟩
theorem d_TR_init_58 : Dc b_TR_init 58 (.putfield 31) 3 61 := ⟨by decide +kernel, rfl⟩
theorem d_TR_init_61 : Dc b_TR_init 61 (.aload_n 0) 1 62 := ⟨by decide +kernel, rfl⟩
theorem d_TR_init_62 : Dc b_TR_init 62 (.iconst 3) 1 63 := ⟨by decide +kernel, rfl⟩
theorem d_TR_init_63 : Dc b_TR_init 63 (.anewarray 34) 3 66 := ⟨by decide +kernel, rfl⟩
theorem d_TR_init_66 : Dc b_TR_init 66 (.putfield 36) 3 69 := ⟨by decide +kernel, rfl⟩
theorem d_TR_init_69 : Dc b_TR_init 69 (.aload_n 0) 1 70 := ⟨by decide +kernel, rfl⟩
theorem d_TR_init_70 : Dc b_TR_init 70 (.iconst 3) 1 71 := ⟨by decide +kernel, rfl⟩
theorem d_TR_init_71 : Dc b_TR_init 71 (.newarray .int) 2 73 := ⟨by decide +kernel, rfl⟩
theorem d_TR_init_73 : Dc b_TR_init 73 (.putfield 40) 3 76 := ⟨by decide +kernel, rfl⟩
theorem d_TR_init_76 : Dc b_TR_init 76 (.aload_n 0) 1 77 := ⟨by decide +kernel, rfl⟩
theorem d_TR_init_77 : Dc b_TR_init 77 (.iload_n 1) 1 78 := ⟨by decide +kernel, rfl⟩
theorem d_TR_init_78 : Dc b_TR_init 78 (.iconst 1) 1 79 := ⟨by decide +kernel, rfl⟩
theorem d_TR_init_79 : Dj b_TR_init 79 (.if_icmp .lt 13) 13 82 92 := ⟨by decide +kernel, rfl, by decide⟩
theorem d_TR_init_82 : Dc b_TR_init 82 (.iload_n 1) 1 83 := ⟨by decide +kernel, rfl⟩
theorem d_TR_init_83 : Dc b_TR_init 83 (.bipush 24) 2 85 := ⟨by decide +kernel, rfl⟩
theorem d_TR_init_85 : Dj b_TR_init 85 (.if_icmp .gt 7) 7 88 92 := ⟨by decide +kernel, rfl, by decide⟩
theorem d_TR_init_88 : Dc b_TR_init 88 (.iload_n 1) 1 89 := ⟨by decide +kernel, rfl⟩
theorem d_TR_init_89 : Dj b_TR_init 89 (.goto 4) 4 92 93 := ⟨by decide +kernel, rfl, by decide⟩
theorem d_TR_init_92 : Dc b_TR_init 92 (.iconst 1) 1 93 := ⟨by decide +kernel, rfl⟩
theorem d_TR_init_93 : Dc b_TR_init 93 (.putfield 43) 3 96 := ⟨by decide +kernel, rfl⟩
theorem d_TR_init_96 : Dc b_TR_init 96 (.aload_n 0) 1 97 := ⟨by decide +kernel, rfl⟩
theorem d_TR_init_97 : Dc b_TR_init 97 (.iload_n 2) 1 98 := ⟨by decide +kernel, rfl⟩
theorem d_TR_init_98 : Dc b_TR_init 98 (.iconst 1) 1 99 := ⟨by decide +kernel, rfl⟩
theorem d_TR_init_99 : Dj b_TR_init 99 (.if_icmp .lt 13) 13 102 112 := ⟨by decide +kernel, rfl, by decide⟩
theorem d_TR_init_102 : Dc b_TR_init 102 (.iload_n 2) 1 103 := ⟨by decide +kernel, rfl⟩
theorem d_TR_init_103 : Dc b_TR_init 103 (.bipush 24) 2 105 := ⟨by decide +kernel, rfl⟩
theorem d_TR_init_105 : Dj b_TR_init 105 (.if_icmp .gt 7) 7 108 112 := ⟨by decide +kernel, rfl, by decide⟩
theorem d_TR_init_108 : Dc b_TR_init 108 (.iload_n 2) 1 109 := ⟨by decide +kernel, rfl⟩
theorem d_TR_init_109 : Dj b_TR_init 109 (.goto 4) 4 112 113 := ⟨by decide +kernel, rfl, by decide⟩
theorem d_TR_init_112 : Dc b_TR_init 112 (.iconst 1) 1 113 := ⟨by decide +kernel, rfl⟩
theorem d_TR_init_113 : Dc b_TR_init 113 (.putfield 47) 3 116 := ⟨by decide +kernel, rfl⟩
theorem d_TR_init_116 : Dc b_TR_init 116 (.iconst 0) 1 117 := ⟨by decide +kernel, rfl⟩
theorem d_TR_init_117 : Dc b_TR_init 117 (.istore_n 3) 1 118 := ⟨by decide +kernel, rfl⟩
theorem d_TR_init_118 : Dc b_TR_init 118 (.iload_n 3) 1 119 := ⟨by decide +kernel, rfl⟩
theorem d_TR_init_119 : Dc b_TR_init 119 (.iconst 3) 1 120 := ⟨by decide +kernel, rfl⟩
theorem d_TR_init_120 : Dj b_TR_init 120 (.if_icmp .ge 22) 22 123 142 := ⟨by decide +kernel, rfl, by decide⟩
theorem d_TR_init_123 : Dc b_TR_init 123 (.aload_n 0) 1 124 := ⟨by decide +kernel, rfl⟩
theorem d_TR_init_124 : Dc b_TR_init 124 (.getfield 36) 3 127 := ⟨by decide +kernel, rfl⟩
theorem d_TR_init_127 : Dc b_TR_init 127 (.iload_n 3) 1 128 := ⟨by decide +kernel, rfl⟩
theorem d_TR_init_128 : Dc b_TR_init 128 (.new 34) 3 131 := ⟨by decide +kernel, rfl⟩
theorem d_TR_init_131 : Dc b_TR_init 131 (.dup) 1 132 := ⟨by decide +kernel, rfl⟩
theorem d_TR_init_132 : Dc b_TR_init 132 (.invokespecial 50) 3 135 := ⟨by decide +kernel, rfl⟩
theorem d_TR_init_135 : Dc b_TR_init 135 (.aastore) 1 136 := ⟨by decide +kernel, rfl⟩
theorem d_TR_init_136 : Dc b_TR_init 136 (.iinc 3 1) 3 139 := ⟨by decide +kernel, rfl⟩
theorem d_TR_init_139 : Dj b_TR_init 139 (.goto (-21)) (-21) 142 118 := ⟨by decide +kernel, rfl, by decide⟩
theorem d_TR_init_142 : Dc b_TR_init 142 (.return_) 1 143 := ⟨by decide +kernel, rfl⟩
theorem d_Ed_init_0 : Dc b_Ed_init 0 (.aload_n 0) 1 1 := ⟨by decide +kernel, rfl⟩
theorem d_Ed_init_1 : Dc b_Ed_init 1 (.invokespecial 3) 3 4 := ⟨by decide +kernel, rfl⟩
theorem d_Ed_init_4 : Dc b_Ed_init 4 (.return_) 1 5 := ⟨by decide +kernel, rfl⟩
theorem d_TR_clear_0 : Dc b_TR_clear 0 (.iload_n 2) 1 1 := ⟨by decide +kernel, rfl⟩
theorem d_TR_clear_1 : Dj b_TR_clear 1 (.ifCond .lt 9) 9 4 10 := ⟨by decide +kernel, rfl, by decide⟩
theorem d_TR_clear_4 : Dc b_TR_clear 4 (.iload_n 2) 1 5 := ⟨by decide +kernel, rfl⟩
theorem d_TR_clear_5 : Dc b_TR_clear 5 (.ldc 51) 2 7 := ⟨by decide +kernel, rfl⟩
theorem d_TR_clear_7 : Dj b_TR_clear 7 (.if_icmp .le 5) 5 10 12 := ⟨by decide +kernel, rfl, by decide⟩
theorem d_TR_clear_10 : Dc b_TR_clear 10 (.iconst 0) 1 11 := ⟨by decide +kernel, rfl⟩
theorem d_TR_clear_11 : Dc b_TR_clear 11 (.ireturn) 1 12 := ⟨by decide +kernel, rfl⟩
theorem d_TR_clear_12 : Dc b_TR_clear 12 (.iconst 0) 1 13 := ⟨by decide +kernel, rfl⟩
theorem d_TR_clear_13 : Dc b_TR_clear 13 (.istore_n 3) 1 14 := ⟨by decide +kernel, rfl⟩
theorem d_TR_clear_14 : Dc b_TR_clear 14 (.iload_n 3) 1 15 := ⟨by decide +kernel, rfl⟩
theorem d_TR_clear_15 : Dc b_TR_clear 15 (.aload_n 0) 1 16 := ⟨by decide +kernel, rfl⟩
theorem d_TR_clear_16 : Dc b_TR_clear 16 (.getfield 43) 3 19 := ⟨by decide +kernel, rfl⟩
theorem d_TR_clear_19 : Dc b_TR_clear 19 (.aload_n 0) 1 20 := ⟨by decide +kernel, rfl⟩
theorem d_TR_clear_20 : Dc b_TR_clear 20 (.getfield 47) 3 23 := ⟨by decide +kernel, rfl⟩
theorem d_TR_clear_23 : Dc b_TR_clear 23 (.imul) 1 24 := ⟨by decide +kernel, rfl⟩
theorem d_TR_clear_24 : Dj b_TR_clear 24 (.if_icmp .ge 24) 24 27 48 := ⟨by decide +kernel, rfl, by decide⟩
theorem d_TR_clear_27 : Dc b_TR_clear 27 (.aload_n 0) 1 28 := ⟨by decide +kernel, rfl⟩
theorem d_TR_clear_28 : Dc b_TR_clear 28 (.getfield 7) 3 31 := ⟨by decide +kernel, rfl⟩
theorem d_TR_clear_31 : Dc b_TR_clear 31 (.iload_n 3) 1 32 := ⟨by decide +kernel, rfl⟩
theorem d_TR_clear_32 : Dc b_TR_clear 32 (.iload_n 1) 1 33 := ⟨by decide +kernel, rfl⟩
theorem d_TR_clear_33 : Dc b_TR_clear 33 (.iastore) 1 34 := ⟨by decide +kernel, rfl⟩
theorem d_TR_clear_34 : Dc b_TR_clear 34 (.aload_n 0) 1 35 := ⟨by decide +kernel, rfl⟩
theorem d_TR_clear_35 : Dc b_TR_clear 35 (.getfield 13) 3 38 := ⟨by decide +kernel, rfl⟩
theorem d_TR_clear_38 : Dc b_TR_clear 38 (.iload_n 3) 1 39 := ⟨by decide +kernel, rfl⟩
theorem d_TR_clear_39 : Dc b_TR_clear 39 (.iload_n 2) 1 40 := ⟨by decide +kernel, rfl⟩
theorem d_TR_clear_40 : Dc b_TR_clear 40 (.i2c) 1 41 := ⟨by decide +kernel, rfl⟩
theorem d_TR_clear_41 : Dc b_TR_clear 41 (.castore) 1 42 := ⟨by decide +kernel, rfl⟩
theorem d_TR_clear_42 : Dc b_TR_clear 42 (.iinc 3 1) 3 45 := ⟨by decide +kernel, rfl⟩
theorem d_TR_clear_45 : Dj b_TR_clear 45 (.goto (-31)) (-31) 48 14 := ⟨by decide +kernel, rfl, by decide⟩
theorem d_TR_clear_48 : Dc b_TR_clear 48 (.iconst 1) 1 49 := ⟨by decide +kernel, rfl⟩
theorem d_TR_clear_49 : Dc b_TR_clear 49 (.ireturn) 1 50 := ⟨by decide +kernel, rfl⟩
theorem d_TR_vertex_0 : Dc b_TR_vertex 0 (.iload_n 1) 1 1 := ⟨by decide +kernel, rfl⟩
theorem d_TR_vertex_1 : Dj b_TR_vertex 1 (.ifCond .lt 34) 34 4 35 := ⟨by decide +kernel, rfl, by decide⟩
theorem d_TR_vertex_4 : Dc b_TR_vertex 4 (.iload_n 1) 1 5 := ⟨by decide +kernel, rfl⟩
theorem d_TR_vertex_5 : Dc b_TR_vertex 5 (.iconst 2) 1 6 := ⟨by decide +kernel, rfl⟩
theorem d_TR_vertex_6 : Dj b_TR_vertex 6 (.if_icmp .gt 29) 29 9 35 := ⟨by decide +kernel, rfl, by decide⟩
theorem d_TR_vertex_9 : Dc b_TR_vertex 9 (.iload_n 2) 1 10 := ⟨by decide +kernel, rfl⟩
theorem d_TR_vertex_10 : Dc b_TR_vertex 10 (.invokestatic 52) 3 13 := ⟨by decide +kernel, rfl⟩
theorem d_TR_vertex_13 : Dj b_TR_vertex 13 (.ifCond .ne 22) 22 16 35 := ⟨by decide +kernel, rfl, by decide⟩
theorem d_TR_vertex_16 : Dc b_TR_vertex 16 (.iload_n 3) 1 17 := ⟨by decide +kernel, rfl⟩
theorem d_TR_vertex_17 : Dc b_TR_vertex 17 (.invokestatic 52) 3 20 := ⟨by decide +kernel, rfl⟩
theorem d_TR_vertex_20 : Dj b_TR_vertex 20 (.ifCond .ne 15) 15 23 35 := ⟨by decide +kernel, rfl, by decide⟩
theorem d_TR_vertex_23 : Dc b_TR_vertex 23 (.iload 4) 2 25 := ⟨by decide +kernel, rfl⟩
theorem d_TR_vertex_25 : Dj b_TR_vertex 25 (.ifCond .lt 10) 10 28 35 := ⟨by decide +kernel, rfl, by decide⟩
theorem d_TR_vertex_28 : Dc b_TR_vertex 28 (.iload 4) 2 30 := ⟨by decide +kernel, rfl⟩
theorem d_TR_vertex_30 : Dc b_TR_vertex 30 (.ldc 56) 2 32 := ⟨by decide +kernel, rfl⟩
theorem d_TR_vertex_32 : Dj b_TR_vertex 32 (.if_icmp .le 5) 5 35 37 := ⟨by decide +kernel, rfl, by decide⟩
theorem d_TR_vertex_35 : Dc b_TR_vertex 35 (.iconst 0) 1 36 := ⟨by decide +kernel, rfl⟩
theorem d_TR_vertex_36 : Dc b_TR_vertex 36 (.ireturn) 1 37 := ⟨by decide +kernel, rfl⟩
theorem d_TR_vertex_37 : Dc b_TR_vertex 37 (.aload_n 0) 1 38 := ⟨by decide +kernel, rfl⟩
theorem d_TR_vertex_38 : Dc b_TR_vertex 38 (.getfield 25) 3 41 := ⟨by decide +kernel, rfl⟩
theorem d_TR_vertex_41 : Dc b_TR_vertex 41 (.iload_n 1) 1 42 := ⟨by decide +kernel, rfl⟩
theorem d_TR_vertex_42 : Dc b_TR_vertex 42 (.iload_n 2) 1 43 := ⟨by decide +kernel, rfl⟩
theorem d_TR_vertex_43 : Dc b_TR_vertex 43 (.iastore) 1 44 := ⟨by decide +kernel, rfl⟩
theorem d_TR_vertex_44 : Dc b_TR_vertex 44 (.aload_n 0) 1 45 := ⟨by decide +kernel, rfl⟩
theorem d_TR_vertex_45 : Dc b_TR_vertex 45 (.getfield 28) 3 48 := ⟨by decide +kernel, rfl⟩
theorem d_TR_vertex_48 : Dc b_TR_vertex 48 (.iload_n 1) 1 49 := ⟨by decide +kernel, rfl⟩
theorem d_TR_vertex_49 : Dc b_TR_vertex 49 (.iload_n 3) 1 50 := ⟨by decide +kernel, rfl⟩
theorem d_TR_vertex_50 : Dc b_TR_vertex 50 (.iastore) 1 51 := ⟨by decide +kernel, rfl⟩
theorem d_TR_vertex_51 : Dc b_TR_vertex 51 (.aload_n 0) 1 52 := ⟨by decide +kernel, rfl⟩
theorem d_TR_vertex_52 : Dc b_TR_vertex 52 (.getfield 31) 3 55 := ⟨by decide +kernel, rfl⟩
theorem d_TR_vertex_55 : Dc b_TR_vertex 55 (.iload_n 1) 1 56 := ⟨by decide +kernel, rfl⟩
theorem d_TR_vertex_56 : Dc b_TR_vertex 56 (.iload 4) 2 58 := ⟨by decide +kernel, rfl⟩
theorem d_TR_vertex_58 : Dc b_TR_vertex 58 (.iastore) 1 59 := ⟨by decide +kernel, rfl⟩
theorem d_TR_vertex_59 : Dc b_TR_vertex 59 (.iconst 1) 1 60 := ⟨by decide +kernel, rfl⟩
theorem d_TR_vertex_60 : Dc b_TR_vertex 60 (.ireturn) 1 61 := ⟨by decide +kernel, rfl⟩
theorem d_TR_isFar_0 : Dc b_TR_isFar 0 (.iload_n 0) 1 1 := ⟨by decide +kernel, rfl⟩
theorem d_TR_isFar_1 : Dc b_TR_isFar 1 (.sipush (-16384)) 3 4 := ⟨by decide +kernel, rfl⟩
theorem d_TR_isFar_4 : Dj b_TR_isFar 4 (.if_icmp .lt 10) 10 7 14 := ⟨by decide +kernel, rfl, by decide⟩
theorem d_TR_isFar_7 : Dc b_TR_isFar 7 (.iload_n 0) 1 8 := ⟨by decide +kernel, rfl⟩
theorem d_TR_isFar_8 : Dc b_TR_isFar 8 (.sipush 16384) 3 11 := ⟨by decide +kernel, rfl⟩
theorem d_TR_isFar_11 : Dj b_TR_isFar 11 (.if_icmp .le 7) 7 14 18 := ⟨by decide +kernel, rfl, by decide⟩
theorem d_TR_isFar_14 : Dc b_TR_isFar 14 (.iconst 1) 1 15 := ⟨by decide +kernel, rfl⟩
theorem d_TR_isFar_15 : Dj b_TR_isFar 15 (.goto 4) 4 18 19 := ⟨by decide +kernel, rfl, by decide⟩
theorem d_TR_isFar_18 : Dc b_TR_isFar 18 (.iconst 0) 1 19 := ⟨by decide +kernel, rfl⟩
theorem d_TR_isFar_19 : Dc b_TR_isFar 19 (.ireturn) 1 20 := ⟨by decide +kernel, rfl⟩
theorem d_TR_triangle_0 : Dc b_TR_triangle 0 (.aload_n 0) 1 1 := ⟨by decide +kernel, rfl⟩
theorem d_TR_triangle_1 : Dc b_TR_triangle 1 (.invokevirtual 67) 3 4 := ⟨by decide +kernel, rfl⟩
theorem d_TR_triangle_4 : Dc b_TR_triangle 4 (.lstore_n 2) 1 5 := ⟨by decide +kernel, rfl⟩
theorem d_TR_triangle_5 : Dc b_TR_triangle 5 (.iconst 0) 1 6 := ⟨by decide +kernel, rfl⟩
theorem d_TR_triangle_6 : Dc b_TR_triangle 6 (.istore 4) 2 8 := ⟨by decide +kernel, rfl⟩
theorem d_TR_triangle_8 : Dc b_TR_triangle 8 (.iconst 0) 1 9 := ⟨by decide +kernel, rfl⟩
theorem d_TR_triangle_9 : Dc b_TR_triangle 9 (.istore 5) 2 11 := ⟨by decide +kernel, rfl⟩
theorem d_TR_triangle_11 : Dc b_TR_triangle 11 (.iload 5) 2 13 := ⟨by decide +kernel, rfl⟩
theorem d_TR_triangle_13 : Dc b_TR_triangle 13 (.aload_n 0) 1 14 := ⟨by decide +kernel, rfl⟩
theorem d_TR_triangle_14 : Dc b_TR_triangle 14 (.getfield 47) 3 17 := ⟨by decide +kernel, rfl⟩
theorem d_TR_triangle_17 : Dj b_TR_triangle 17 (.if_icmp .ge 178) 178 20 195 := ⟨by decide +kernel, rfl, by decide⟩
theorem d_TR_triangle_20 : Dc b_TR_triangle 20 (.lload_n 2) 1 21 := ⟨by decide +kernel, rfl⟩
theorem d_TR_triangle_21 : Dc b_TR_triangle 21 (.lconst 0) 1 22 := ⟨by decide +kernel, rfl⟩
theorem d_TR_triangle_22 : Dc b_TR_triangle 22 (.lcmp) 1 23 := ⟨by decide +kernel, rfl⟩
theorem d_TR_triangle_23 : Dj b_TR_triangle 23 (.ifCond .le 172) 172 26 195 := ⟨by decide +kernel, rfl, by decide⟩
theorem d_TR_triangle_26 : Dc b_TR_triangle 26 (.aload_n 0) 1 27 := ⟨by decide +kernel, rfl⟩
theorem d_TR_triangle_27 : Dc b_TR_triangle 27 (.getfield 36) 3 30 := ⟨by decide +kernel, rfl⟩
theorem d_TR_triangle_30 : Dc b_TR_triangle 30 (.astore 6) 2 32 := ⟨by decide +kernel, rfl⟩
theorem d_TR_triangle_32 : Dc b_TR_triangle 32 (.aload 6) 2 34 := ⟨by decide +kernel, rfl⟩
theorem d_TR_triangle_34 : Dc b_TR_triangle 34 (.arraylength) 1 35 := ⟨by decide +kernel, rfl⟩
theorem d_TR_triangle_35 : Dc b_TR_triangle 35 (.istore 7) 2 37 := ⟨by decide +kernel, rfl⟩
theorem d_TR_triangle_37 : Dc b_TR_triangle 37 (.iconst 0) 1 38 := ⟨by decide +kernel, rfl⟩
theorem d_TR_triangle_38 : Dc b_TR_triangle 38 (.istore 8) 2 40 := ⟨by decide +kernel, rfl⟩
theorem d_TR_triangle_40 : Dc b_TR_triangle 40 (.iload 8) 2 42 := ⟨by decide +kernel, rfl⟩
theorem d_TR_triangle_42 : Dc b_TR_triangle 42 (.iload 7) 2 44 := ⟨by decide +kernel, rfl⟩
theorem d_TR_triangle_44 : Dj b_TR_triangle 44 (.if_icmp .ge 23) 23 47 67 := ⟨by decide +kernel, rfl, by decide⟩
theorem d_TR_triangle_47 : Dc b_TR_triangle 47 (.aload 6) 2 49 := ⟨by decide +kernel, rfl⟩
theorem d_TR_triangle_49 : Dc b_TR_triangle 49 (.iload 8) 2 51 := ⟨by decide +kernel, rfl⟩
theorem d_TR_triangle_51 : Dc b_TR_triangle 51 (.aaload) 1 52 := ⟨by decide +kernel, rfl⟩
theorem d_TR_triangle_52 : Dc b_TR_triangle 52 (.astore 9) 2 54 := ⟨by decide +kernel, rfl⟩
theorem d_TR_triangle_54 : Dc b_TR_triangle 54 (.aload 9) 2 56 := ⟨by decide +kernel, rfl⟩
theorem d_TR_triangle_56 : Dc b_TR_triangle 56 (.iload 5) 2 58 := ⟨by decide +kernel, rfl⟩
theorem d_TR_triangle_58 : Dc b_TR_triangle 58 (.invokevirtual 71) 3 61 := ⟨by decide +kernel, rfl⟩
theorem d_TR_triangle_61 : Dc b_TR_triangle 61 (.iinc 8 1) 3 64 := ⟨by decide +kernel, rfl⟩
theorem d_TR_triangle_64 : Dj b_TR_triangle 64 (.goto (-24)) (-24) 67 40 := ⟨by decide +kernel, rfl, by decide⟩
theorem d_TR_triangle_67 : Dc b_TR_triangle 67 (.iconst 0) 1 68 := ⟨by decide +kernel, rfl⟩
theorem d_TR_triangle_68 : Dc b_TR_triangle 68 (.istore 6) 2 70 := ⟨by decide +kernel, rfl⟩
theorem d_TR_triangle_70 : Dc b_TR_triangle 70 (.iload 6) 2 72 := ⟨by decide +kernel, rfl⟩
theorem d_TR_triangle_72 : Dc b_TR_triangle 72 (.aload_n 0) 1 73 := ⟨by decide +kernel, rfl⟩
theorem d_TR_triangle_73 : Dc b_TR_triangle 73 (.getfield 43) 3 76 := ⟨by decide +kernel, rfl⟩
theorem d_TR_triangle_76 : Dj b_TR_triangle 76 (.if_icmp .ge 113) 113 79 189 := ⟨by decide +kernel, rfl, by decide⟩
theorem d_TR_triangle_79 : Dc b_TR_triangle 79 (.aload_n 0) 1 80 := ⟨by decide +kernel, rfl⟩
theorem d_TR_triangle_80 : Dc b_TR_triangle 80 (.getfield 36) 3 83 := ⟨by decide +kernel, rfl⟩
theorem d_TR_triangle_83 : Dc b_TR_triangle 83 (.iconst 0) 1 84 := ⟨by decide +kernel, rfl⟩
theorem d_TR_triangle_84 : Dc b_TR_triangle 84 (.aaload) 1 85 := ⟨by decide +kernel, rfl⟩
theorem d_TR_triangle_85 : Dc b_TR_triangle 85 (.invokevirtual 75) 3 88 := ⟨by decide +kernel, rfl⟩
theorem d_TR_triangle_88 : Dj b_TR_triangle 88 (.ifCond .eq 56) 56 91 144 := ⟨by decide +kernel, rfl, by decide⟩
theorem d_TR_triangle_91 : Dc b_TR_triangle 91 (.aload_n 0) 1 92 := ⟨by decide +kernel, rfl⟩
theorem d_TR_triangle_92 : Dc b_TR_triangle 92 (.getfield 36) 3 95 := ⟨by decide +kernel, rfl⟩
theorem d_TR_triangle_95 : Dc b_TR_triangle 95 (.iconst 1) 1 96 := ⟨by decide +kernel, rfl⟩
theorem d_TR_triangle_96 : Dc b_TR_triangle 96 (.aaload) 1 97 := ⟨by decide +kernel, rfl⟩
theorem d_TR_triangle_97 : Dc b_TR_triangle 97 (.invokevirtual 75) 3 100 := ⟨by decide +kernel, rfl⟩
theorem d_TR_triangle_100 : Dj b_TR_triangle 100 (.ifCond .eq 44) 44 103 144 := ⟨by decide +kernel, rfl, by decide⟩
theorem d_TR_triangle_103 : Dc b_TR_triangle 103 (.aload_n 0) 1 104 := ⟨by decide +kernel, rfl⟩
theorem d_TR_triangle_104 : Dc b_TR_triangle 104 (.getfield 36) 3 107 := ⟨by decide +kernel, rfl⟩
theorem d_TR_triangle_107 : Dc b_TR_triangle 107 (.iconst 2) 1 108 := ⟨by decide +kernel, rfl⟩
theorem d_TR_triangle_108 : Dc b_TR_triangle 108 (.aaload) 1 109 := ⟨by decide +kernel, rfl⟩
theorem d_TR_triangle_109 : Dc b_TR_triangle 109 (.invokevirtual 75) 3 112 := ⟨by decide +kernel, rfl⟩
theorem d_TR_triangle_112 : Dj b_TR_triangle 112 (.ifCond .eq 32) 32 115 144 := ⟨by decide +kernel, rfl, by decide⟩
theorem d_TR_triangle_115 : Dc b_TR_triangle 115 (.iload 4) 2 117 := ⟨by decide +kernel, rfl⟩
theorem d_TR_triangle_117 : Dc b_TR_triangle 117 (.aload_n 0) 1 118 := ⟨by decide +kernel, rfl⟩
theorem d_TR_triangle_118 : Dc b_TR_triangle 118 (.aload_n 0) 1 119 := ⟨by decide +kernel, rfl⟩
theorem d_TR_triangle_119 : Dc b_TR_triangle 119 (.getfield 43) 3 122 := ⟨by decide +kernel, rfl⟩
theorem d_TR_triangle_122 : Dc b_TR_triangle 122 (.iload 5) 2 124 := ⟨by decide +kernel, rfl⟩
theorem d_TR_triangle_124 : Dc b_TR_triangle 124 (.imul) 1 125 := ⟨by decide +kernel, rfl⟩
theorem d_TR_triangle_125 : Dc b_TR_triangle 125 (.iload 6) 2 127 := ⟨by decide +kernel, rfl⟩
theorem d_TR_triangle_127 : Dc b_TR_triangle 127 (.iadd) 1 128 := ⟨by decide +kernel, rfl⟩
theorem d_TR_triangle_128 : Dc b_TR_triangle 128 (.lload_n 2) 1 129 := ⟨by decide +kernel, rfl⟩
theorem d_TR_triangle_129 : Dc b_TR_triangle 129 (.iload_n 1) 1 130 := ⟨by decide +kernel, rfl⟩
theorem d_TR_triangle_130 : Dc b_TR_triangle 130 (.invokevirtual 79) 3 133 := ⟨by decide +kernel, rfl⟩
theorem d_TR_triangle_133 : Dj b_TR_triangle 133 (.ifCond .eq 7) 7 136 140 := ⟨by decide +kernel, rfl, by decide⟩
theorem d_TR_triangle_136 : Dc b_TR_triangle 136 (.iconst 1) 1 137 := ⟨by decide +kernel, rfl⟩
theorem d_TR_triangle_137 : Dj b_TR_triangle 137 (.goto 4) 4 140 141 := ⟨by decide +kernel, rfl, by decide⟩
theorem d_TR_triangle_140 : Dc b_TR_triangle 140 (.iconst 0) 1 141 := ⟨by decide +kernel, rfl⟩
theorem d_TR_triangle_141 : Dc b_TR_triangle 141 (.iadd) 1 142 := ⟨by decide +kernel, rfl⟩
theorem d_TR_triangle_142 : Dc b_TR_triangle 142 (.istore 4) 2 144 := ⟨by decide +kernel, rfl⟩
theorem d_TR_triangle_144 : Dc b_TR_triangle 144 (.aload_n 0) 1 145 := ⟨by decide +kernel, rfl⟩
theorem d_TR_triangle_145 : Dc b_TR_triangle 145 (.getfield 36) 3 148 := ⟨by decide +kernel, rfl⟩
theorem d_TR_triangle_148 : Dc b_TR_triangle 148 (.astore 7) 2 150 := ⟨by decide +kernel, rfl⟩
theorem d_TR_triangle_150 : Dc b_TR_triangle 150 (.aload 7) 2 152 := ⟨by decide +kernel, rfl⟩
theorem d_TR_triangle_152 : Dc b_TR_triangle 152 (.arraylength) 1 153 := ⟨by decide +kernel, rfl⟩
theorem d_TR_triangle_153 : Dc b_TR_triangle 153 (.istore 8) 2 155 := ⟨by decide +kernel, rfl⟩
theorem d_TR_triangle_155 : Dc b_TR_triangle 155 (.iconst 0) 1 156 := ⟨by decide +kernel, rfl⟩
theorem d_TR_triangle_156 : Dc b_TR_triangle 156 (.istore 9) 2 158 := ⟨by decide +kernel, rfl⟩
theorem d_TR_triangle_158 : Dc b_TR_triangle 158 (.iload 9) 2 160 := ⟨by decide +kernel, rfl⟩
theorem d_TR_triangle_160 : Dc b_TR_triangle 160 (.iload 8) 2 162 := ⟨by decide +kernel, rfl⟩
theorem d_TR_triangle_162 : Dj b_TR_triangle 162 (.if_icmp .ge 21) 21 165 183 := ⟨by decide +kernel, rfl, by decide⟩
theorem d_TR_triangle_165 : Dc b_TR_triangle 165 (.aload 7) 2 167 := ⟨by decide +kernel, rfl⟩
theorem d_TR_triangle_167 : Dc b_TR_triangle 167 (.iload 9) 2 169 := ⟨by decide +kernel, rfl⟩
theorem d_TR_triangle_169 : Dc b_TR_triangle 169 (.aaload) 1 170 := ⟨by decide +kernel, rfl⟩
theorem d_TR_triangle_170 : Dc b_TR_triangle 170 (.astore 10) 2 172 := ⟨by decide +kernel, rfl⟩
theorem d_TR_triangle_172 : Dc b_TR_triangle 172 (.aload 10) 2 174 := ⟨by decide +kernel, rfl⟩
theorem d_TR_triangle_174 : Dc b_TR_triangle 174 (.invokevirtual 83) 3 177 := ⟨by decide +kernel, rfl⟩
theorem d_TR_triangle_177 : Dc b_TR_triangle 177 (.iinc 9 1) 3 180 := ⟨by decide +kernel, rfl⟩
theorem d_TR_triangle_180 : Dj b_TR_triangle 180 (.goto (-22)) (-22) 183 158 := ⟨by decide +kernel, rfl, by decide⟩
theorem d_TR_triangle_183 : Dc b_TR_triangle 183 (.iinc 6 1) 3 186 := ⟨by decide +kernel, rfl⟩
theorem d_TR_triangle_186 : Dj b_TR_triangle 186 (.goto (-116)) (-116) 189 70 := ⟨by decide +kernel, rfl, by decide⟩
theorem d_TR_triangle_189 : Dc b_TR_triangle 189 (.iinc 5 1) 3 192 := ⟨by decide +kernel, rfl⟩
theorem d_TR_triangle_192 : Dj b_TR_triangle 192 (.goto (-181)) (-181) 195 11 := ⟨by decide +kernel, rfl, by decide⟩
theorem d_TR_triangle_195 : Dc b_TR_triangle 195 (.iload 4) 2 197 := ⟨by decide +kernel, rfl⟩
theorem d_TR_triangle_197 : Dc b_TR_triangle 197 (.ireturn) 1 198 := ⟨by decide +kernel, rfl⟩
theorem d_TR_turn_0 : Dc b_TR_turn 0 (.aload_n 0) 1 1 := ⟨by decide +kernel, rfl⟩
theorem d_TR_turn_1 : Dc b_TR_turn 1 (.getfield 25) 3 4 := ⟨by decide +kernel, rfl⟩
theorem d_TR_turn_4 : Dc b_TR_turn 4 (.iconst 1) 1 5 := ⟨by decide +kernel, rfl⟩
theorem d_TR_turn_5 : Dc b_TR_turn 5 (.iaload) 1 6 := ⟨by decide +kernel, rfl⟩
theorem d_TR_turn_6 : Dc b_TR_turn 6 (.aload_n 0) 1 7 := ⟨by decide +kernel, rfl⟩
theorem d_TR_turn_7 : Dc b_TR_turn 7 (.getfield 25) 3 10 := ⟨by decide +kernel, rfl⟩
theorem d_TR_turn_10 : Dc b_TR_turn 10 (.iconst 0) 1 11 := ⟨by decide +kernel, rfl⟩
theorem d_TR_turn_11 : Dc b_TR_turn 11 (.iaload) 1 12 := ⟨by decide +kernel, rfl⟩
theorem d_TR_turn_12 : Dc b_TR_turn 12 (.isub) 1 13 := ⟨by decide +kernel, rfl⟩
theorem d_TR_turn_13 : Dc b_TR_turn 13 (.i2l) 1 14 := ⟨by decide +kernel, rfl⟩
theorem d_TR_turn_14 : Dc b_TR_turn 14 (.aload_n 0) 1 15 := ⟨by decide +kernel, rfl⟩
theorem d_TR_turn_15 : Dc b_TR_turn 15 (.getfield 28) 3 18 := ⟨by decide +kernel, rfl⟩
theorem d_TR_turn_18 : Dc b_TR_turn 18 (.iconst 2) 1 19 := ⟨by decide +kernel, rfl⟩
theorem d_TR_turn_19 : Dc b_TR_turn 19 (.iaload) 1 20 := ⟨by decide +kernel, rfl⟩
theorem d_TR_turn_20 : Dc b_TR_turn 20 (.aload_n 0) 1 21 := ⟨by decide +kernel, rfl⟩
theorem d_TR_turn_21 : Dc b_TR_turn 21 (.getfield 28) 3 24 := ⟨by decide +kernel, rfl⟩
theorem d_TR_turn_24 : Dc b_TR_turn 24 (.iconst 0) 1 25 := ⟨by decide +kernel, rfl⟩
theorem d_TR_turn_25 : Dc b_TR_turn 25 (.iaload) 1 26 := ⟨by decide +kernel, rfl⟩
theorem d_TR_turn_26 : Dc b_TR_turn 26 (.isub) 1 27 := ⟨by decide +kernel, rfl⟩
theorem d_TR_turn_27 : Dc b_TR_turn 27 (.i2l) 1 28 := ⟨by decide +kernel, rfl⟩
theorem d_TR_turn_28 : Dc b_TR_turn 28 (.lmul) 1 29 := ⟨by decide +kernel, rfl⟩
theorem d_TR_turn_29 : Dc b_TR_turn 29 (.aload_n 0) 1 30 := ⟨by decide +kernel, rfl⟩
theorem d_TR_turn_30 : Dc b_TR_turn 30 (.getfield 28) 3 33 := ⟨by decide +kernel, rfl⟩
theorem d_TR_turn_33 : Dc b_TR_turn 33 (.iconst 1) 1 34 := ⟨by decide +kernel, rfl⟩
theorem d_TR_turn_34 : Dc b_TR_turn 34 (.iaload) 1 35 := ⟨by decide +kernel, rfl⟩
theorem d_TR_turn_35 : Dc b_TR_turn 35 (.aload_n 0) 1 36 := ⟨by decide +kernel, rfl⟩
theorem d_TR_turn_36 : Dc b_TR_turn 36 (.getfield 28) 3 39 := ⟨by decide +kernel, rfl⟩
theorem d_TR_turn_39 : Dc b_TR_turn 39 (.iconst 0) 1 40 := ⟨by decide +kernel, rfl⟩
theorem d_TR_turn_40 : Dc b_TR_turn 40 (.iaload) 1 41 := ⟨by decide +kernel, rfl⟩
theorem d_TR_turn_41 : Dc b_TR_turn 41 (.isub) 1 42 := ⟨by decide +kernel, rfl⟩
theorem d_TR_turn_42 : Dc b_TR_turn 42 (.i2l) 1 43 := ⟨by decide +kernel, rfl⟩
theorem d_TR_turn_43 : Dc b_TR_turn 43 (.aload_n 0) 1 44 := ⟨by decide +kernel, rfl⟩
theorem d_TR_turn_44 : Dc b_TR_turn 44 (.getfield 25) 3 47 := ⟨by decide +kernel, rfl⟩
theorem d_TR_turn_47 : Dc b_TR_turn 47 (.iconst 2) 1 48 := ⟨by decide +kernel, rfl⟩
theorem d_TR_turn_48 : Dc b_TR_turn 48 (.iaload) 1 49 := ⟨by decide +kernel, rfl⟩
theorem d_TR_turn_49 : Dc b_TR_turn 49 (.aload_n 0) 1 50 := ⟨by decide +kernel, rfl⟩
theorem d_TR_turn_50 : Dc b_TR_turn 50 (.getfield 25) 3 53 := ⟨by decide +kernel, rfl⟩
theorem d_TR_turn_53 : Dc b_TR_turn 53 (.iconst 0) 1 54 := ⟨by decide +kernel, rfl⟩
theorem d_TR_turn_54 : Dc b_TR_turn 54 (.iaload) 1 55 := ⟨by decide +kernel, rfl⟩
theorem d_TR_turn_55 : Dc b_TR_turn 55 (.isub) 1 56 := ⟨by decide +kernel, rfl⟩
theorem d_TR_turn_56 : Dc b_TR_turn 56 (.i2l) 1 57 := ⟨by decide +kernel, rfl⟩
theorem d_TR_turn_57 : Dc b_TR_turn 57 (.lmul) 1 58 := ⟨by decide +kernel, rfl⟩
theorem d_TR_turn_58 : Dc b_TR_turn 58 (.lsub) 1 59 := ⟨by decide +kernel, rfl⟩
theorem d_TR_turn_59 : Dc b_TR_turn 59 (.lstore_n 1) 1 60 := ⟨by decide +kernel, rfl⟩
theorem d_TR_turn_60 : Dc b_TR_turn 60 (.aload_n 0) 1 61 := ⟨by decide +kernel, rfl⟩
theorem d_TR_turn_61 : Dc b_TR_turn 61 (.getfield 40) 3 64 := ⟨by decide +kernel, rfl⟩
theorem d_TR_turn_64 : Dc b_TR_turn 64 (.iconst 0) 1 65 := ⟨by decide +kernel, rfl⟩
theorem d_TR_turn_65 : Dc b_TR_turn 65 (.iconst 0) 1 66 := ⟨by decide +kernel, rfl⟩
theorem d_TR_turn_66 : Dc b_TR_turn 66 (.iastore) 1 67 := ⟨by decide +kernel, rfl⟩
theorem d_TR_turn_67 : Dc b_TR_turn 67 (.aload_n 0) 1 68 := ⟨by decide +kernel, rfl⟩
theorem d_TR_turn_68 : Dc b_TR_turn 68 (.getfield 40) 3 71 := ⟨by decide +kernel, rfl⟩
theorem d_TR_turn_71 : Dc b_TR_turn 71 (.iconst 1) 1 72 := ⟨by decide +kernel, rfl⟩
theorem d_TR_turn_72 : Dc b_TR_turn 72 (.lload_n 1) 1 73 := ⟨by decide +kernel, rfl⟩
theorem d_TR_turn_73 : Dc b_TR_turn 73 (.lconst 0) 1 74 := ⟨by decide +kernel, rfl⟩
theorem d_TR_turn_74 : Dc b_TR_turn 74 (.lcmp) 1 75 := ⟨by decide +kernel, rfl⟩
theorem d_TR_turn_75 : Dj b_TR_turn 75 (.ifCond .ge 7) 7 78 82 := ⟨by decide +kernel, rfl, by decide⟩
theorem d_TR_turn_78 : Dc b_TR_turn 78 (.iconst 2) 1 79 := ⟨by decide +kernel, rfl⟩
theorem d_TR_turn_79 : Dj b_TR_turn 79 (.goto 4) 4 82 83 := ⟨by decide +kernel, rfl, by decide⟩
theorem d_TR_turn_82 : Dc b_TR_turn 82 (.iconst 1) 1 83 := ⟨by decide +kernel, rfl⟩
theorem d_TR_turn_83 : Dc b_TR_turn 83 (.iastore) 1 84 := ⟨by decide +kernel, rfl⟩
theorem d_TR_turn_84 : Dc b_TR_turn 84 (.aload_n 0) 1 85 := ⟨by decide +kernel, rfl⟩
theorem d_TR_turn_85 : Dc b_TR_turn 85 (.getfield 40) 3 88 := ⟨by decide +kernel, rfl⟩
theorem d_TR_turn_88 : Dc b_TR_turn 88 (.iconst 2) 1 89 := ⟨by decide +kernel, rfl⟩
theorem d_TR_turn_89 : Dc b_TR_turn 89 (.lload_n 1) 1 90 := ⟨by decide +kernel, rfl⟩
theorem d_TR_turn_90 : Dc b_TR_turn 90 (.lconst 0) 1 91 := ⟨by decide +kernel, rfl⟩
theorem d_TR_turn_91 : Dc b_TR_turn 91 (.lcmp) 1 92 := ⟨by decide +kernel, rfl⟩
theorem d_TR_turn_92 : Dj b_TR_turn 92 (.ifCond .ge 7) 7 95 99 := ⟨by decide +kernel, rfl, by decide⟩
theorem d_TR_turn_95 : Dc b_TR_turn 95 (.iconst 1) 1 96 := ⟨by decide +kernel, rfl⟩
theorem d_TR_turn_96 : Dj b_TR_turn 96 (.goto 4) 4 99 100 := ⟨by decide +kernel, rfl, by decide⟩
theorem d_TR_turn_99 : Dc b_TR_turn 99 (.iconst 2) 1 100 := ⟨by decide +kernel, rfl⟩
theorem d_TR_turn_100 : Dc b_TR_turn 100 (.iastore) 1 101 := ⟨by decide +kernel, rfl⟩
theorem d_TR_turn_101 : Dc b_TR_turn 101 (.iconst 0) 1 102 := ⟨by decide +kernel, rfl⟩
theorem d_TR_turn_102 : Dc b_TR_turn 102 (.istore_n 3) 1 103 := ⟨by decide +kernel, rfl⟩
theorem d_TR_turn_103 : Dc b_TR_turn 103 (.iload_n 3) 1 104 := ⟨by decide +kernel, rfl⟩
theorem d_TR_turn_104 : Dc b_TR_turn 104 (.iconst 3) 1 105 := ⟨by decide +kernel, rfl⟩
theorem d_TR_turn_105 : Dj b_TR_turn 105 (.if_icmp .ge 66) 66 108 171 := ⟨by decide +kernel, rfl, by decide⟩
theorem d_TR_turn_108 : Dc b_TR_turn 108 (.aload_n 0) 1 109 := ⟨by decide +kernel, rfl⟩
theorem d_TR_turn_109 : Dc b_TR_turn 109 (.getfield 40) 3 112 := ⟨by decide +kernel, rfl⟩
theorem d_TR_turn_112 : Dc b_TR_turn 112 (.iload_n 3) 1 113 := ⟨by decide +kernel, rfl⟩
theorem d_TR_turn_113 : Dc b_TR_turn 113 (.iaload) 1 114 := ⟨by decide +kernel, rfl⟩
theorem d_TR_turn_114 : Dc b_TR_turn 114 (.istore 4) 2 116 := ⟨by decide +kernel, rfl⟩
theorem d_TR_turn_116 : Dc b_TR_turn 116 (.aload_n 0) 1 117 := ⟨by decide +kernel, rfl⟩
theorem d_TR_turn_117 : Dc b_TR_turn 117 (.getfield 40) 3 120 := ⟨by decide +kernel, rfl⟩
theorem d_TR_turn_120 : Dc b_TR_turn 120 (.iload_n 3) 1 121 := ⟨by decide +kernel, rfl⟩
theorem d_TR_turn_121 : Dc b_TR_turn 121 (.iconst 1) 1 122 := ⟨by decide +kernel, rfl⟩
theorem d_TR_turn_122 : Dc b_TR_turn 122 (.iadd) 1 123 := ⟨by decide +kernel, rfl⟩
theorem d_TR_turn_123 : Dc b_TR_turn 123 (.iconst 3) 1 124 := ⟨by decide +kernel, rfl⟩
theorem d_TR_turn_124 : Dc b_TR_turn 124 (.irem) 1 125 := ⟨by decide +kernel, rfl⟩
theorem d_TR_turn_125 : Dc b_TR_turn 125 (.iaload) 1 126 := ⟨by decide +kernel, rfl⟩
theorem d_TR_turn_126 : Dc b_TR_turn 126 (.istore 5) 2 128 := ⟨by decide +kernel, rfl⟩
theorem d_TR_turn_128 : Dc b_TR_turn 128 (.aload_n 0) 1 129 := ⟨by decide +kernel, rfl⟩
theorem d_TR_turn_129 : Dc b_TR_turn 129 (.getfield 36) 3 132 := ⟨by decide +kernel, rfl⟩
theorem d_TR_turn_132 : Dc b_TR_turn 132 (.iload_n 3) 1 133 := ⟨by decide +kernel, rfl⟩
theorem d_TR_turn_133 : Dc b_TR_turn 133 (.aaload) 1 134 := ⟨by decide +kernel, rfl⟩
theorem d_TR_turn_134 : Dc b_TR_turn 134 (.aload_n 0) 1 135 := ⟨by decide +kernel, rfl⟩
theorem d_TR_turn_135 : Dc b_TR_turn 135 (.getfield 25) 3 138 := ⟨by decide +kernel, rfl⟩
theorem d_TR_turn_138 : Dc b_TR_turn 138 (.iload 4) 2 140 := ⟨by decide +kernel, rfl⟩
theorem d_TR_turn_140 : Dc b_TR_turn 140 (.iaload) 1 141 := ⟨by decide +kernel, rfl⟩
theorem d_TR_turn_141 : Dc b_TR_turn 141 (.aload_n 0) 1 142 := ⟨by decide +kernel, rfl⟩
theorem d_TR_turn_142 : Dc b_TR_turn 142 (.getfield 28) 3 145 := ⟨by decide +kernel, rfl⟩
theorem d_TR_turn_145 : Dc b_TR_turn 145 (.iload 4) 2 147 := ⟨by decide +kernel, rfl⟩
theorem d_TR_turn_147 : Dc b_TR_turn 147 (.iaload) 1 148 := ⟨by decide +kernel, rfl⟩
theorem d_TR_turn_148 : Dc b_TR_turn 148 (.aload_n 0) 1 149 := ⟨by decide +kernel, rfl⟩
theorem d_TR_turn_149 : Dc b_TR_turn 149 (.getfield 25) 3 152 := ⟨by decide +kernel, rfl⟩
theorem d_TR_turn_152 : Dc b_TR_turn 152 (.iload 5) 2 154 := ⟨by decide +kernel, rfl⟩
theorem d_TR_turn_154 : Dc b_TR_turn 154 (.iaload) 1 155 := ⟨by decide +kernel, rfl⟩
theorem d_TR_turn_155 : Dc b_TR_turn 155 (.aload_n 0) 1 156 := ⟨by decide +kernel, rfl⟩
theorem d_TR_turn_156 : Dc b_TR_turn 156 (.getfield 28) 3 159 := ⟨by decide +kernel, rfl⟩
theorem d_TR_turn_159 : Dc b_TR_turn 159 (.iload 5) 2 161 := ⟨by decide +kernel, rfl⟩
theorem d_TR_turn_161 : Dc b_TR_turn 161 (.iaload) 1 162 := ⟨by decide +kernel, rfl⟩
theorem d_TR_turn_162 : Dc b_TR_turn 162 (.invokevirtual 57) 3 165 := ⟨by decide +kernel, rfl⟩
theorem d_TR_turn_165 : Dc b_TR_turn 165 (.iinc 3 1) 3 168 := ⟨by decide +kernel, rfl⟩
theorem d_TR_turn_168 : Dj b_TR_turn 168 (.goto (-65)) (-65) 171 103 := ⟨by decide +kernel, rfl, by decide⟩
theorem d_TR_turn_171 : Dc b_TR_turn 171 (.lload_n 1) 1 172 := ⟨by decide +kernel, rfl⟩
theorem d_TR_turn_172 : Dc b_TR_turn 172 (.invokestatic 61) 3 175 := ⟨by decide +kernel, rfl⟩
theorem d_TR_turn_175 : Dc b_TR_turn 175 (.lreturn) 1 176 := ⟨by decide +kernel, rfl⟩
theorem d_Ed_set_0 : Dc b_Ed_set 0 (.iload_n 3) 1 1 := ⟨by decide +kernel, rfl⟩
theorem d_Ed_set_1 : Dc b_Ed_set 1 (.iload_n 1) 1 2 := ⟨by decide +kernel, rfl⟩
theorem d_Ed_set_2 : Dc b_Ed_set 2 (.isub) 1 3 := ⟨by decide +kernel, rfl⟩
theorem d_Ed_set_3 : Dc b_Ed_set 3 (.i2l) 1 4 := ⟨by decide +kernel, rfl⟩
theorem d_Ed_set_4 : Dc b_Ed_set 4 (.lstore 5) 2 6 := ⟨by decide +kernel, rfl⟩
theorem d_Ed_set_6 : Dc b_Ed_set 6 (.iload 4) 2 8 := ⟨by decide +kernel, rfl⟩
theorem d_Ed_set_8 : Dc b_Ed_set 8 (.iload_n 2) 1 9 := ⟨by decide +kernel, rfl⟩
theorem d_Ed_set_9 : Dc b_Ed_set 9 (.isub) 1 10 := ⟨by decide +kernel, rfl⟩
theorem d_Ed_set_10 : Dc b_Ed_set 10 (.i2l) 1 11 := ⟨by decide +kernel, rfl⟩
theorem d_Ed_set_11 : Dc b_Ed_set 11 (.lstore 7) 2 13 := ⟨by decide +kernel, rfl⟩
theorem d_Ed_set_13 : Dc b_Ed_set 13 (.aload_n 0) 1 14 := ⟨by decide +kernel, rfl⟩
theorem d_Ed_set_14 : Dc b_Ed_set 14 (.lload 5) 2 16 := ⟨by decide +kernel, rfl⟩
theorem d_Ed_set_16 : Dc b_Ed_set 16 (.bipush 8) 2 18 := ⟨by decide +kernel, rfl⟩
theorem d_Ed_set_18 : Dc b_Ed_set 18 (.iload_n 2) 1 19 := ⟨by decide +kernel, rfl⟩
theorem d_Ed_set_19 : Dc b_Ed_set 19 (.isub) 1 20 := ⟨by decide +kernel, rfl⟩
theorem d_Ed_set_20 : Dc b_Ed_set 20 (.i2l) 1 21 := ⟨by decide +kernel, rfl⟩
theorem d_Ed_set_21 : Dc b_Ed_set 21 (.lmul) 1 22 := ⟨by decide +kernel, rfl⟩
theorem d_Ed_set_22 : Dc b_Ed_set 22 (.lload 7) 2 24 := ⟨by decide +kernel, rfl⟩
theorem d_Ed_set_24 : Dc b_Ed_set 24 (.bipush 8) 2 26 := ⟨by decide +kernel, rfl⟩
theorem d_Ed_set_26 : Dc b_Ed_set 26 (.iload_n 1) 1 27 := ⟨by decide +kernel, rfl⟩
theorem d_Ed_set_27 : Dc b_Ed_set 27 (.isub) 1 28 := ⟨by decide +kernel, rfl⟩
theorem d_Ed_set_28 : Dc b_Ed_set 28 (.i2l) 1 29 := ⟨by decide +kernel, rfl⟩
theorem d_Ed_set_29 : Dc b_Ed_set 29 (.lmul) 1 30 := ⟨by decide +kernel, rfl⟩
theorem d_Ed_set_30 : Dc b_Ed_set 30 (.lsub) 1 31 := ⟨by decide +kernel, rfl⟩
theorem d_Ed_set_31 : Dc b_Ed_set 31 (.putfield 9) 3 34 := ⟨by decide +kernel, rfl⟩
theorem d_Ed_set_34 : Dc b_Ed_set 34 (.aload_n 0) 1 35 := ⟨by decide +kernel, rfl⟩
theorem d_Ed_set_35 : Dc b_Ed_set 35 (.lload 7) 2 37 := ⟨by decide +kernel, rfl⟩
theorem d_Ed_set_37 : Dc b_Ed_set 37 (.lneg) 1 38 := ⟨by decide +kernel, rfl⟩
theorem d_Ed_set_38 : Dc b_Ed_set 38 (.ldc2_w 15) 3 41 := ⟨by decide +kernel, rfl⟩
theorem d_Ed_set_41 : Dc b_Ed_set 41 (.lmul) 1 42 := ⟨by decide +kernel, rfl⟩
theorem d_Ed_set_42 : Dc b_Ed_set 42 (.putfield 17) 3 45 := ⟨by decide +kernel, rfl⟩
theorem d_Ed_set_45 : Dc b_Ed_set 45 (.aload_n 0) 1 46 := ⟨by decide +kernel, rfl⟩
theorem d_Ed_set_46 : Dc b_Ed_set 46 (.lload 5) 2 48 := ⟨by decide +kernel, rfl⟩
theorem d_Ed_set_48 : Dc b_Ed_set 48 (.ldc2_w 15) 3 51 := ⟨by decide +kernel, rfl⟩
theorem d_Ed_set_51 : Dc b_Ed_set 51 (.lmul) 1 52 := ⟨by decide +kernel, rfl⟩
theorem d_Ed_set_52 : Dc b_Ed_set 52 (.putfield 20) 3 55 := ⟨by decide +kernel, rfl⟩
theorem d_Ed_set_55 : Dc b_Ed_set 55 (.aload_n 0) 1 56 := ⟨by decide +kernel, rfl⟩
theorem d_Ed_set_56 : Dc b_Ed_set 56 (.lload 7) 2 58 := ⟨by decide +kernel, rfl⟩
theorem d_Ed_set_58 : Dc b_Ed_set 58 (.lconst 0) 1 59 := ⟨by decide +kernel, rfl⟩
theorem d_Ed_set_59 : Dc b_Ed_set 59 (.lcmp) 1 60 := ⟨by decide +kernel, rfl⟩
theorem d_Ed_set_60 : Dj b_Ed_set 60 (.ifCond .lt 17) 17 63 77 := ⟨by decide +kernel, rfl, by decide⟩
theorem d_Ed_set_63 : Dc b_Ed_set 63 (.lload 7) 2 65 := ⟨by decide +kernel, rfl⟩
theorem d_Ed_set_65 : Dc b_Ed_set 65 (.lconst 0) 1 66 := ⟨by decide +kernel, rfl⟩
theorem d_Ed_set_66 : Dc b_Ed_set 66 (.lcmp) 1 67 := ⟨by decide +kernel, rfl⟩
theorem d_Ed_set_67 : Dj b_Ed_set 67 (.ifCond .ne 14) 14 70 81 := ⟨by decide +kernel, rfl, by decide⟩
theorem d_Ed_set_70 : Dc b_Ed_set 70 (.lload 5) 2 72 := ⟨by decide +kernel, rfl⟩
theorem d_Ed_set_72 : Dc b_Ed_set 72 (.lconst 0) 1 73 := ⟨by decide +kernel, rfl⟩
theorem d_Ed_set_73 : Dc b_Ed_set 73 (.lcmp) 1 74 := ⟨by decide +kernel, rfl⟩
theorem d_Ed_set_74 : Dj b_Ed_set 74 (.ifCond .le 7) 7 77 81 := ⟨by decide +kernel, rfl, by decide⟩
theorem d_Ed_set_77 : Dc b_Ed_set 77 (.iconst 0) 1 78 := ⟨by decide +kernel, rfl⟩
theorem d_Ed_set_78 : Dj b_Ed_set 78 (.goto 4) 4 81 82 := ⟨by decide +kernel, rfl, by decide⟩
theorem d_Ed_set_81 : Dc b_Ed_set 81 (.iconst 1) 1 82 := ⟨by decide +kernel, rfl⟩
theorem d_Ed_set_82 : Dc b_Ed_set 82 (.putfield 23) 3 85 := ⟨by decide +kernel, rfl⟩
theorem d_Ed_set_85 : Dc b_Ed_set 85 (.return_) 1 86 := ⟨by decide +kernel, rfl⟩
theorem d_Ma_absL_0 : Dc b_Ma_absL 0 (.lload_n 0) 1 1 := ⟨by decide +kernel, rfl⟩
theorem d_Ma_absL_1 : Dc b_Ma_absL 1 (.lconst 0) 1 2 := ⟨by decide +kernel, rfl⟩
theorem d_Ma_absL_2 : Dc b_Ma_absL 2 (.lcmp) 1 3 := ⟨by decide +kernel, rfl⟩
theorem d_Ma_absL_3 : Dj b_Ma_absL 3 (.ifCond .ge 8) 8 6 11 := ⟨by decide +kernel, rfl, by decide⟩
theorem d_Ma_absL_6 : Dc b_Ma_absL 6 (.lload_n 0) 1 7 := ⟨by decide +kernel, rfl⟩
theorem d_Ma_absL_7 : Dc b_Ma_absL 7 (.lneg) 1 8 := ⟨by decide +kernel, rfl⟩
theorem d_Ma_absL_8 : Dj b_Ma_absL 8 (.goto 4) 4 11 12 := ⟨by decide +kernel, rfl, by decide⟩
theorem d_Ma_absL_11 : Dc b_Ma_absL 11 (.lload_n 0) 1 12 := ⟨by decide +kernel, rfl⟩
theorem d_Ma_absL_12 : Dc b_Ma_absL 12 (.lreturn) 1 13 := ⟨by decide +kernel, rfl⟩
theorem d_Ed_toRow_0 : Dc b_Ed_toRow 0 (.aload_n 0) 1 1 := ⟨by decide +kernel, rfl⟩
theorem d_Ed_toRow_1 : Dc b_Ed_toRow 1 (.aload_n 0) 1 2 := ⟨by decide +kernel, rfl⟩
theorem d_Ed_toRow_2 : Dc b_Ed_toRow 2 (.getfield 9) 3 5 := ⟨by decide +kernel, rfl⟩
theorem d_Ed_toRow_5 : Dc b_Ed_toRow 5 (.aload_n 0) 1 6 := ⟨by decide +kernel, rfl⟩
theorem d_Ed_toRow_6 : Dc b_Ed_toRow 6 (.getfield 20) 3 9 := ⟨by decide +kernel, rfl⟩
theorem d_Ed_toRow_9 : Dc b_Ed_toRow 9 (.iload_n 1) 1 10 := ⟨by decide +kernel, rfl⟩
theorem d_Ed_toRow_10 : Dc b_Ed_toRow 10 (.i2l) 1 11 := ⟨by decide +kernel, rfl⟩
theorem d_Ed_toRow_11 : Dc b_Ed_toRow 11 (.lmul) 1 12 := ⟨by decide +kernel, rfl⟩
theorem d_Ed_toRow_12 : Dc b_Ed_toRow 12 (.ladd) 1 13 := ⟨by decide +kernel, rfl⟩
theorem d_Ed_toRow_13 : Dc b_Ed_toRow 13 (.putfield 27) 3 16 := ⟨by decide +kernel, rfl⟩
theorem d_Ed_toRow_16 : Dc b_Ed_toRow 16 (.return_) 1 17 := ⟨by decide +kernel, rfl⟩
theorem d_Ed_isIn_0 : Dc b_Ed_isIn 0 (.aload_n 0) 1 1 := ⟨by decide +kernel, rfl⟩
theorem d_Ed_isIn_1 : Dc b_Ed_isIn 1 (.getfield 27) 3 4 := ⟨by decide +kernel, rfl⟩
theorem d_Ed_isIn_4 : Dc b_Ed_isIn 4 (.aload_n 0) 1 5 := ⟨by decide +kernel, rfl⟩
theorem d_Ed_isIn_5 : Dc b_Ed_isIn 5 (.getfield 23) 3 8 := ⟨by decide +kernel, rfl⟩
theorem d_Ed_isIn_8 : Dc b_Ed_isIn 8 (.i2l) 1 9 := ⟨by decide +kernel, rfl⟩
theorem d_Ed_isIn_9 : Dc b_Ed_isIn 9 (.lcmp) 1 10 := ⟨by decide +kernel, rfl⟩
theorem d_Ed_isIn_10 : Dj b_Ed_isIn 10 (.ifCond .lt 7) 7 13 17 := ⟨by decide +kernel, rfl, by decide⟩
theorem d_Ed_isIn_13 : Dc b_Ed_isIn 13 (.iconst 1) 1 14 := ⟨by decide +kernel, rfl⟩
theorem d_Ed_isIn_14 : Dj b_Ed_isIn 14 (.goto 4) 4 17 18 := ⟨by decide +kernel, rfl, by decide⟩
theorem d_Ed_isIn_17 : Dc b_Ed_isIn 17 (.iconst 0) 1 18 := ⟨by decide +kernel, rfl⟩
theorem d_Ed_isIn_18 : Dc b_Ed_isIn 18 (.ireturn) 1 19 := ⟨by decide +kernel, rfl⟩
theorem d_TR_write_0 : Dc b_TR_write 0 (.aload_n 0) 1 1 := ⟨by decide +kernel, rfl⟩
theorem d_TR_write_1 : Dc b_TR_write 1 (.getfield 36) 3 4 := ⟨by decide +kernel, rfl⟩
theorem d_TR_write_4 : Dc b_TR_write 4 (.iconst 1) 1 5 := ⟨by decide +kernel, rfl⟩
theorem d_TR_write_5 : Dc b_TR_write 5 (.aaload) 1 6 := ⟨by decide +kernel, rfl⟩
theorem d_TR_write_6 : Dc b_TR_write 6 (.getfield 86) 3 9 := ⟨by decide +kernel, rfl⟩
theorem d_TR_write_9 : Dc b_TR_write 9 (.aload_n 0) 1 10 := ⟨by decide +kernel, rfl⟩
theorem d_TR_write_10 : Dc b_TR_write 10 (.getfield 31) 3 13 := ⟨by decide +kernel, rfl⟩
theorem d_TR_write_13 : Dc b_TR_write 13 (.aload_n 0) 1 14 := ⟨by decide +kernel, rfl⟩
theorem d_TR_write_14 : Dc b_TR_write 14 (.getfield 40) 3 17 := ⟨by decide +kernel, rfl⟩
theorem d_TR_write_17 : Dc b_TR_write 17 (.iconst 0) 1 18 := ⟨by decide +kernel, rfl⟩
theorem d_TR_write_18 : Dc b_TR_write 18 (.iaload) 1 19 := ⟨by decide +kernel, rfl⟩
theorem d_TR_write_19 : Dc b_TR_write 19 (.iaload) 1 20 := ⟨by decide +kernel, rfl⟩
theorem d_TR_write_20 : Dc b_TR_write 20 (.i2l) 1 21 := ⟨by decide +kernel, rfl⟩
theorem d_TR_write_21 : Dc b_TR_write 21 (.lmul) 1 22 := ⟨by decide +kernel, rfl⟩
theorem d_TR_write_22 : Dc b_TR_write 22 (.aload_n 0) 1 23 := ⟨by decide +kernel, rfl⟩
theorem d_TR_write_23 : Dc b_TR_write 23 (.getfield 36) 3 26 := ⟨by decide +kernel, rfl⟩
theorem d_TR_write_26 : Dc b_TR_write 26 (.iconst 2) 1 27 := ⟨by decide +kernel, rfl⟩
theorem d_TR_write_27 : Dc b_TR_write 27 (.aaload) 1 28 := ⟨by decide +kernel, rfl⟩
theorem d_TR_write_28 : Dc b_TR_write 28 (.getfield 86) 3 31 := ⟨by decide +kernel, rfl⟩
theorem d_TR_write_31 : Dc b_TR_write 31 (.aload_n 0) 1 32 := ⟨by decide +kernel, rfl⟩
theorem d_TR_write_32 : Dc b_TR_write 32 (.getfield 31) 3 35 := ⟨by decide +kernel, rfl⟩
theorem d_TR_write_35 : Dc b_TR_write 35 (.aload_n 0) 1 36 := ⟨by decide +kernel, rfl⟩
theorem d_TR_write_36 : Dc b_TR_write 36 (.getfield 40) 3 39 := ⟨by decide +kernel, rfl⟩
theorem d_TR_write_39 : Dc b_TR_write 39 (.iconst 1) 1 40 := ⟨by decide +kernel, rfl⟩
theorem d_TR_write_40 : Dc b_TR_write 40 (.iaload) 1 41 := ⟨by decide +kernel, rfl⟩
theorem d_TR_write_41 : Dc b_TR_write 41 (.iaload) 1 42 := ⟨by decide +kernel, rfl⟩
theorem d_TR_write_42 : Dc b_TR_write 42 (.i2l) 1 43 := ⟨by decide +kernel, rfl⟩
theorem d_TR_write_43 : Dc b_TR_write 43 (.lmul) 1 44 := ⟨by decide +kernel, rfl⟩
theorem d_TR_write_44 : Dc b_TR_write 44 (.ladd) 1 45 := ⟨by decide +kernel, rfl⟩
theorem d_TR_write_45 : Dc b_TR_write 45 (.aload_n 0) 1 46 := ⟨by decide +kernel, rfl⟩
theorem d_TR_write_46 : Dc b_TR_write 46 (.getfield 36) 3 49 := ⟨by decide +kernel, rfl⟩
theorem d_TR_write_49 : Dc b_TR_write 49 (.iconst 0) 1 50 := ⟨by decide +kernel, rfl⟩
theorem d_TR_write_50 : Dc b_TR_write 50 (.aaload) 1 51 := ⟨by decide +kernel, rfl⟩
theorem d_TR_write_51 : Dc b_TR_write 51 (.getfield 86) 3 54 := ⟨by decide +kernel, rfl⟩
theorem d_TR_write_54 : Dc b_TR_write 54 (.aload_n 0) 1 55 := ⟨by decide +kernel, rfl⟩
theorem d_TR_write_55 : Dc b_TR_write 55 (.getfield 31) 3 58 := ⟨by decide +kernel, rfl⟩
theorem d_TR_write_58 : Dc b_TR_write 58 (.aload_n 0) 1 59 := ⟨by decide +kernel, rfl⟩
theorem d_TR_write_59 : Dc b_TR_write 59 (.getfield 40) 3 62 := ⟨by decide +kernel, rfl⟩
theorem d_TR_write_62 : Dc b_TR_write 62 (.iconst 2) 1 63 := ⟨by decide +kernel, rfl⟩
theorem d_TR_write_63 : Dc b_TR_write 63 (.iaload) 1 64 := ⟨by decide +kernel, rfl⟩
theorem d_TR_write_64 : Dc b_TR_write 64 (.iaload) 1 65 := ⟨by decide +kernel, rfl⟩
theorem d_TR_write_65 : Dc b_TR_write 65 (.i2l) 1 66 := ⟨by decide +kernel, rfl⟩
theorem d_TR_write_66 : Dc b_TR_write 66 (.lmul) 1 67 := ⟨by decide +kernel, rfl⟩
theorem d_TR_write_67 : Dc b_TR_write 67 (.ladd) 1 68 := ⟨by decide +kernel, rfl⟩
theorem d_TR_write_68 : Dc b_TR_write 68 (.lstore 5) 2 70 := ⟨by decide +kernel, rfl⟩
theorem d_TR_write_70 : Dc b_TR_write 70 (.lload 5) 2 72 := ⟨by decide +kernel, rfl⟩
theorem d_TR_write_72 : Dc b_TR_write 72 (.lload_n 2) 1 73 := ⟨by decide +kernel, rfl⟩
theorem d_TR_write_73 : Dc b_TR_write 73 (.ldiv) 1 74 := ⟨by decide +kernel, rfl⟩
theorem d_TR_write_74 : Dc b_TR_write 74 (.lstore 7) 2 76 := ⟨by decide +kernel, rfl⟩
theorem d_TR_write_76 : Dc b_TR_write 76 (.lload 7) 2 78 := ⟨by decide +kernel, rfl⟩
theorem d_TR_write_78 : Dc b_TR_write 78 (.aload_n 0) 1 79 := ⟨by decide +kernel, rfl⟩
theorem d_TR_write_79 : Dc b_TR_write 79 (.getfield 13) 3 82 := ⟨by decide +kernel, rfl⟩
theorem d_TR_write_82 : Dc b_TR_write 82 (.iload_n 1) 1 83 := ⟨by decide +kernel, rfl⟩
theorem d_TR_write_83 : Dc b_TR_write 83 (.caload) 1 84 := ⟨by decide +kernel, rfl⟩
theorem d_TR_write_84 : Dc b_TR_write 84 (.i2l) 1 85 := ⟨by decide +kernel, rfl⟩
theorem d_TR_write_85 : Dc b_TR_write 85 (.lcmp) 1 86 := ⟨by decide +kernel, rfl⟩
theorem d_TR_write_86 : Dj b_TR_write 86 (.ifCond .lt 5) 5 89 91 := ⟨by decide +kernel, rfl, by decide⟩
theorem d_TR_write_89 : Dc b_TR_write 89 (.iconst 0) 1 90 := ⟨by decide +kernel, rfl⟩
theorem d_TR_write_90 : Dc b_TR_write 90 (.ireturn) 1 91 := ⟨by decide +kernel, rfl⟩
theorem d_TR_write_91 : Dc b_TR_write 91 (.aload_n 0) 1 92 := ⟨by decide +kernel, rfl⟩
theorem d_TR_write_92 : Dc b_TR_write 92 (.getfield 7) 3 95 := ⟨by decide +kernel, rfl⟩
theorem d_TR_write_95 : Dc b_TR_write 95 (.iload_n 1) 1 96 := ⟨by decide +kernel, rfl⟩
theorem d_TR_write_96 : Dc b_TR_write 96 (.iload 4) 2 98 := ⟨by decide +kernel, rfl⟩
theorem d_TR_write_98 : Dc b_TR_write 98 (.iastore) 1 99 := ⟨by decide +kernel, rfl⟩
theorem d_TR_write_99 : Dc b_TR_write 99 (.aload_n 0) 1 100 := ⟨by decide +kernel, rfl⟩
theorem d_TR_write_100 : Dc b_TR_write 100 (.getfield 13) 3 103 := ⟨by decide +kernel, rfl⟩
theorem d_TR_write_103 : Dc b_TR_write 103 (.iload_n 1) 1 104 := ⟨by decide +kernel, rfl⟩
theorem d_TR_write_104 : Dc b_TR_write 104 (.lload 7) 2 106 := ⟨by decide +kernel, rfl⟩
theorem d_TR_write_106 : Dc b_TR_write 106 (.l2i) 1 107 := ⟨by decide +kernel, rfl⟩
theorem d_TR_write_107 : Dc b_TR_write 107 (.i2c) 1 108 := ⟨by decide +kernel, rfl⟩
theorem d_TR_write_108 : Dc b_TR_write 108 (.castore) 1 109 := ⟨by decide +kernel, rfl⟩
theorem d_TR_write_109 : Dc b_TR_write 109 (.iconst 1) 1 110 := ⟨by decide +kernel, rfl⟩
theorem d_TR_write_110 : Dc b_TR_write 110 (.ireturn) 1 111 := ⟨by decide +kernel, rfl⟩
theorem d_Ed_toRight_0 : Dc b_Ed_toRight 0 (.aload_n 0) 1 1 := ⟨by decide +kernel, rfl⟩
theorem d_Ed_toRight_1 : Dc b_Ed_toRight 1 (.dup) 1 2 := ⟨by decide +kernel, rfl⟩
theorem d_Ed_toRight_2 : Dc b_Ed_toRight 2 (.getfield 27) 3 5 := ⟨by decide +kernel, rfl⟩
theorem d_Ed_toRight_5 : Dc b_Ed_toRight 5 (.aload_n 0) 1 6 := ⟨by decide +kernel, rfl⟩
theorem d_Ed_toRight_6 : Dc b_Ed_toRight 6 (.getfield 17) 3 9 := ⟨by decide +kernel, rfl⟩
theorem d_Ed_toRight_9 : Dc b_Ed_toRight 9 (.ladd) 1 10 := ⟨by decide +kernel, rfl⟩
theorem d_Ed_toRight_10 : Dc b_Ed_toRight 10 (.putfield 27) 3 13 := ⟨by decide +kernel, rfl⟩
theorem d_Ed_toRight_13 : Dc b_Ed_toRight 13 (.return_) 1 14 := ⟨by decide +kernel, rfl⟩
theorem d_TR_covers_0 : Dc b_TR_covers 0 (.iload_n 1) 1 1 := ⟨by decide +kernel, rfl⟩
theorem d_TR_covers_1 : Dc b_TR_covers 1 (.sipush (-2000)) 3 4 := ⟨by decide +kernel, rfl⟩
theorem d_TR_covers_4 : Dj b_TR_covers 4 (.if_icmp .lt 33) 33 7 37 := ⟨by decide +kernel, rfl, by decide⟩
theorem d_TR_covers_7 : Dc b_TR_covers 7 (.iload_n 1) 1 8 := ⟨by decide +kernel, rfl⟩
theorem d_TR_covers_8 : Dc b_TR_covers 8 (.sipush 2000) 3 11 := ⟨by decide +kernel, rfl⟩
theorem d_TR_covers_11 : Dj b_TR_covers 11 (.if_icmp .gt 26) 26 14 37 := ⟨by decide +kernel, rfl, by decide⟩
theorem d_TR_covers_14 : Dc b_TR_covers 14 (.iload_n 2) 1 15 := ⟨by decide +kernel, rfl⟩
theorem d_TR_covers_15 : Dc b_TR_covers 15 (.sipush (-2000)) 3 18 := ⟨by decide +kernel, rfl⟩
theorem d_TR_covers_18 : Dj b_TR_covers 18 (.if_icmp .lt 19) 19 21 37 := ⟨by decide +kernel, rfl, by decide⟩
theorem d_TR_covers_21 : Dc b_TR_covers 21 (.iload_n 2) 1 22 := ⟨by decide +kernel, rfl⟩
theorem d_TR_covers_22 : Dc b_TR_covers 22 (.sipush 2000) 3 25 := ⟨by decide +kernel, rfl⟩
theorem d_TR_covers_25 : Dj b_TR_covers 25 (.if_icmp .gt 12) 12 28 37 := ⟨by decide +kernel, rfl, by decide⟩
theorem d_TR_covers_28 : Dc b_TR_covers 28 (.aload_n 0) 1 29 := ⟨by decide +kernel, rfl⟩
theorem d_TR_covers_29 : Dc b_TR_covers 29 (.invokevirtual 67) 3 32 := ⟨by decide +kernel, rfl⟩
theorem d_TR_covers_32 : Dc b_TR_covers 32 (.lconst 0) 1 33 := ⟨by decide +kernel, rfl⟩
theorem d_TR_covers_33 : Dc b_TR_covers 33 (.lcmp) 1 34 := ⟨by decide +kernel, rfl⟩
theorem d_TR_covers_34 : Dj b_TR_covers 34 (.ifCond .ne 5) 5 37 39 := ⟨by decide +kernel, rfl, by decide⟩
theorem d_TR_covers_37 : Dc b_TR_covers 37 (.iconst 0) 1 38 := ⟨by decide +kernel, rfl⟩
theorem d_TR_covers_38 : Dc b_TR_covers 38 (.ireturn) 1 39 := ⟨by decide +kernel, rfl⟩
theorem d_TR_covers_39 : Dc b_TR_covers 39 (.aload_n 0) 1 40 := ⟨by decide +kernel, rfl⟩
theorem d_TR_covers_40 : Dc b_TR_covers 40 (.getfield 36) 3 43 := ⟨by decide +kernel, rfl⟩
theorem d_TR_covers_43 : Dc b_TR_covers 43 (.iconst 0) 1 44 := ⟨by decide +kernel, rfl⟩
theorem d_TR_covers_44 : Dc b_TR_covers 44 (.aaload) 1 45 := ⟨by decide +kernel, rfl⟩
theorem d_TR_covers_45 : Dc b_TR_covers 45 (.iload_n 1) 1 46 := ⟨by decide +kernel, rfl⟩
theorem d_TR_covers_46 : Dc b_TR_covers 46 (.iload_n 2) 1 47 := ⟨by decide +kernel, rfl⟩
theorem d_TR_covers_47 : Dc b_TR_covers 47 (.invokevirtual 90) 3 50 := ⟨by decide +kernel, rfl⟩
theorem d_TR_covers_50 : Dj b_TR_covers 50 (.ifCond .eq 35) 35 53 85 := ⟨by decide +kernel, rfl, by decide⟩
theorem d_TR_covers_53 : Dc b_TR_covers 53 (.aload_n 0) 1 54 := ⟨by decide +kernel, rfl⟩
theorem d_TR_covers_54 : Dc b_TR_covers 54 (.getfield 36) 3 57 := ⟨by decide +kernel, rfl⟩
theorem d_TR_covers_57 : Dc b_TR_covers 57 (.iconst 1) 1 58 := ⟨by decide +kernel, rfl⟩
theorem d_TR_covers_58 : Dc b_TR_covers 58 (.aaload) 1 59 := ⟨by decide +kernel, rfl⟩
theorem d_TR_covers_59 : Dc b_TR_covers 59 (.iload_n 1) 1 60 := ⟨by decide +kernel, rfl⟩
theorem d_TR_covers_60 : Dc b_TR_covers 60 (.iload_n 2) 1 61 := ⟨by decide +kernel, rfl⟩
theorem d_TR_covers_61 : Dc b_TR_covers 61 (.invokevirtual 90) 3 64 := ⟨by decide +kernel, rfl⟩
theorem d_TR_covers_64 : Dj b_TR_covers 64 (.ifCond .eq 21) 21 67 85 := ⟨by decide +kernel, rfl, by decide⟩
theorem d_TR_covers_67 : Dc b_TR_covers 67 (.aload_n 0) 1 68 := ⟨by decide +kernel, rfl⟩
theorem d_TR_covers_68 : Dc b_TR_covers 68 (.getfield 36) 3 71 := ⟨by decide +kernel, rfl⟩
theorem d_TR_covers_71 : Dc b_TR_covers 71 (.iconst 2) 1 72 := ⟨by decide +kernel, rfl⟩
theorem d_TR_covers_72 : Dc b_TR_covers 72 (.aaload) 1 73 := ⟨by decide +kernel, rfl⟩
theorem d_TR_covers_73 : Dc b_TR_covers 73 (.iload_n 1) 1 74 := ⟨by decide +kernel, rfl⟩
theorem d_TR_covers_74 : Dc b_TR_covers 74 (.iload_n 2) 1 75 := ⟨by decide +kernel, rfl⟩
theorem d_TR_covers_75 : Dc b_TR_covers 75 (.invokevirtual 90) 3 78 := ⟨by decide +kernel, rfl⟩
theorem d_TR_covers_78 : Dj b_TR_covers 78 (.ifCond .eq 7) 7 81 85 := ⟨by decide +kernel, rfl, by decide⟩
theorem d_TR_covers_81 : Dc b_TR_covers 81 (.iconst 1) 1 82 := ⟨by decide +kernel, rfl⟩
theorem d_TR_covers_82 : Dj b_TR_covers 82 (.goto 4) 4 85 86 := ⟨by decide +kernel, rfl, by decide⟩
theorem d_TR_covers_85 : Dc b_TR_covers 85 (.iconst 0) 1 86 := ⟨by decide +kernel, rfl⟩
theorem d_TR_covers_86 : Dc b_TR_covers 86 (.ireturn) 1 87 := ⟨by decide +kernel, rfl⟩
theorem d_Ed_isIn2_0 : Dc b_Ed_isIn2 0 (.aload_n 0) 1 1 := ⟨by decide +kernel, rfl⟩
theorem d_Ed_isIn2_1 : Dc b_Ed_isIn2 1 (.getfield 9) 3 4 := ⟨by decide +kernel, rfl⟩
theorem d_Ed_isIn2_4 : Dc b_Ed_isIn2 4 (.aload_n 0) 1 5 := ⟨by decide +kernel, rfl⟩
theorem d_Ed_isIn2_5 : Dc b_Ed_isIn2 5 (.getfield 17) 3 8 := ⟨by decide +kernel, rfl⟩
theorem d_Ed_isIn2_8 : Dc b_Ed_isIn2 8 (.iload_n 1) 1 9 := ⟨by decide +kernel, rfl⟩
theorem d_Ed_isIn2_9 : Dc b_Ed_isIn2 9 (.i2l) 1 10 := ⟨by decide +kernel, rfl⟩
theorem d_Ed_isIn2_10 : Dc b_Ed_isIn2 10 (.lmul) 1 11 := ⟨by decide +kernel, rfl⟩
theorem d_Ed_isIn2_11 : Dc b_Ed_isIn2 11 (.ladd) 1 12 := ⟨by decide +kernel, rfl⟩
theorem d_Ed_isIn2_12 : Dc b_Ed_isIn2 12 (.aload_n 0) 1 13 := ⟨by decide +kernel, rfl⟩
theorem d_Ed_isIn2_13 : Dc b_Ed_isIn2 13 (.getfield 20) 3 16 := ⟨by decide +kernel, rfl⟩
theorem d_Ed_isIn2_16 : Dc b_Ed_isIn2 16 (.iload_n 2) 1 17 := ⟨by decide +kernel, rfl⟩
theorem d_Ed_isIn2_17 : Dc b_Ed_isIn2 17 (.i2l) 1 18 := ⟨by decide +kernel, rfl⟩
theorem d_Ed_isIn2_18 : Dc b_Ed_isIn2 18 (.lmul) 1 19 := ⟨by decide +kernel, rfl⟩
theorem d_Ed_isIn2_19 : Dc b_Ed_isIn2 19 (.ladd) 1 20 := ⟨by decide +kernel, rfl⟩
theorem d_Ed_isIn2_20 : Dc b_Ed_isIn2 20 (.aload_n 0) 1 21 := ⟨by decide +kernel, rfl⟩
theorem d_Ed_isIn2_21 : Dc b_Ed_isIn2 21 (.getfield 23) 3 24 := ⟨by decide +kernel, rfl⟩
theorem d_Ed_isIn2_24 : Dc b_Ed_isIn2 24 (.i2l) 1 25 := ⟨by decide +kernel, rfl⟩
theorem d_Ed_isIn2_25 : Dc b_Ed_isIn2 25 (.lcmp) 1 26 := ⟨by decide +kernel, rfl⟩
theorem d_Ed_isIn2_26 : Dj b_Ed_isIn2 26 (.ifCond .lt 7) 7 29 33 := ⟨by decide +kernel, rfl, by decide⟩
theorem d_Ed_isIn2_29 : Dc b_Ed_isIn2 29 (.iconst 1) 1 30 := ⟨by decide +kernel, rfl⟩
theorem d_Ed_isIn2_30 : Dj b_Ed_isIn2 30 (.goto 4) 4 33 34 := ⟨by decide +kernel, rfl, by decide⟩
theorem d_Ed_isIn2_33 : Dc b_Ed_isIn2 33 (.iconst 0) 1 34 := ⟨by decide +kernel, rfl⟩
theorem d_Ed_isIn2_34 : Dc b_Ed_isIn2 34 (.ireturn) 1 35 := ⟨by decide +kernel, rfl⟩
theorem d_TR_line_0 : Dc b_TR_line 0 (.iload_n 1) 1 1 := ⟨by decide +kernel, rfl⟩
theorem d_TR_line_1 : Dc b_TR_line 1 (.invokestatic 52) 3 4 := ⟨by decide +kernel, rfl⟩
theorem d_TR_line_4 : Dj b_TR_line 4 (.ifCond .ne 25) 25 7 29 := ⟨by decide +kernel, rfl, by decide⟩
theorem d_TR_line_7 : Dc b_TR_line 7 (.iload_n 2) 1 8 := ⟨by decide +kernel, rfl⟩
theorem d_TR_line_8 : Dc b_TR_line 8 (.invokestatic 52) 3 11 := ⟨by decide +kernel, rfl⟩
theorem d_TR_line_11 : Dj b_TR_line 11 (.ifCond .ne 18) 18 14 29 := ⟨by decide +kernel, rfl, by decide⟩
theorem d_TR_line_14 : Dc b_TR_line 14 (.iload_n 3) 1 15 := ⟨by decide +kernel, rfl⟩
theorem d_TR_line_15 : Dc b_TR_line 15 (.invokestatic 52) 3 18 := ⟨by decide +kernel, rfl⟩
theorem d_TR_line_18 : Dj b_TR_line 18 (.ifCond .ne 11) 11 21 29 := ⟨by decide +kernel, rfl, by decide⟩
theorem d_TR_line_21 : Dc b_TR_line 21 (.iload 4) 2 23 := ⟨by decide +kernel, rfl⟩
theorem d_TR_line_23 : Dc b_TR_line 23 (.invokestatic 52) 3 26 := ⟨by decide +kernel, rfl⟩
theorem d_TR_line_26 : Dj b_TR_line 26 (.ifCond .eq 5) 5 29 31 := ⟨by decide +kernel, rfl, by decide⟩
theorem d_TR_line_29 : Dc b_TR_line 29 (.iconst (-1)) 1 30 := ⟨by decide +kernel, rfl⟩
theorem d_TR_line_30 : Dc b_TR_line 30 (.ireturn) 1 31 := ⟨by decide +kernel, rfl⟩
theorem d_TR_line_31 : Dc b_TR_line 31 (.iload_n 3) 1 32 := ⟨by decide +kernel, rfl⟩
theorem d_TR_line_32 : Dc b_TR_line 32 (.iload_n 1) 1 33 := ⟨by decide +kernel, rfl⟩
theorem d_TR_line_33 : Dc b_TR_line 33 (.isub) 1 34 := ⟨by decide +kernel, rfl⟩
theorem d_TR_line_34 : Dc b_TR_line 34 (.invokestatic 96) 3 37 := ⟨by decide +kernel, rfl⟩
theorem d_TR_line_37 : Dc b_TR_line 37 (.istore 6) 2 39 := ⟨by decide +kernel, rfl⟩
theorem d_TR_line_39 : Dc b_TR_line 39 (.iload 4) 2 41 := ⟨by decide +kernel, rfl⟩
theorem d_TR_line_41 : Dc b_TR_line 41 (.iload_n 2) 1 42 := ⟨by decide +kernel, rfl⟩
theorem d_TR_line_42 : Dc b_TR_line 42 (.isub) 1 43 := ⟨by decide +kernel, rfl⟩
theorem d_TR_line_43 : Dc b_TR_line 43 (.invokestatic 96) 3 46 := ⟨by decide +kernel, rfl⟩
theorem d_TR_line_46 : Dc b_TR_line 46 (.istore 7) 2 48 := ⟨by decide +kernel, rfl⟩
theorem d_TR_line_48 : Dc b_TR_line 48 (.iload_n 3) 1 49 := ⟨by decide +kernel, rfl⟩
theorem d_TR_line_49 : Dc b_TR_line 49 (.iload_n 1) 1 50 := ⟨by decide +kernel, rfl⟩
theorem d_TR_line_50 : Dc b_TR_line 50 (.isub) 1 51 := ⟨by decide +kernel, rfl⟩
theorem d_TR_line_51 : Dc b_TR_line 51 (.invokestatic 99) 3 54 := ⟨by decide +kernel, rfl⟩
theorem d_TR_line_54 : Dc b_TR_line 54 (.istore 8) 2 56 := ⟨by decide +kernel, rfl⟩
theorem d_TR_line_56 : Dc b_TR_line 56 (.iload 4) 2 58 := ⟨by decide +kernel, rfl⟩
theorem d_TR_line_58 : Dc b_TR_line 58 (.iload_n 2) 1 59 := ⟨by decide +kernel, rfl⟩
theorem d_TR_line_59 : Dc b_TR_line 59 (.isub) 1 60 := ⟨by decide +kernel, rfl⟩
theorem d_TR_line_60 : Dc b_TR_line 60 (.invokestatic 99) 3 63 := ⟨by decide +kernel, rfl⟩
theorem d_TR_line_63 : Dc b_TR_line 63 (.istore 9) 2 65 := ⟨by decide +kernel, rfl⟩
theorem d_TR_line_65 : Dc b_TR_line 65 (.iload 6) 2 67 := ⟨by decide +kernel, rfl⟩
theorem d_TR_line_67 : Dc b_TR_line 67 (.iload 7) 2 69 := ⟨by decide +kernel, rfl⟩
theorem d_TR_line_69 : Dj b_TR_line 69 (.if_icmp .lt 7) 7 72 76 := ⟨by decide +kernel, rfl, by decide⟩
theorem d_TR_line_72 : Dc b_TR_line 72 (.iconst 1) 1 73 := ⟨by decide +kernel, rfl⟩
theorem d_TR_line_73 : Dj b_TR_line 73 (.goto 4) 4 76 77 := ⟨by decide +kernel, rfl, by decide⟩
theorem d_TR_line_76 : Dc b_TR_line 76 (.iconst 0) 1 77 := ⟨by decide +kernel, rfl⟩
theorem d_TR_line_77 : Dc b_TR_line 77 (.istore 10) 2 79 := ⟨by decide +kernel, rfl⟩
theorem d_TR_line_79 : Dc b_TR_line 79 (.iload 10) 2 81 := ⟨by decide +kernel, rfl⟩
theorem d_TR_line_81 : Dj b_TR_line 81 (.ifCond .eq 8) 8 84 89 := ⟨by decide +kernel, rfl, by decide⟩
theorem d_TR_line_84 : Dc b_TR_line 84 (.iload 6) 2 86 := ⟨by decide +kernel, rfl⟩
theorem d_TR_line_86 : Dj b_TR_line 86 (.goto 5) 5 89 91 := ⟨by decide +kernel, rfl, by decide⟩
theorem d_TR_line_89 : Dc b_TR_line 89 (.iload 7) 2 91 := ⟨by decide +kernel, rfl⟩
theorem d_TR_line_91 : Dc b_TR_line 91 (.istore 11) 2 93 := ⟨by decide +kernel, rfl⟩
theorem d_TR_line_93 : Dc b_TR_line 93 (.iload 10) 2 95 := ⟨by decide +kernel, rfl⟩
theorem d_TR_line_95 : Dj b_TR_line 95 (.ifCond .eq 8) 8 98 103 := ⟨by decide +kernel, rfl, by decide⟩
theorem d_TR_line_98 : Dc b_TR_line 98 (.iload 7) 2 100 := ⟨by decide +kernel, rfl⟩
theorem d_TR_line_100 : Dj b_TR_line 100 (.goto 5) 5 103 105 := ⟨by decide +kernel, rfl, by decide⟩
theorem d_TR_line_103 : Dc b_TR_line 103 (.iload 6) 2 105 := ⟨by decide +kernel, rfl⟩
theorem d_TR_line_105 : Dc b_TR_line 105 (.istore 12) 2 107 := ⟨by decide +kernel, rfl⟩
theorem d_TR_line_107 : Dc b_TR_line 107 (.iload 11) 2 109 := ⟨by decide +kernel, rfl⟩
theorem d_TR_line_109 : Dc b_TR_line 109 (.iconst 1) 1 110 := ⟨by decide +kernel, rfl⟩
theorem d_TR_line_110 : Dc b_TR_line 110 (.isub) 1 111 := ⟨by decide +kernel, rfl⟩
theorem d_TR_line_111 : Dc b_TR_line 111 (.istore 13) 2 113 := ⟨by decide +kernel, rfl⟩
theorem d_TR_line_113 : Dc b_TR_line 113 (.iload_n 1) 1 114 := ⟨by decide +kernel, rfl⟩
theorem d_TR_line_114 : Dc b_TR_line 114 (.istore 14) 2 116 := ⟨by decide +kernel, rfl⟩
theorem d_TR_line_116 : Dc b_TR_line 116 (.iload_n 2) 1 117 := ⟨by decide +kernel, rfl⟩
theorem d_TR_line_117 : Dc b_TR_line 117 (.istore 15) 2 119 := ⟨by decide +kernel, rfl⟩
theorem d_TR_line_119 : Dc b_TR_line 119 (.iconst 0) 1 120 := ⟨by decide +kernel, rfl⟩
theorem d_TR_line_120 : Dc b_TR_line 120 (.istore 16) 2 122 := ⟨by decide +kernel, rfl⟩
theorem d_TR_line_122 : Dc b_TR_line 122 (.iconst 0) 1 123 := ⟨by decide +kernel, rfl⟩
theorem d_TR_line_123 : Dc b_TR_line 123 (.istore 17) 2 125 := ⟨by decide +kernel, rfl⟩
theorem d_TR_line_125 : Dc b_TR_line 125 (.iload 17) 2 127 := ⟨by decide +kernel, rfl⟩
theorem d_TR_line_127 : Dc b_TR_line 127 (.iload 11) 2 129 := ⟨by decide +kernel, rfl⟩
theorem d_TR_line_129 : Dj b_TR_line 129 (.if_icmp .gt 117) 117 132 246 := ⟨by decide +kernel, rfl, by decide⟩
theorem d_TR_line_132 : Dc b_TR_line 132 (.iload 16) 2 134 := ⟨by decide +kernel, rfl⟩
theorem d_TR_line_134 : Dc b_TR_line 134 (.aload_n 0) 1 135 := ⟨by decide +kernel, rfl⟩
theorem d_TR_line_135 : Dc b_TR_line 135 (.iload 14) 2 137 := ⟨by decide +kernel, rfl⟩
theorem d_TR_line_137 : Dc b_TR_line 137 (.iload 15) 2 139 := ⟨by decide +kernel, rfl⟩
theorem d_TR_line_139 : Dc b_TR_line 139 (.iload 5) 2 141 := ⟨by decide +kernel, rfl⟩
theorem d_TR_line_141 : Dc b_TR_line 141 (.invokevirtual 104) 3 144 := ⟨by decide +kernel, rfl⟩
theorem d_TR_line_144 : Dj b_TR_line 144 (.ifCond .eq 7) 7 147 151 := ⟨by decide +kernel, rfl, by decide⟩
theorem d_TR_line_147 : Dc b_TR_line 147 (.iconst 1) 1 148 := ⟨by decide +kernel, rfl⟩
theorem d_TR_line_148 : Dj b_TR_line 148 (.goto 4) 4 151 152 := ⟨by decide +kernel, rfl, by decide⟩
theorem d_TR_line_151 : Dc b_TR_line 151 (.iconst 0) 1 152 := ⟨by decide +kernel, rfl⟩
theorem d_TR_line_152 : Dc b_TR_line 152 (.iadd) 1 153 := ⟨by decide +kernel, rfl⟩
theorem d_TR_line_153 : Dc b_TR_line 153 (.istore 16) 2 155 := ⟨by decide +kernel, rfl⟩
theorem d_TR_line_155 : Dc b_TR_line 155 (.iload 13) 2 157 := ⟨by decide +kernel, rfl⟩
theorem d_TR_line_157 : Dc b_TR_line 157 (.iconst 2) 1 158 := ⟨by decide +kernel, rfl⟩
theorem d_TR_line_158 : Dc b_TR_line 158 (.iload 12) 2 160 := ⟨by decide +kernel, rfl⟩
theorem d_TR_line_160 : Dc b_TR_line 160 (.imul) 1 161 := ⟨by decide +kernel, rfl⟩
theorem d_TR_line_161 : Dc b_TR_line 161 (.iadd) 1 162 := ⟨by decide +kernel, rfl⟩
theorem d_TR_line_162 : Dc b_TR_line 162 (.istore 13) 2 164 := ⟨by decide +kernel, rfl⟩
theorem d_TR_line_164 : Dc b_TR_line 164 (.iload 13) 2 166 := ⟨by decide +kernel, rfl⟩
theorem d_TR_line_166 : Dc b_TR_line 166 (.iconst 2) 1 167 := ⟨by decide +kernel, rfl⟩
theorem d_TR_line_167 : Dc b_TR_line 167 (.iload 11) 2 169 := ⟨by decide +kernel, rfl⟩
theorem d_TR_line_169 : Dc b_TR_line 169 (.imul) 1 170 := ⟨by decide +kernel, rfl⟩
theorem d_TR_line_170 : Dj b_TR_line 170 (.if_icmp .lt 7) 7 173 177 := ⟨by decide +kernel, rfl, by decide⟩
theorem d_TR_line_173 : Dc b_TR_line 173 (.iconst 1) 1 174 := ⟨by decide +kernel, rfl⟩
theorem d_TR_line_174 : Dj b_TR_line 174 (.goto 4) 4 177 178 := ⟨by decide +kernel, rfl, by decide⟩
theorem d_TR_line_177 : Dc b_TR_line 177 (.iconst 0) 1 178 := ⟨by decide +kernel, rfl⟩
theorem d_TR_line_178 : Dc b_TR_line 178 (.istore 18) 2 180 := ⟨by decide +kernel, rfl⟩
theorem d_TR_line_180 : Dc b_TR_line 180 (.iload 13) 2 182 := ⟨by decide +kernel, rfl⟩
theorem d_TR_line_182 : Dc b_TR_line 182 (.iload 18) 2 184 := ⟨by decide +kernel, rfl⟩
theorem d_TR_line_184 : Dj b_TR_line 184 (.ifCond .eq 10) 10 187 194 := ⟨by decide +kernel, rfl, by decide⟩
theorem d_TR_line_187 : Dc b_TR_line 187 (.iconst 2) 1 188 := ⟨by decide +kernel, rfl⟩
theorem d_TR_line_188 : Dc b_TR_line 188 (.iload 11) 2 190 := ⟨by decide +kernel, rfl⟩
theorem d_TR_line_190 : Dc b_TR_line 190 (.imul) 1 191 := ⟨by decide +kernel, rfl⟩
theorem d_TR_line_191 : Dj b_TR_line 191 (.goto 4) 4 194 195 := ⟨by decide +kernel, rfl, by decide⟩
theorem d_TR_line_194 : Dc b_TR_line 194 (.iconst 0) 1 195 := ⟨by decide +kernel, rfl⟩
theorem d_TR_line_195 : Dc b_TR_line 195 (.isub) 1 196 := ⟨by decide +kernel, rfl⟩
theorem d_TR_line_196 : Dc b_TR_line 196 (.istore 13) 2 198 := ⟨by decide +kernel, rfl⟩
theorem d_TR_line_198 : Dc b_TR_line 198 (.iload 14) 2 200 := ⟨by decide +kernel, rfl⟩
theorem d_TR_line_200 : Dc b_TR_line 200 (.iload 10) 2 202 := ⟨by decide +kernel, rfl⟩
theorem d_TR_line_202 : Dj b_TR_line 202 (.ifCond .ne 8) 8 205 210 := ⟨by decide +kernel, rfl, by decide⟩
theorem d_TR_line_205 : Dc b_TR_line 205 (.iload 18) 2 207 := ⟨by decide +kernel, rfl⟩
theorem d_TR_line_207 : Dj b_TR_line 207 (.ifCond .eq 8) 8 210 215 := ⟨by decide +kernel, rfl, by decide⟩
theorem d_TR_line_210 : Dc b_TR_line 210 (.iload 8) 2 212 := ⟨by decide +kernel, rfl⟩
theorem d_TR_line_212 : Dj b_TR_line 212 (.goto 4) 4 215 216 := ⟨by decide +kernel, rfl, by decide⟩
theorem d_TR_line_215 : Dc b_TR_line 215 (.iconst 0) 1 216 := ⟨by decide +kernel, rfl⟩
theorem d_TR_line_216 : Dc b_TR_line 216 (.iadd) 1 217 := ⟨by decide +kernel, rfl⟩
theorem d_TR_line_217 : Dc b_TR_line 217 (.istore 14) 2 219 := ⟨by decide +kernel, rfl⟩
theorem d_TR_line_219 : Dc b_TR_line 219 (.iload 15) 2 221 := ⟨by decide +kernel, rfl⟩
theorem d_TR_line_221 : Dc b_TR_line 221 (.iload 10) 2 223 := ⟨by decide +kernel, rfl⟩
theorem d_TR_line_223 : Dj b_TR_line 223 (.ifCond .eq 8) 8 226 231 := ⟨by decide +kernel, rfl, by decide⟩
theorem d_TR_line_226 : Dc b_TR_line 226 (.iload 18) 2 228 := ⟨by decide +kernel, rfl⟩
theorem d_TR_line_228 : Dj b_TR_line 228 (.ifCond .eq 8) 8 231 236 := ⟨by decide +kernel, rfl, by decide⟩
theorem d_TR_line_231 : Dc b_TR_line 231 (.iload 9) 2 233 := ⟨by decide +kernel, rfl⟩
theorem d_TR_line_233 : Dj b_TR_line 233 (.goto 4) 4 236 237 := ⟨by decide +kernel, rfl, by decide⟩
theorem d_TR_line_236 : Dc b_TR_line 236 (.iconst 0) 1 237 := ⟨by decide +kernel, rfl⟩
theorem d_TR_line_237 : Dc b_TR_line 237 (.iadd) 1 238 := ⟨by decide +kernel, rfl⟩
theorem d_TR_line_238 : Dc b_TR_line 238 (.istore 15) 2 240 := ⟨by decide +kernel, rfl⟩
theorem d_TR_line_240 : Dc b_TR_line 240 (.iinc 17 1) 3 243 := ⟨by decide +kernel, rfl⟩
theorem d_TR_line_243 : Dj b_TR_line 243 (.goto (-118)) (-118) 246 125 := ⟨by decide +kernel, rfl, by decide⟩
theorem d_TR_line_246 : Dc b_TR_line 246 (.iload 16) 2 248 := ⟨by decide +kernel, rfl⟩
theorem d_TR_line_248 : Dc b_TR_line 248 (.ireturn) 1 249 := ⟨by decide +kernel, rfl⟩
theorem d_Ma_abs_0 : Dc b_Ma_abs 0 (.iload_n 0) 1 1 := ⟨by decide +kernel, rfl⟩
theorem d_Ma_abs_1 : Dj b_Ma_abs 1 (.ifCond .ge 8) 8 4 9 := ⟨by decide +kernel, rfl, by decide⟩
theorem d_Ma_abs_4 : Dc b_Ma_abs 4 (.iload_n 0) 1 5 := ⟨by decide +kernel, rfl⟩
theorem d_Ma_abs_5 : Dc b_Ma_abs 5 (.ineg) 1 6 := ⟨by decide +kernel, rfl⟩
theorem d_Ma_abs_6 : Dj b_Ma_abs 6 (.goto 4) 4 9 10 := ⟨by decide +kernel, rfl, by decide⟩
theorem d_Ma_abs_9 : Dc b_Ma_abs 9 (.iload_n 0) 1 10 := ⟨by decide +kernel, rfl⟩
theorem d_Ma_abs_10 : Dc b_Ma_abs 10 (.ireturn) 1 11 := ⟨by decide +kernel, rfl⟩
theorem d_In_signum_0 : Dc b_In_signum 0 (.iload_n 0) 1 1 := ⟨by decide +kernel, rfl⟩
theorem d_In_signum_1 : Dc b_In_signum 1 (.bipush 31) 2 3 := ⟨by decide +kernel, rfl⟩
theorem d_In_signum_3 : Dc b_In_signum 3 (.ishr) 1 4 := ⟨by decide +kernel, rfl⟩
theorem d_In_signum_4 : Dc b_In_signum 4 (.iload_n 0) 1 5 := ⟨by decide +kernel, rfl⟩
theorem d_In_signum_5 : Dc b_In_signum 5 (.ineg) 1 6 := ⟨by decide +kernel, rfl⟩
theorem d_In_signum_6 : Dc b_In_signum 6 (.bipush 31) 2 8 := ⟨by decide +kernel, rfl⟩
theorem d_In_signum_8 : Dc b_In_signum 8 (.iushr) 1 9 := ⟨by decide +kernel, rfl⟩
theorem d_In_signum_9 : Dc b_In_signum 9 (.ior) 1 10 := ⟨by decide +kernel, rfl⟩
theorem d_In_signum_10 : Dc b_In_signum 10 (.ireturn) 1 11 := ⟨by decide +kernel, rfl⟩
theorem d_TR_set_0 : Dc b_TR_set 0 (.aload_n 0) 1 1 := ⟨by decide +kernel, rfl⟩
theorem d_TR_set_1 : Dc b_TR_set 1 (.iload_n 1) 1 2 := ⟨by decide +kernel, rfl⟩
theorem d_TR_set_2 : Dc b_TR_set 2 (.iload_n 2) 1 3 := ⟨by decide +kernel, rfl⟩
theorem d_TR_set_3 : Dc b_TR_set 3 (.invokevirtual 93) 3 6 := ⟨by decide +kernel, rfl⟩
theorem d_TR_set_6 : Dj b_TR_set 6 (.ifCond .ne 5) 5 9 11 := ⟨by decide +kernel, rfl, by decide⟩
theorem d_TR_set_9 : Dc b_TR_set 9 (.iconst 0) 1 10 := ⟨by decide +kernel, rfl⟩
theorem d_TR_set_10 : Dc b_TR_set 10 (.ireturn) 1 11 := ⟨by decide +kernel, rfl⟩
theorem d_TR_set_11 : Dc b_TR_set 11 (.aload_n 0) 1 12 := ⟨by decide +kernel, rfl⟩
theorem d_TR_set_12 : Dc b_TR_set 12 (.getfield 7) 3 15 := ⟨by decide +kernel, rfl⟩
theorem d_TR_set_15 : Dc b_TR_set 15 (.aload_n 0) 1 16 := ⟨by decide +kernel, rfl⟩
theorem d_TR_set_16 : Dc b_TR_set 16 (.getfield 43) 3 19 := ⟨by decide +kernel, rfl⟩
theorem d_TR_set_19 : Dc b_TR_set 19 (.iload_n 2) 1 20 := ⟨by decide +kernel, rfl⟩
theorem d_TR_set_20 : Dc b_TR_set 20 (.imul) 1 21 := ⟨by decide +kernel, rfl⟩
theorem d_TR_set_21 : Dc b_TR_set 21 (.iload_n 1) 1 22 := ⟨by decide +kernel, rfl⟩
theorem d_TR_set_22 : Dc b_TR_set 22 (.iadd) 1 23 := ⟨by decide +kernel, rfl⟩
theorem d_TR_set_23 : Dc b_TR_set 23 (.iload_n 3) 1 24 := ⟨by decide +kernel, rfl⟩
theorem d_TR_set_24 : Dc b_TR_set 24 (.iastore) 1 25 := ⟨by decide +kernel, rfl⟩
theorem d_TR_set_25 : Dc b_TR_set 25 (.iconst 1) 1 26 := ⟨by decide +kernel, rfl⟩
theorem d_TR_set_26 : Dc b_TR_set 26 (.ireturn) 1 27 := ⟨by decide +kernel, rfl⟩
theorem d_TR_isPixel_0 : Dc b_TR_isPixel 0 (.iload_n 1) 1 1 := ⟨by decide +kernel, rfl⟩
theorem d_TR_isPixel_1 : Dj b_TR_isPixel 1 (.ifCond .lt 27) 27 4 28 := ⟨by decide +kernel, rfl, by decide⟩
theorem d_TR_isPixel_4 : Dc b_TR_isPixel 4 (.iload_n 1) 1 5 := ⟨by decide +kernel, rfl⟩
theorem d_TR_isPixel_5 : Dc b_TR_isPixel 5 (.aload_n 0) 1 6 := ⟨by decide +kernel, rfl⟩
theorem d_TR_isPixel_6 : Dc b_TR_isPixel 6 (.getfield 43) 3 9 := ⟨by decide +kernel, rfl⟩
theorem d_TR_isPixel_9 : Dj b_TR_isPixel 9 (.if_icmp .ge 19) 19 12 28 := ⟨by decide +kernel, rfl, by decide⟩
theorem d_TR_isPixel_12 : Dc b_TR_isPixel 12 (.iload_n 2) 1 13 := ⟨by decide +kernel, rfl⟩
theorem d_TR_isPixel_13 : Dj b_TR_isPixel 13 (.ifCond .lt 15) 15 16 28 := ⟨by decide +kernel, rfl, by decide⟩
theorem d_TR_isPixel_16 : Dc b_TR_isPixel 16 (.iload_n 2) 1 17 := ⟨by decide +kernel, rfl⟩
theorem d_TR_isPixel_17 : Dc b_TR_isPixel 17 (.aload_n 0) 1 18 := ⟨by decide +kernel, rfl⟩
theorem d_TR_isPixel_18 : Dc b_TR_isPixel 18 (.getfield 47) 3 21 := ⟨by decide +kernel, rfl⟩
theorem d_TR_isPixel_21 : Dj b_TR_isPixel 21 (.if_icmp .ge 7) 7 24 28 := ⟨by decide +kernel, rfl, by decide⟩
theorem d_TR_isPixel_24 : Dc b_TR_isPixel 24 (.iconst 1) 1 25 := ⟨by decide +kernel, rfl⟩
theorem d_TR_isPixel_25 : Dj b_TR_isPixel 25 (.goto 4) 4 28 29 := ⟨by decide +kernel, rfl, by decide⟩
theorem d_TR_isPixel_28 : Dc b_TR_isPixel 28 (.iconst 0) 1 29 := ⟨by decide +kernel, rfl⟩
theorem d_TR_isPixel_29 : Dc b_TR_isPixel 29 (.ireturn) 1 30 := ⟨by decide +kernel, rfl⟩
theorem d_TR_fill_0 : Dc b_TR_fill 0 (.aload_n 0) 1 1 := ⟨by decide +kernel, rfl⟩
theorem d_TR_fill_1 : Dc b_TR_fill 1 (.iload_n 1) 1 2 := ⟨by decide +kernel, rfl⟩
theorem d_TR_fill_2 : Dc b_TR_fill 2 (.iload_n 2) 1 3 := ⟨by decide +kernel, rfl⟩
theorem d_TR_fill_3 : Dc b_TR_fill 3 (.invokevirtual 93) 3 6 := ⟨by decide +kernel, rfl⟩
theorem d_TR_fill_6 : Dj b_TR_fill 6 (.ifCond .eq 20) 20 9 26 := ⟨by decide +kernel, rfl, by decide⟩
theorem d_TR_fill_9 : Dc b_TR_fill 9 (.aload_n 0) 1 10 := ⟨by decide +kernel, rfl⟩
theorem d_TR_fill_10 : Dc b_TR_fill 10 (.getfield 7) 3 13 := ⟨by decide +kernel, rfl⟩
theorem d_TR_fill_13 : Dc b_TR_fill 13 (.aload_n 0) 1 14 := ⟨by decide +kernel, rfl⟩
theorem d_TR_fill_14 : Dc b_TR_fill 14 (.getfield 43) 3 17 := ⟨by decide +kernel, rfl⟩
theorem d_TR_fill_17 : Dc b_TR_fill 17 (.iload_n 2) 1 18 := ⟨by decide +kernel, rfl⟩
theorem d_TR_fill_18 : Dc b_TR_fill 18 (.imul) 1 19 := ⟨by decide +kernel, rfl⟩
theorem d_TR_fill_19 : Dc b_TR_fill 19 (.iload_n 1) 1 20 := ⟨by decide +kernel, rfl⟩
theorem d_TR_fill_20 : Dc b_TR_fill 20 (.iadd) 1 21 := ⟨by decide +kernel, rfl⟩
theorem d_TR_fill_21 : Dc b_TR_fill 21 (.iaload) 1 22 := ⟨by decide +kernel, rfl⟩
theorem d_TR_fill_22 : Dc b_TR_fill 22 (.iload_n 3) 1 23 := ⟨by decide +kernel, rfl⟩
theorem d_TR_fill_23 : Dj b_TR_fill 23 (.if_icmp .ne 5) 5 26 28 := ⟨by decide +kernel, rfl, by decide⟩
theorem d_TR_fill_26 : Dc b_TR_fill 26 (.iconst 0) 1 27 := ⟨by decide +kernel, rfl⟩
theorem d_TR_fill_27 : Dc b_TR_fill 27 (.ireturn) 1 28 := ⟨by decide +kernel, rfl⟩
theorem d_TR_fill_28 : Dc b_TR_fill 28 (.aload_n 0) 1 29 := ⟨by decide +kernel, rfl⟩
theorem d_TR_fill_29 : Dc b_TR_fill 29 (.invokevirtual 111) 3 32 := ⟨by decide +kernel, rfl⟩
theorem d_TR_fill_32 : Dc b_TR_fill 32 (.aload_n 0) 1 33 := ⟨by decide +kernel, rfl⟩
theorem d_TR_fill_33 : Dc b_TR_fill 33 (.aload_n 0) 1 34 := ⟨by decide +kernel, rfl⟩
theorem d_TR_fill_34 : Dc b_TR_fill 34 (.getfield 43) 3 37 := ⟨by decide +kernel, rfl⟩
theorem d_TR_fill_37 : Dc b_TR_fill 37 (.iload_n 2) 1 38 := ⟨by decide +kernel, rfl⟩
theorem d_TR_fill_38 : Dc b_TR_fill 38 (.imul) 1 39 := ⟨by decide +kernel, rfl⟩
theorem d_TR_fill_39 : Dc b_TR_fill 39 (.iload_n 1) 1 40 := ⟨by decide +kernel, rfl⟩
theorem d_TR_fill_40 : Dc b_TR_fill 40 (.iadd) 1 41 := ⟨by decide +kernel, rfl⟩
theorem d_TR_fill_41 : Dc b_TR_fill 41 (.invokevirtual 114) 3 44 := ⟨by decide +kernel, rfl⟩
theorem d_TR_fill_44 : Dc b_TR_fill 44 (.istore 4) 2 46 := ⟨by decide +kernel, rfl⟩
theorem d_TR_fill_46 : Dc b_TR_fill 46 (.iconst 0) 1 47 := ⟨by decide +kernel, rfl⟩
theorem d_TR_fill_47 : Dc b_TR_fill 47 (.istore 5) 2 49 := ⟨by decide +kernel, rfl⟩
theorem d_TR_fill_49 : Dc b_TR_fill 49 (.iload 5) 2 51 := ⟨by decide +kernel, rfl⟩
theorem d_TR_fill_51 : Dc b_TR_fill 51 (.aload_n 0) 1 52 := ⟨by decide +kernel, rfl⟩
theorem d_TR_fill_52 : Dc b_TR_fill 52 (.getfield 43) 3 55 := ⟨by decide +kernel, rfl⟩
theorem d_TR_fill_55 : Dc b_TR_fill 55 (.aload_n 0) 1 56 := ⟨by decide +kernel, rfl⟩
theorem d_TR_fill_56 : Dc b_TR_fill 56 (.getfield 47) 3 59 := ⟨by decide +kernel, rfl⟩
theorem d_TR_fill_59 : Dc b_TR_fill 59 (.imul) 1 60 := ⟨by decide +kernel, rfl⟩
theorem d_TR_fill_60 : Dj b_TR_fill 60 (.if_icmp .ge 37) 37 63 97 := ⟨by decide +kernel, rfl, by decide⟩
theorem d_TR_fill_63 : Dc b_TR_fill 63 (.aload_n 0) 1 64 := ⟨by decide +kernel, rfl⟩
theorem d_TR_fill_64 : Dc b_TR_fill 64 (.getfield 7) 3 67 := ⟨by decide +kernel, rfl⟩
theorem d_TR_fill_67 : Dc b_TR_fill 67 (.iload 5) 2 69 := ⟨by decide +kernel, rfl⟩
theorem d_TR_fill_69 : Dc b_TR_fill 69 (.aload_n 0) 1 70 := ⟨by decide +kernel, rfl⟩
theorem d_TR_fill_70 : Dc b_TR_fill 70 (.getfield 21) 3 73 := ⟨by decide +kernel, rfl⟩
theorem d_TR_fill_73 : Dc b_TR_fill 73 (.iload 5) 2 75 := ⟨by decide +kernel, rfl⟩
theorem d_TR_fill_75 : Dc b_TR_fill 75 (.baload) 1 76 := ⟨by decide +kernel, rfl⟩
theorem d_TR_fill_76 : Dj b_TR_fill 76 (.ifCond .eq 7) 7 79 83 := ⟨by decide +kernel, rfl, by decide⟩
theorem d_TR_fill_79 : Dc b_TR_fill 79 (.iload_n 3) 1 80 := ⟨by decide +kernel, rfl⟩
theorem d_TR_fill_80 : Dj b_TR_fill 80 (.goto 10) 10 83 90 := ⟨by decide +kernel, rfl, by decide⟩
theorem d_TR_fill_83 : Dc b_TR_fill 83 (.aload_n 0) 1 84 := ⟨by decide +kernel, rfl⟩
theorem d_TR_fill_84 : Dc b_TR_fill 84 (.getfield 7) 3 87 := ⟨by decide +kernel, rfl⟩
theorem d_TR_fill_87 : Dc b_TR_fill 87 (.iload 5) 2 89 := ⟨by decide +kernel, rfl⟩
theorem d_TR_fill_89 : Dc b_TR_fill 89 (.iaload) 1 90 := ⟨by decide +kernel, rfl⟩
theorem d_TR_fill_90 : Dc b_TR_fill 90 (.iastore) 1 91 := ⟨by decide +kernel, rfl⟩
theorem d_TR_fill_91 : Dc b_TR_fill 91 (.iinc 5 1) 3 94 := ⟨by decide +kernel, rfl⟩
theorem d_TR_fill_94 : Dj b_TR_fill 94 (.goto (-45)) (-45) 97 49 := ⟨by decide +kernel, rfl, by decide⟩
theorem d_TR_fill_97 : Dc b_TR_fill 97 (.iload 4) 2 99 := ⟨by decide +kernel, rfl⟩
theorem d_TR_fill_99 : Dc b_TR_fill 99 (.ireturn) 1 100 := ⟨by decide +kernel, rfl⟩
theorem d_TR_forget_0 : Dc b_TR_forget 0 (.iconst 0) 1 1 := ⟨by decide +kernel, rfl⟩
theorem d_TR_forget_1 : Dc b_TR_forget 1 (.istore_n 1) 1 2 := ⟨by decide +kernel, rfl⟩
theorem d_TR_forget_2 : Dc b_TR_forget 2 (.iload_n 1) 1 3 := ⟨by decide +kernel, rfl⟩
theorem d_TR_forget_3 : Dc b_TR_forget 3 (.aload_n 0) 1 4 := ⟨by decide +kernel, rfl⟩
theorem d_TR_forget_4 : Dc b_TR_forget 4 (.getfield 43) 3 7 := ⟨by decide +kernel, rfl⟩
theorem d_TR_forget_7 : Dc b_TR_forget 7 (.aload_n 0) 1 8 := ⟨by decide +kernel, rfl⟩
theorem d_TR_forget_8 : Dc b_TR_forget 8 (.getfield 47) 3 11 := ⟨by decide +kernel, rfl⟩
theorem d_TR_forget_11 : Dc b_TR_forget 11 (.imul) 1 12 := ⟨by decide +kernel, rfl⟩
theorem d_TR_forget_12 : Dj b_TR_forget 12 (.if_icmp .ge 16) 16 15 28 := ⟨by decide +kernel, rfl, by decide⟩
theorem d_TR_forget_15 : Dc b_TR_forget 15 (.aload_n 0) 1 16 := ⟨by decide +kernel, rfl⟩
theorem d_TR_forget_16 : Dc b_TR_forget 16 (.getfield 21) 3 19 := ⟨by decide +kernel, rfl⟩
theorem d_TR_forget_19 : Dc b_TR_forget 19 (.iload_n 1) 1 20 := ⟨by decide +kernel, rfl⟩
theorem d_TR_forget_20 : Dc b_TR_forget 20 (.iconst 0) 1 21 := ⟨by decide +kernel, rfl⟩
theorem d_TR_forget_21 : Dc b_TR_forget 21 (.bastore) 1 22 := ⟨by decide +kernel, rfl⟩
theorem d_TR_forget_22 : Dc b_TR_forget 22 (.iinc 1 1) 3 25 := ⟨by decide +kernel, rfl⟩
theorem d_TR_forget_25 : Dj b_TR_forget 25 (.goto (-23)) (-23) 28 2 := ⟨by decide +kernel, rfl, by decide⟩
theorem d_TR_forget_28 : Dc b_TR_forget 28 (.return_) 1 29 := ⟨by decide +kernel, rfl⟩
theorem d_TR_spread_0 : Dc b_TR_spread 0 (.aload_n 0) 1 1 := ⟨by decide +kernel, rfl⟩
theorem d_TR_spread_1 : Dc b_TR_spread 1 (.getfield 7) 3 4 := ⟨by decide +kernel, rfl⟩
theorem d_TR_spread_4 : Dc b_TR_spread 4 (.iload_n 1) 1 5 := ⟨by decide +kernel, rfl⟩
theorem d_TR_spread_5 : Dc b_TR_spread 5 (.iaload) 1 6 := ⟨by decide +kernel, rfl⟩
theorem d_TR_spread_6 : Dc b_TR_spread 6 (.istore_n 2) 1 7 := ⟨by decide +kernel, rfl⟩
theorem d_TR_spread_7 : Dc b_TR_spread 7 (.iconst 0) 1 8 := ⟨by decide +kernel, rfl⟩
theorem d_TR_spread_8 : Dc b_TR_spread 8 (.istore_n 3) 1 9 := ⟨by decide +kernel, rfl⟩
theorem d_TR_spread_9 : Dc b_TR_spread 9 (.iconst 0) 1 10 := ⟨by decide +kernel, rfl⟩
theorem d_TR_spread_10 : Dc b_TR_spread 10 (.istore 4) 2 12 := ⟨by decide +kernel, rfl⟩
theorem d_TR_spread_12 : Dc b_TR_spread 12 (.aload_n 0) 1 13 := ⟨by decide +kernel, rfl⟩
theorem d_TR_spread_13 : Dc b_TR_spread 13 (.getfield 21) 3 16 := ⟨by decide +kernel, rfl⟩
theorem d_TR_spread_16 : Dc b_TR_spread 16 (.iload_n 1) 1 17 := ⟨by decide +kernel, rfl⟩
theorem d_TR_spread_17 : Dc b_TR_spread 17 (.iconst 1) 1 18 := ⟨by decide +kernel, rfl⟩
theorem d_TR_spread_18 : Dc b_TR_spread 18 (.bastore) 1 19 := ⟨by decide +kernel, rfl⟩
theorem d_TR_spread_19 : Dc b_TR_spread 19 (.aload_n 0) 1 20 := ⟨by decide +kernel, rfl⟩
theorem d_TR_spread_20 : Dc b_TR_spread 20 (.getfield 17) 3 23 := ⟨by decide +kernel, rfl⟩
theorem d_TR_spread_23 : Dc b_TR_spread 23 (.iload 4) 2 25 := ⟨by decide +kernel, rfl⟩
theorem d_TR_spread_25 : Dc b_TR_spread 25 (.iinc 4 1) 3 28 := ⟨by decide +kernel, rfl⟩
theorem d_TR_spread_28 : Dc b_TR_spread 28 (.iload_n 1) 1 29 := ⟨by decide +kernel, rfl⟩
theorem d_TR_spread_29 : Dc b_TR_spread 29 (.i2s) 1 30 := ⟨by decide +kernel, rfl⟩
theorem d_TR_spread_30 : Dc b_TR_spread 30 (.sastore) 1 31 := ⟨by decide +kernel, rfl⟩
theorem d_TR_spread_31 : Dc b_TR_spread 31 (.iload 4) 2 33 := ⟨by decide +kernel, rfl⟩
theorem d_TR_spread_33 : Dj b_TR_spread 33 (.ifCond .le 135) 135 36 168 := ⟨by decide +kernel, rfl, by decide⟩
theorem d_TR_spread_36 : Dc b_TR_spread 36 (.aload_n 0) 1 37 := ⟨by decide +kernel, rfl⟩
theorem d_TR_spread_37 : Dc b_TR_spread 37 (.getfield 17) 3 40 := ⟨by decide +kernel, rfl⟩
theorem d_TR_spread_40 : Dc b_TR_spread 40 (.iinc 4 (-1)) 3 43 := ⟨by decide +kernel, rfl⟩
theorem d_TR_spread_43 : Dc b_TR_spread 43 (.iload 4) 2 45 := ⟨by decide +kernel, rfl⟩
theorem d_TR_spread_45 : Dc b_TR_spread 45 (.saload) 1 46 := ⟨by decide +kernel, rfl⟩
theorem d_TR_spread_46 : Dc b_TR_spread 46 (.istore 5) 2 48 := ⟨by decide +kernel, rfl⟩
theorem d_TR_spread_48 : Dc b_TR_spread 48 (.iinc 3 1) 3 51 := ⟨by decide +kernel, rfl⟩
theorem d_TR_spread_51 : Dc b_TR_spread 51 (.iload 5) 2 53 := ⟨by decide +kernel, rfl⟩
theorem d_TR_spread_53 : Dc b_TR_spread 53 (.aload_n 0) 1 54 := ⟨by decide +kernel, rfl⟩
theorem d_TR_spread_54 : Dc b_TR_spread 54 (.getfield 43) 3 57 := ⟨by decide +kernel, rfl⟩
theorem d_TR_spread_57 : Dc b_TR_spread 57 (.irem) 1 58 := ⟨by decide +kernel, rfl⟩
theorem d_TR_spread_58 : Dc b_TR_spread 58 (.istore 6) 2 60 := ⟨by decide +kernel, rfl⟩
theorem d_TR_spread_60 : Dc b_TR_spread 60 (.aload_n 0) 1 61 := ⟨by decide +kernel, rfl⟩
theorem d_TR_spread_61 : Dc b_TR_spread 61 (.iload 6) 2 63 := ⟨by decide +kernel, rfl⟩
theorem d_TR_spread_63 : Dj b_TR_spread 63 (.ifCond .le 10) 10 66 73 := ⟨by decide +kernel, rfl, by decide⟩
theorem d_TR_spread_66 : Dc b_TR_spread 66 (.iload 5) 2 68 := ⟨by decide +kernel, rfl⟩
theorem d_TR_spread_68 : Dc b_TR_spread 68 (.iconst 1) 1 69 := ⟨by decide +kernel, rfl⟩
theorem d_TR_spread_69 : Dc b_TR_spread 69 (.isub) 1 70 := ⟨by decide +kernel, rfl⟩
theorem d_TR_spread_70 : Dj b_TR_spread 70 (.goto 4) 4 73 74 := ⟨by decide +kernel, rfl, by decide⟩
theorem d_TR_spread_73 : Dc b_TR_spread 73 (.iconst (-1)) 1 74 := ⟨by decide +kernel, rfl⟩
theorem d_TR_spread_74 : Dc b_TR_spread 74 (.iload_n 2) 1 75 := ⟨by decide +kernel, rfl⟩
theorem d_TR_spread_75 : Dc b_TR_spread 75 (.iload 4) 2 77 := ⟨by decide +kernel, rfl⟩
theorem d_TR_spread_77 : Dc b_TR_spread 77 (.invokevirtual 107) 3 80 := ⟨by decide +kernel, rfl⟩
theorem d_TR_spread_80 : Dc b_TR_spread 80 (.istore 4) 2 82 := ⟨by decide +kernel, rfl⟩
theorem d_TR_spread_82 : Dc b_TR_spread 82 (.aload_n 0) 1 83 := ⟨by decide +kernel, rfl⟩
theorem d_TR_spread_83 : Dc b_TR_spread 83 (.iload 6) 2 85 := ⟨by decide +kernel, rfl⟩
theorem d_TR_spread_85 : Dc b_TR_spread 85 (.aload_n 0) 1 86 := ⟨by decide +kernel, rfl⟩
theorem d_TR_spread_86 : Dc b_TR_spread 86 (.getfield 43) 3 89 := ⟨by decide +kernel, rfl⟩
theorem d_TR_spread_89 : Dc b_TR_spread 89 (.iconst 1) 1 90 := ⟨by decide +kernel, rfl⟩
theorem d_TR_spread_90 : Dc b_TR_spread 90 (.isub) 1 91 := ⟨by decide +kernel, rfl⟩
theorem d_TR_spread_91 : Dj b_TR_spread 91 (.if_icmp .ge 10) 10 94 101 := ⟨by decide +kernel, rfl, by decide⟩
theorem d_TR_spread_94 : Dc b_TR_spread 94 (.iload 5) 2 96 := ⟨by decide +kernel, rfl⟩
theorem d_TR_spread_96 : Dc b_TR_spread 96 (.iconst 1) 1 97 := ⟨by decide +kernel, rfl⟩
theorem d_TR_spread_97 : Dc b_TR_spread 97 (.iadd) 1 98 := ⟨by decide +kernel, rfl⟩
theorem d_TR_spread_98 : Dj b_TR_spread 98 (.goto 4) 4 101 102 := ⟨by decide +kernel, rfl, by decide⟩
theorem d_TR_spread_101 : Dc b_TR_spread 101 (.iconst (-1)) 1 102 := ⟨by decide +kernel, rfl⟩
theorem d_TR_spread_102 : Dc b_TR_spread 102 (.iload_n 2) 1 103 := ⟨by decide +kernel, rfl⟩
theorem d_TR_spread_103 : Dc b_TR_spread 103 (.iload 4) 2 105 := ⟨by decide +kernel, rfl⟩
theorem d_TR_spread_105 : Dc b_TR_spread 105 (.invokevirtual 107) 3 108 := ⟨by decide +kernel, rfl⟩
theorem d_TR_spread_108 : Dc b_TR_spread 108 (.istore 4) 2 110 := ⟨by decide +kernel, rfl⟩
theorem d_TR_spread_110 : Dc b_TR_spread 110 (.aload_n 0) 1 111 := ⟨by decide +kernel, rfl⟩
theorem d_TR_spread_111 : Dc b_TR_spread 111 (.iload 5) 2 113 := ⟨by decide +kernel, rfl⟩
theorem d_TR_spread_113 : Dc b_TR_spread 113 (.aload_n 0) 1 114 := ⟨by decide +kernel, rfl⟩
theorem d_TR_spread_114 : Dc b_TR_spread 114 (.getfield 43) 3 117 := ⟨by decide +kernel, rfl⟩
theorem d_TR_spread_117 : Dc b_TR_spread 117 (.isub) 1 118 := ⟨by decide +kernel, rfl⟩
theorem d_TR_spread_118 : Dc b_TR_spread 118 (.iload_n 2) 1 119 := ⟨by decide +kernel, rfl⟩
theorem d_TR_spread_119 : Dc b_TR_spread 119 (.iload 4) 2 121 := ⟨by decide +kernel, rfl⟩
theorem d_TR_spread_121 : Dc b_TR_spread 121 (.invokevirtual 107) 3 124 := ⟨by decide +kernel, rfl⟩
theorem d_TR_spread_124 : Dc b_TR_spread 124 (.istore 4) 2 126 := ⟨by decide +kernel, rfl⟩
theorem d_TR_spread_126 : Dc b_TR_spread 126 (.aload_n 0) 1 127 := ⟨by decide +kernel, rfl⟩
theorem d_TR_spread_127 : Dc b_TR_spread 127 (.iload 5) 2 129 := ⟨by decide +kernel, rfl⟩
theorem d_TR_spread_129 : Dc b_TR_spread 129 (.aload_n 0) 1 130 := ⟨by decide +kernel, rfl⟩
theorem d_TR_spread_130 : Dc b_TR_spread 130 (.getfield 43) 3 133 := ⟨by decide +kernel, rfl⟩
theorem d_TR_spread_133 : Dc b_TR_spread 133 (.iadd) 1 134 := ⟨by decide +kernel, rfl⟩
theorem d_TR_spread_134 : Dc b_TR_spread 134 (.aload_n 0) 1 135 := ⟨by decide +kernel, rfl⟩
theorem d_TR_spread_135 : Dc b_TR_spread 135 (.getfield 43) 3 138 := ⟨by decide +kernel, rfl⟩
theorem d_TR_spread_138 : Dc b_TR_spread 138 (.aload_n 0) 1 139 := ⟨by decide +kernel, rfl⟩
theorem d_TR_spread_139 : Dc b_TR_spread 139 (.getfield 47) 3 142 := ⟨by decide +kernel, rfl⟩
theorem d_TR_spread_142 : Dc b_TR_spread 142 (.imul) 1 143 := ⟨by decide +kernel, rfl⟩
theorem d_TR_spread_143 : Dj b_TR_spread 143 (.if_icmp .ge 13) 13 146 156 := ⟨by decide +kernel, rfl, by decide⟩
theorem d_TR_spread_146 : Dc b_TR_spread 146 (.iload 5) 2 148 := ⟨by decide +kernel, rfl⟩
theorem d_TR_spread_148 : Dc b_TR_spread 148 (.aload_n 0) 1 149 := ⟨by decide +kernel, rfl⟩
theorem d_TR_spread_149 : Dc b_TR_spread 149 (.getfield 43) 3 152 := ⟨by decide +kernel, rfl⟩
theorem d_TR_spread_152 : Dc b_TR_spread 152 (.iadd) 1 153 := ⟨by decide +kernel, rfl⟩
theorem d_TR_spread_153 : Dj b_TR_spread 153 (.goto 4) 4 156 157 := ⟨by decide +kernel, rfl, by decide⟩
theorem d_TR_spread_156 : Dc b_TR_spread 156 (.iconst (-1)) 1 157 := ⟨by decide +kernel, rfl⟩
theorem d_TR_spread_157 : Dc b_TR_spread 157 (.iload_n 2) 1 158 := ⟨by decide +kernel, rfl⟩
theorem d_TR_spread_158 : Dc b_TR_spread 158 (.iload 4) 2 160 := ⟨by decide +kernel, rfl⟩
theorem d_TR_spread_160 : Dc b_TR_spread 160 (.invokevirtual 107) 3 163 := ⟨by decide +kernel, rfl⟩
theorem d_TR_spread_163 : Dc b_TR_spread 163 (.istore 4) 2 165 := ⟨by decide +kernel, rfl⟩
theorem d_TR_spread_165 : Dj b_TR_spread 165 (.goto (-134)) (-134) 168 31 := ⟨by decide +kernel, rfl, by decide⟩
theorem d_TR_spread_168 : Dc b_TR_spread 168 (.iload_n 3) 1 169 := ⟨by decide +kernel, rfl⟩
theorem d_TR_spread_169 : Dc b_TR_spread 169 (.ireturn) 1 170 := ⟨by decide +kernel, rfl⟩
theorem d_TR_push_0 : Dc b_TR_push 0 (.iload_n 1) 1 1 := ⟨by decide +kernel, rfl⟩
theorem d_TR_push_1 : Dj b_TR_push 1 (.ifCond .lt 22) 22 4 23 := ⟨by decide +kernel, rfl, by decide⟩
theorem d_TR_push_4 : Dc b_TR_push 4 (.aload_n 0) 1 5 := ⟨by decide +kernel, rfl⟩
theorem d_TR_push_5 : Dc b_TR_push 5 (.getfield 21) 3 8 := ⟨by decide +kernel, rfl⟩
theorem d_TR_push_8 : Dc b_TR_push 8 (.iload_n 1) 1 9 := ⟨by decide +kernel, rfl⟩
theorem d_TR_push_9 : Dc b_TR_push 9 (.baload) 1 10 := ⟨by decide +kernel, rfl⟩
theorem d_TR_push_10 : Dj b_TR_push 10 (.ifCond .ne 13) 13 13 23 := ⟨by decide +kernel, rfl, by decide⟩
theorem d_TR_push_13 : Dc b_TR_push 13 (.aload_n 0) 1 14 := ⟨by decide +kernel, rfl⟩
theorem d_TR_push_14 : Dc b_TR_push 14 (.getfield 7) 3 17 := ⟨by decide +kernel, rfl⟩
theorem d_TR_push_17 : Dc b_TR_push 17 (.iload_n 1) 1 18 := ⟨by decide +kernel, rfl⟩
theorem d_TR_push_18 : Dc b_TR_push 18 (.iaload) 1 19 := ⟨by decide +kernel, rfl⟩
theorem d_TR_push_19 : Dc b_TR_push 19 (.iload_n 2) 1 20 := ⟨by decide +kernel, rfl⟩
theorem d_TR_push_20 : Dj b_TR_push 20 (.if_icmp .eq 5) 5 23 25 := ⟨by decide +kernel, rfl, by decide⟩
theorem d_TR_push_23 : Dc b_TR_push 23 (.iload_n 3) 1 24 := ⟨by decide +kernel, rfl⟩
theorem d_TR_push_24 : Dc b_TR_push 24 (.ireturn) 1 25 := ⟨by decide +kernel, rfl⟩
theorem d_TR_push_25 : Dc b_TR_push 25 (.aload_n 0) 1 26 := ⟨by decide +kernel, rfl⟩
theorem d_TR_push_26 : Dc b_TR_push 26 (.getfield 21) 3 29 := ⟨by decide +kernel, rfl⟩
theorem d_TR_push_29 : Dc b_TR_push 29 (.iload_n 1) 1 30 := ⟨by decide +kernel, rfl⟩
theorem d_TR_push_30 : Dc b_TR_push 30 (.iconst 1) 1 31 := ⟨by decide +kernel, rfl⟩
theorem d_TR_push_31 : Dc b_TR_push 31 (.bastore) 1 32 := ⟨by decide +kernel, rfl⟩
theorem d_TR_push_32 : Dc b_TR_push 32 (.aload_n 0) 1 33 := ⟨by decide +kernel, rfl⟩
theorem d_TR_push_33 : Dc b_TR_push 33 (.getfield 17) 3 36 := ⟨by decide +kernel, rfl⟩
theorem d_TR_push_36 : Dc b_TR_push 36 (.iload_n 3) 1 37 := ⟨by decide +kernel, rfl⟩
theorem d_TR_push_37 : Dc b_TR_push 37 (.iload_n 1) 1 38 := ⟨by decide +kernel, rfl⟩
theorem d_TR_push_38 : Dc b_TR_push 38 (.i2s) 1 39 := ⟨by decide +kernel, rfl⟩
theorem d_TR_push_39 : Dc b_TR_push 39 (.sastore) 1 40 := ⟨by decide +kernel, rfl⟩
theorem d_TR_push_40 : Dc b_TR_push 40 (.iload_n 3) 1 41 := ⟨by decide +kernel, rfl⟩
theorem d_TR_push_41 : Dc b_TR_push 41 (.iconst 1) 1 42 := ⟨by decide +kernel, rfl⟩
theorem d_TR_push_42 : Dc b_TR_push 42 (.iadd) 1 43 := ⟨by decide +kernel, rfl⟩
theorem d_TR_push_43 : Dc b_TR_push 43 (.ireturn) 1 44 := ⟨by decide +kernel, rfl⟩
theorem d_TR_pixel_0 : Dc b_TR_pixel 0 (.aload_n 0) 1 1 := ⟨by decide +kernel, rfl⟩
theorem d_TR_pixel_1 : Dc b_TR_pixel 1 (.iload_n 1) 1 2 := ⟨by decide +kernel, rfl⟩
theorem d_TR_pixel_2 : Dc b_TR_pixel 2 (.iload_n 2) 1 3 := ⟨by decide +kernel, rfl⟩
theorem d_TR_pixel_3 : Dc b_TR_pixel 3 (.invokevirtual 93) 3 6 := ⟨by decide +kernel, rfl⟩
theorem d_TR_pixel_6 : Dj b_TR_pixel 6 (.ifCond .eq 19) 19 9 25 := ⟨by decide +kernel, rfl, by decide⟩
theorem d_TR_pixel_9 : Dc b_TR_pixel 9 (.aload_n 0) 1 10 := ⟨by decide +kernel, rfl⟩
theorem d_TR_pixel_10 : Dc b_TR_pixel 10 (.getfield 7) 3 13 := ⟨by decide +kernel, rfl⟩
theorem d_TR_pixel_13 : Dc b_TR_pixel 13 (.aload_n 0) 1 14 := ⟨by decide +kernel, rfl⟩
theorem d_TR_pixel_14 : Dc b_TR_pixel 14 (.getfield 43) 3 17 := ⟨by decide +kernel, rfl⟩
theorem d_TR_pixel_17 : Dc b_TR_pixel 17 (.iload_n 2) 1 18 := ⟨by decide +kernel, rfl⟩
theorem d_TR_pixel_18 : Dc b_TR_pixel 18 (.imul) 1 19 := ⟨by decide +kernel, rfl⟩
theorem d_TR_pixel_19 : Dc b_TR_pixel 19 (.iload_n 1) 1 20 := ⟨by decide +kernel, rfl⟩
theorem d_TR_pixel_20 : Dc b_TR_pixel 20 (.iadd) 1 21 := ⟨by decide +kernel, rfl⟩
theorem d_TR_pixel_21 : Dc b_TR_pixel 21 (.iaload) 1 22 := ⟨by decide +kernel, rfl⟩
theorem d_TR_pixel_22 : Dj b_TR_pixel 22 (.goto 4) 4 25 26 := ⟨by decide +kernel, rfl, by decide⟩
theorem d_TR_pixel_25 : Dc b_TR_pixel 25 (.iconst (-1)) 1 26 := ⟨by decide +kernel, rfl⟩
theorem d_TR_pixel_26 : Dc b_TR_pixel 26 (.ireturn) 1 27 := ⟨by decide +kernel, rfl⟩
theorem d_TR_depthAt_0 : Dc b_TR_depthAt 0 (.aload_n 0) 1 1 := ⟨by decide +kernel, rfl⟩
theorem d_TR_depthAt_1 : Dc b_TR_depthAt 1 (.iload_n 1) 1 2 := ⟨by decide +kernel, rfl⟩
theorem d_TR_depthAt_2 : Dc b_TR_depthAt 2 (.iload_n 2) 1 3 := ⟨by decide +kernel, rfl⟩
theorem d_TR_depthAt_3 : Dc b_TR_depthAt 3 (.invokevirtual 93) 3 6 := ⟨by decide +kernel, rfl⟩
theorem d_TR_depthAt_6 : Dj b_TR_depthAt 6 (.ifCond .eq 19) 19 9 25 := ⟨by decide +kernel, rfl, by decide⟩
theorem d_TR_depthAt_9 : Dc b_TR_depthAt 9 (.aload_n 0) 1 10 := ⟨by decide +kernel, rfl⟩
theorem d_TR_depthAt_10 : Dc b_TR_depthAt 10 (.getfield 13) 3 13 := ⟨by decide +kernel, rfl⟩
theorem d_TR_depthAt_13 : Dc b_TR_depthAt 13 (.aload_n 0) 1 14 := ⟨by decide +kernel, rfl⟩
theorem d_TR_depthAt_14 : Dc b_TR_depthAt 14 (.getfield 43) 3 17 := ⟨by decide +kernel, rfl⟩
theorem d_TR_depthAt_17 : Dc b_TR_depthAt 17 (.iload_n 2) 1 18 := ⟨by decide +kernel, rfl⟩
theorem d_TR_depthAt_18 : Dc b_TR_depthAt 18 (.imul) 1 19 := ⟨by decide +kernel, rfl⟩
theorem d_TR_depthAt_19 : Dc b_TR_depthAt 19 (.iload_n 1) 1 20 := ⟨by decide +kernel, rfl⟩
theorem d_TR_depthAt_20 : Dc b_TR_depthAt 20 (.iadd) 1 21 := ⟨by decide +kernel, rfl⟩
theorem d_TR_depthAt_21 : Dc b_TR_depthAt 21 (.caload) 1 22 := ⟨by decide +kernel, rfl⟩
theorem d_TR_depthAt_22 : Dj b_TR_depthAt 22 (.goto 4) 4 25 26 := ⟨by decide +kernel, rfl, by decide⟩
theorem d_TR_depthAt_25 : Dc b_TR_depthAt 25 (.iconst (-1)) 1 26 := ⟨by decide +kernel, rfl⟩
theorem d_TR_depthAt_26 : Dc b_TR_depthAt 26 (.ireturn) 1 27 := ⟨by decide +kernel, rfl⟩
theorem d_TR_count_0 : Dc b_TR_count 0 (.iconst 0) 1 1 := ⟨by decide +kernel, rfl⟩
theorem d_TR_count_1 : Dc b_TR_count 1 (.istore_n 2) 1 2 := ⟨by decide +kernel, rfl⟩
theorem d_TR_count_2 : Dc b_TR_count 2 (.iconst 0) 1 3 := ⟨by decide +kernel, rfl⟩
theorem d_TR_count_3 : Dc b_TR_count 3 (.istore_n 3) 1 4 := ⟨by decide +kernel, rfl⟩
theorem d_TR_count_4 : Dc b_TR_count 4 (.iload_n 3) 1 5 := ⟨by decide +kernel, rfl⟩
theorem d_TR_count_5 : Dc b_TR_count 5 (.aload_n 0) 1 6 := ⟨by decide +kernel, rfl⟩
theorem d_TR_count_6 : Dc b_TR_count 6 (.getfield 43) 3 9 := ⟨by decide +kernel, rfl⟩
theorem d_TR_count_9 : Dc b_TR_count 9 (.aload_n 0) 1 10 := ⟨by decide +kernel, rfl⟩
theorem d_TR_count_10 : Dc b_TR_count 10 (.getfield 47) 3 13 := ⟨by decide +kernel, rfl⟩
theorem d_TR_count_13 : Dc b_TR_count 13 (.imul) 1 14 := ⟨by decide +kernel, rfl⟩
theorem d_TR_count_14 : Dj b_TR_count 14 (.if_icmp .ge 27) 27 17 41 := ⟨by decide +kernel, rfl, by decide⟩
theorem d_TR_count_17 : Dc b_TR_count 17 (.iload_n 2) 1 18 := ⟨by decide +kernel, rfl⟩
theorem d_TR_count_18 : Dc b_TR_count 18 (.aload_n 0) 1 19 := ⟨by decide +kernel, rfl⟩
theorem d_TR_count_19 : Dc b_TR_count 19 (.getfield 7) 3 22 := ⟨by decide +kernel, rfl⟩
theorem d_TR_count_22 : Dc b_TR_count 22 (.iload_n 3) 1 23 := ⟨by decide +kernel, rfl⟩
theorem d_TR_count_23 : Dc b_TR_count 23 (.iaload) 1 24 := ⟨by decide +kernel, rfl⟩
theorem d_TR_count_24 : Dc b_TR_count 24 (.iload_n 1) 1 25 := ⟨by decide +kernel, rfl⟩
theorem d_TR_count_25 : Dj b_TR_count 25 (.if_icmp .ne 7) 7 28 32 := ⟨by decide +kernel, rfl, by decide⟩
theorem d_TR_count_28 : Dc b_TR_count 28 (.iconst 1) 1 29 := ⟨by decide +kernel, rfl⟩
theorem d_TR_count_29 : Dj b_TR_count 29 (.goto 4) 4 32 33 := ⟨by decide +kernel, rfl, by decide⟩
theorem d_TR_count_32 : Dc b_TR_count 32 (.iconst 0) 1 33 := ⟨by decide +kernel, rfl⟩
theorem d_TR_count_33 : Dc b_TR_count 33 (.iadd) 1 34 := ⟨by decide +kernel, rfl⟩
theorem d_TR_count_34 : Dc b_TR_count 34 (.istore_n 2) 1 35 := ⟨by decide +kernel, rfl⟩
theorem d_TR_count_35 : Dc b_TR_count 35 (.iinc 3 1) 3 38 := ⟨by decide +kernel, rfl⟩
theorem d_TR_count_38 : Dj b_TR_count 38 (.goto (-34)) (-34) 41 4 := ⟨by decide +kernel, rfl, by decide⟩
theorem d_TR_count_41 : Dc b_TR_count 41 (.iload_n 2) 1 42 := ⟨by decide +kernel, rfl⟩
theorem d_TR_count_42 : Dc b_TR_count 42 (.ireturn) 1 43 := ⟨by decide +kernel, rfl⟩
theorem d_TR_pieces_0 : Dc b_TR_pieces 0 (.aload_n 0) 1 1 := ⟨by decide +kernel, rfl⟩
theorem d_TR_pieces_1 : Dc b_TR_pieces 1 (.invokevirtual 111) 3 4 := ⟨by decide +kernel, rfl⟩
theorem d_TR_pieces_4 : Dc b_TR_pieces 4 (.iconst 0) 1 5 := ⟨by decide +kernel, rfl⟩
theorem d_TR_pieces_5 : Dc b_TR_pieces 5 (.istore_n 2) 1 6 := ⟨by decide +kernel, rfl⟩
theorem d_TR_pieces_6 : Dc b_TR_pieces 6 (.iconst 0) 1 7 := ⟨by decide +kernel, rfl⟩
theorem d_TR_pieces_7 : Dc b_TR_pieces 7 (.istore_n 3) 1 8 := ⟨by decide +kernel, rfl⟩
theorem d_TR_pieces_8 : Dc b_TR_pieces 8 (.iload_n 3) 1 9 := ⟨by decide +kernel, rfl⟩
theorem d_TR_pieces_9 : Dc b_TR_pieces 9 (.aload_n 0) 1 10 := ⟨by decide +kernel, rfl⟩
theorem d_TR_pieces_10 : Dc b_TR_pieces 10 (.getfield 43) 3 13 := ⟨by decide +kernel, rfl⟩
theorem d_TR_pieces_13 : Dc b_TR_pieces 13 (.aload_n 0) 1 14 := ⟨by decide +kernel, rfl⟩
theorem d_TR_pieces_14 : Dc b_TR_pieces 14 (.getfield 47) 3 17 := ⟨by decide +kernel, rfl⟩
theorem d_TR_pieces_17 : Dc b_TR_pieces 17 (.imul) 1 18 := ⟨by decide +kernel, rfl⟩
theorem d_TR_pieces_18 : Dj b_TR_pieces 18 (.if_icmp .ge 37) 37 21 55 := ⟨by decide +kernel, rfl, by decide⟩
theorem d_TR_pieces_21 : Dc b_TR_pieces 21 (.aload_n 0) 1 22 := ⟨by decide +kernel, rfl⟩
theorem d_TR_pieces_22 : Dc b_TR_pieces 22 (.getfield 7) 3 25 := ⟨by decide +kernel, rfl⟩
theorem d_TR_pieces_25 : Dc b_TR_pieces 25 (.iload_n 3) 1 26 := ⟨by decide +kernel, rfl⟩
theorem d_TR_pieces_26 : Dc b_TR_pieces 26 (.iaload) 1 27 := ⟨by decide +kernel, rfl⟩
theorem d_TR_pieces_27 : Dc b_TR_pieces 27 (.iload_n 1) 1 28 := ⟨by decide +kernel, rfl⟩
theorem d_TR_pieces_28 : Dj b_TR_pieces 28 (.if_icmp .ne 21) 21 31 49 := ⟨by decide +kernel, rfl, by decide⟩
theorem d_TR_pieces_31 : Dc b_TR_pieces 31 (.aload_n 0) 1 32 := ⟨by decide +kernel, rfl⟩
theorem d_TR_pieces_32 : Dc b_TR_pieces 32 (.getfield 21) 3 35 := ⟨by decide +kernel, rfl⟩
theorem d_TR_pieces_35 : Dc b_TR_pieces 35 (.iload_n 3) 1 36 := ⟨by decide +kernel, rfl⟩
theorem d_TR_pieces_36 : Dc b_TR_pieces 36 (.baload) 1 37 := ⟨by decide +kernel, rfl⟩
theorem d_TR_pieces_37 : Dj b_TR_pieces 37 (.ifCond .ne 12) 12 40 49 := ⟨by decide +kernel, rfl, by decide⟩
theorem d_TR_pieces_40 : Dc b_TR_pieces 40 (.iinc 2 1) 3 43 := ⟨by decide +kernel, rfl⟩
theorem d_TR_pieces_43 : Dc b_TR_pieces 43 (.aload_n 0) 1 44 := ⟨by decide +kernel, rfl⟩
theorem d_TR_pieces_44 : Dc b_TR_pieces 44 (.iload_n 3) 1 45 := ⟨by decide +kernel, rfl⟩
theorem d_TR_pieces_45 : Dc b_TR_pieces 45 (.invokevirtual 114) 3 48 := ⟨by decide +kernel, rfl⟩
theorem d_TR_pieces_48 : Dc b_TR_pieces 48 (.pop) 1 49 := ⟨by decide +kernel, rfl⟩
theorem d_TR_pieces_49 : Dc b_TR_pieces 49 (.iinc 3 1) 3 52 := ⟨by decide +kernel, rfl⟩
theorem d_TR_pieces_52 : Dj b_TR_pieces 52 (.goto (-44)) (-44) 55 8 := ⟨by decide +kernel, rfl, by decide⟩
theorem d_TR_pieces_55 : Dc b_TR_pieces 55 (.iload_n 2) 1 56 := ⟨by decide +kernel, rfl⟩
theorem d_TR_pieces_56 : Dc b_TR_pieces 56 (.ireturn) 1 57 := ⟨by decide +kernel, rfl⟩
theorem d_LW_cell_0 : Dc b_LW_cell 0 (.iload_n 1) 1 1 := ⟨by decide +kernel, rfl⟩
theorem d_LW_cell_1 : Dc b_LW_cell 1 (.aload_n 0) 1 2 := ⟨by decide +kernel, rfl⟩
theorem d_LW_cell_2 : Dc b_LW_cell 2 (.arraylength) 1 3 := ⟨by decide +kernel, rfl⟩
theorem d_LW_cell_3 : Dj b_LW_cell 3 (.if_icmp .ge 9) 9 6 12 := ⟨by decide +kernel, rfl, by decide⟩
theorem d_LW_cell_6 : Dc b_LW_cell 6 (.aload_n 0) 1 7 := ⟨by decide +kernel, rfl⟩
theorem d_LW_cell_7 : Dc b_LW_cell 7 (.iload_n 1) 1 8 := ⟨by decide +kernel, rfl⟩
theorem d_LW_cell_8 : Dc b_LW_cell 8 (.iaload) 1 9 := ⟨by decide +kernel, rfl⟩
theorem d_LW_cell_9 : Dj b_LW_cell 9 (.goto 4) 4 12 13 := ⟨by decide +kernel, rfl, by decide⟩
theorem d_LW_cell_12 : Dc b_LW_cell 12 (.iconst 0) 1 13 := ⟨by decide +kernel, rfl⟩
theorem d_LW_cell_13 : Dc b_LW_cell 13 (.ireturn) 1 14 := ⟨by decide +kernel, rfl⟩
end
section
theorem d_TM_init_0 : Dc b_TM_init 0 (.aload_n 0) 1 1 := ⟨by decide +kernel, rfl⟩
theorem d_TM_init_1 : Dc b_TM_init 1 (.invokespecial 1) 3 4 := ⟨by decide +kernel, rfl⟩
theorem d_TM_init_4 : Dc b_TM_init 4 (.aload_n 0) 1 5 := ⟨by decide +kernel, rfl⟩
theorem d_TM_init_5 : Dc b_TM_init 5 (.sipush 576) 3 8 := ⟨by decide +kernel, rfl⟩
theorem d_TM_init_8 : Dc b_TM_init 8 (.newarray .int) 2 10 := ⟨by decide +kernel, rfl⟩
theorem d_TM_init_10 : Dc b_TM_init 10 (.putfield 7) 3 13 := ⟨by decide +kernel, rfl⟩
theorem d_TM_init_13 : Dc b_TM_init 13 (.aload_n 0) 1 14 := ⟨by decide +kernel, rfl⟩
theorem d_TM_init_14 : Dc b_TM_init 14 (.sipush 576) 3 17 := ⟨by decide +kernel, rfl⟩
theorem d_TM_init_17 : Dc b_TM_init 17 (.newarray .int) 2 19 := ⟨by decide +kernel, rfl⟩
theorem d_TM_init_19 : Dc b_TM_init 19 (.putfield 13) 3 22 := ⟨by decide +kernel, rfl⟩
theorem d_TM_init_22 : Dc b_TM_init 22 (.aload_n 0) 1 23 := ⟨by decide +kernel, rfl⟩
theorem d_TM_init_23 : Dc b_TM_init 23 (.iconst 3) 1 24 := ⟨by decide +kernel, rfl⟩
theorem d_TM_init_24 : Dc b_TM_init 24 (.newarray .int) 2 26 := ⟨by decide +kernel, rfl⟩
theorem d_TM_init_26 : Dc b_TM_init 26 (.putfield 16) 3 29 := ⟨by decide +kernel, rfl⟩
theorem d_TM_init_29 : Dc b_TM_init 29 (.aload_n 0) 1 30 := ⟨by decide +kernel, rfl⟩
theorem d_TM_init_30 : Dc b_TM_init 30 (.iconst 3) 1 31 := ⟨by decide +kernel, rfl⟩
theorem d_TM_init_31 : Dc b_TM_init 31 (.newarray .int) 2 33 := ⟨by decide +kernel, rfl⟩
theorem d_TM_init_33 : Dc b_TM_init 33 (.putfield 19) 3 36 := ⟨by decide +kernel, rfl⟩
theorem d_TM_init_36 : Dc b_TM_init 36 (.aload_n 0) 1 37 := ⟨by decide +kernel, rfl⟩
theorem d_TM_init_37 : Dc b_TM_init 37 (.iconst 3) 1 38 := ⟨by decide +kernel, rfl⟩
theorem d_TM_init_38 : Dc b_TM_init 38 (.newarray .int) 2 40 := ⟨by decide +kernel, rfl⟩
theorem d_TM_init_40 : Dc b_TM_init 40 (.putfield 22) 3 43 := ⟨by decide +kernel, rfl⟩
theorem d_TM_init_43 : Dc b_TM_init 43 (.aload_n 0) 1 44 := ⟨by decide +kernel, rfl⟩
theorem d_TM_init_44 : Dc b_TM_init 44 (.sipush 576) 3 47 := ⟨by decide +kernel, rfl⟩
theorem d_TM_init_47 : Dc b_TM_init 47 (.newarray .boolean) 2 49 := ⟨by decide +kernel, rfl⟩
theorem d_TM_init_49 : Dc b_TM_init 49 (.putfield 25) 3 52 := ⟨by decide +kernel, rfl⟩
theorem d_TM_init_52 : Dc b_TM_init 52 (.aload_n 0) 1 53 := ⟨by decide +kernel, rfl⟩
theorem d_TM_init_53 : Dc b_TM_init 53 (.iload_n 1) 1 54 := ⟨by decide +kernel, rfl⟩
theorem d_TM_init_54 : Dc b_TM_init 54 (.iconst 1) 1 55 := ⟨by decide +kernel, rfl⟩
theorem d_TM_init_55 : Dj b_TM_init 55 (.if_icmp .lt 13) 13 58 68 := ⟨by decide +kernel, rfl, by decide⟩
theorem d_TM_init_58 : Dc b_TM_init 58 (.iload_n 1) 1 59 := ⟨by decide +kernel, rfl⟩
theorem d_TM_init_59 : Dc b_TM_init 59 (.bipush 24) 2 61 := ⟨by decide +kernel, rfl⟩
theorem d_TM_init_61 : Dj b_TM_init 61 (.if_icmp .gt 7) 7 64 68 := ⟨by decide +kernel, rfl, by decide⟩
theorem d_TM_init_64 : Dc b_TM_init 64 (.iload_n 1) 1 65 := ⟨by decide +kernel, rfl⟩
theorem d_TM_init_65 : Dj b_TM_init 65 (.goto 4) 4 68 69 := ⟨by decide +kernel, rfl, by decide⟩
theorem d_TM_init_68 : Dc b_TM_init 68 (.iconst 1) 1 69 := ⟨by decide +kernel, rfl⟩
theorem d_TM_init_69 : Dc b_TM_init 69 (.putfield 29) 3 72 := ⟨by decide +kernel, rfl⟩
theorem d_TM_init_72 : Dc b_TM_init 72 (.aload_n 0) 1 73 := ⟨by decide +kernel, rfl⟩
theorem d_TM_init_73 : Dc b_TM_init 73 (.iload_n 2) 1 74 := ⟨by decide +kernel, rfl⟩
theorem d_TM_init_74 : Dc b_TM_init 74 (.iconst 1) 1 75 := ⟨by decide +kernel, rfl⟩
theorem d_TM_init_75 : Dj b_TM_init 75 (.if_icmp .lt 13) 13 78 88 := ⟨by decide +kernel, rfl, by decide⟩
theorem d_TM_init_78 : Dc b_TM_init 78 (.iload_n 2) 1 79 := ⟨by decide +kernel, rfl⟩
theorem d_TM_init_79 : Dc b_TM_init 79 (.bipush 24) 2 81 := ⟨by decide +kernel, rfl⟩
theorem d_TM_init_81 : Dj b_TM_init 81 (.if_icmp .gt 7) 7 84 88 := ⟨by decide +kernel, rfl, by decide⟩
theorem d_TM_init_84 : Dc b_TM_init 84 (.iload_n 2) 1 85 := ⟨by decide +kernel, rfl⟩
theorem d_TM_init_85 : Dj b_TM_init 85 (.goto 4) 4 88 89 := ⟨by decide +kernel, rfl, by decide⟩
theorem d_TM_init_88 : Dc b_TM_init 88 (.iconst 1) 1 89 := ⟨by decide +kernel, rfl⟩
theorem d_TM_init_89 : Dc b_TM_init 89 (.putfield 33) 3 92 := ⟨by decide +kernel, rfl⟩
theorem d_TM_init_92 : Dc b_TM_init 92 (.return_) 1 93 := ⟨by decide +kernel, rfl⟩
theorem d_TM_clear_0 : Dc b_TM_clear 0 (.iload_n 2) 1 1 := ⟨by decide +kernel, rfl⟩
theorem d_TM_clear_1 : Dj b_TM_clear 1 (.ifCond .lt 9) 9 4 10 := ⟨by decide +kernel, rfl, by decide⟩
theorem d_TM_clear_4 : Dc b_TM_clear 4 (.iload_n 2) 1 5 := ⟨by decide +kernel, rfl⟩
theorem d_TM_clear_5 : Dc b_TM_clear 5 (.ldc 36) 2 7 := ⟨by decide +kernel, rfl⟩
theorem d_TM_clear_7 : Dj b_TM_clear 7 (.if_icmp .le 5) 5 10 12 := ⟨by decide +kernel, rfl, by decide⟩
theorem d_TM_clear_10 : Dc b_TM_clear 10 (.iconst 0) 1 11 := ⟨by decide +kernel, rfl⟩
theorem d_TM_clear_11 : Dc b_TM_clear 11 (.ireturn) 1 12 := ⟨by decide +kernel, rfl⟩
theorem d_TM_clear_12 : Dc b_TM_clear 12 (.iconst 0) 1 13 := ⟨by decide +kernel, rfl⟩
theorem d_TM_clear_13 : Dc b_TM_clear 13 (.istore_n 3) 1 14 := ⟨by decide +kernel, rfl⟩
theorem d_TM_clear_14 : Dc b_TM_clear 14 (.iload_n 3) 1 15 := ⟨by decide +kernel, rfl⟩
theorem d_TM_clear_15 : Dc b_TM_clear 15 (.sipush 576) 3 18 := ⟨by decide +kernel, rfl⟩
theorem d_TM_clear_18 : Dj b_TM_clear 18 (.if_icmp .ge 23) 23 21 41 := ⟨by decide +kernel, rfl, by decide⟩
theorem d_TM_clear_21 : Dc b_TM_clear 21 (.aload_n 0) 1 22 := ⟨by decide +kernel, rfl⟩
theorem d_TM_clear_22 : Dc b_TM_clear 22 (.getfield 7) 3 25 := ⟨by decide +kernel, rfl⟩
theorem d_TM_clear_25 : Dc b_TM_clear 25 (.iload_n 3) 1 26 := ⟨by decide +kernel, rfl⟩
theorem d_TM_clear_26 : Dc b_TM_clear 26 (.iload_n 1) 1 27 := ⟨by decide +kernel, rfl⟩
theorem d_TM_clear_27 : Dc b_TM_clear 27 (.iastore) 1 28 := ⟨by decide +kernel, rfl⟩
theorem d_TM_clear_28 : Dc b_TM_clear 28 (.aload_n 0) 1 29 := ⟨by decide +kernel, rfl⟩
theorem d_TM_clear_29 : Dc b_TM_clear 29 (.getfield 13) 3 32 := ⟨by decide +kernel, rfl⟩
theorem d_TM_clear_32 : Dc b_TM_clear 32 (.iload_n 3) 1 33 := ⟨by decide +kernel, rfl⟩
theorem d_TM_clear_33 : Dc b_TM_clear 33 (.iload_n 2) 1 34 := ⟨by decide +kernel, rfl⟩
theorem d_TM_clear_34 : Dc b_TM_clear 34 (.iastore) 1 35 := ⟨by decide +kernel, rfl⟩
theorem d_TM_clear_35 : Dc b_TM_clear 35 (.iinc 3 1) 3 38 := ⟨by decide +kernel, rfl⟩
theorem d_TM_clear_38 : Dj b_TM_clear 38 (.goto (-24)) (-24) 41 14 := ⟨by decide +kernel, rfl, by decide⟩
theorem d_TM_clear_41 : Dc b_TM_clear 41 (.iconst 1) 1 42 := ⟨by decide +kernel, rfl⟩
theorem d_TM_clear_42 : Dc b_TM_clear 42 (.ireturn) 1 43 := ⟨by decide +kernel, rfl⟩
theorem d_TM_vertex_0 : Dc b_TM_vertex 0 (.iload_n 1) 1 1 := ⟨by decide +kernel, rfl⟩
theorem d_TM_vertex_1 : Dj b_TM_vertex 1 (.ifCond .lt 34) 34 4 35 := ⟨by decide +kernel, rfl, by decide⟩
theorem d_TM_vertex_4 : Dc b_TM_vertex 4 (.iload_n 1) 1 5 := ⟨by decide +kernel, rfl⟩
theorem d_TM_vertex_5 : Dc b_TM_vertex 5 (.iconst 2) 1 6 := ⟨by decide +kernel, rfl⟩
theorem d_TM_vertex_6 : Dj b_TM_vertex 6 (.if_icmp .gt 29) 29 9 35 := ⟨by decide +kernel, rfl, by decide⟩
theorem d_TM_vertex_9 : Dc b_TM_vertex 9 (.iload_n 2) 1 10 := ⟨by decide +kernel, rfl⟩
theorem d_TM_vertex_10 : Dc b_TM_vertex 10 (.invokestatic 37) 3 13 := ⟨by decide +kernel, rfl⟩
theorem d_TM_vertex_13 : Dj b_TM_vertex 13 (.ifCond .ne 22) 22 16 35 := ⟨by decide +kernel, rfl, by decide⟩
theorem d_TM_vertex_16 : Dc b_TM_vertex 16 (.iload_n 3) 1 17 := ⟨by decide +kernel, rfl⟩
theorem d_TM_vertex_17 : Dc b_TM_vertex 17 (.invokestatic 37) 3 20 := ⟨by decide +kernel, rfl⟩
theorem d_TM_vertex_20 : Dj b_TM_vertex 20 (.ifCond .ne 15) 15 23 35 := ⟨by decide +kernel, rfl, by decide⟩
theorem d_TM_vertex_23 : Dc b_TM_vertex 23 (.iload 4) 2 25 := ⟨by decide +kernel, rfl⟩
theorem d_TM_vertex_25 : Dj b_TM_vertex 25 (.ifCond .lt 10) 10 28 35 := ⟨by decide +kernel, rfl, by decide⟩
theorem d_TM_vertex_28 : Dc b_TM_vertex 28 (.iload 4) 2 30 := ⟨by decide +kernel, rfl⟩
theorem d_TM_vertex_30 : Dc b_TM_vertex 30 (.ldc 41) 2 32 := ⟨by decide +kernel, rfl⟩
theorem d_TM_vertex_32 : Dj b_TM_vertex 32 (.if_icmp .le 5) 5 35 37 := ⟨by decide +kernel, rfl, by decide⟩
theorem d_TM_vertex_35 : Dc b_TM_vertex 35 (.iconst 0) 1 36 := ⟨by decide +kernel, rfl⟩
theorem d_TM_vertex_36 : Dc b_TM_vertex 36 (.ireturn) 1 37 := ⟨by decide +kernel, rfl⟩
theorem d_TM_vertex_37 : Dc b_TM_vertex 37 (.aload_n 0) 1 38 := ⟨by decide +kernel, rfl⟩
theorem d_TM_vertex_38 : Dc b_TM_vertex 38 (.getfield 16) 3 41 := ⟨by decide +kernel, rfl⟩
theorem d_TM_vertex_41 : Dc b_TM_vertex 41 (.iload_n 1) 1 42 := ⟨by decide +kernel, rfl⟩
theorem d_TM_vertex_42 : Dc b_TM_vertex 42 (.iload_n 2) 1 43 := ⟨by decide +kernel, rfl⟩
theorem d_TM_vertex_43 : Dc b_TM_vertex 43 (.iastore) 1 44 := ⟨by decide +kernel, rfl⟩
theorem d_TM_vertex_44 : Dc b_TM_vertex 44 (.aload_n 0) 1 45 := ⟨by decide +kernel, rfl⟩
theorem d_TM_vertex_45 : Dc b_TM_vertex 45 (.getfield 19) 3 48 := ⟨by decide +kernel, rfl⟩
theorem d_TM_vertex_48 : Dc b_TM_vertex 48 (.iload_n 1) 1 49 := ⟨by decide +kernel, rfl⟩
theorem d_TM_vertex_49 : Dc b_TM_vertex 49 (.iload_n 3) 1 50 := ⟨by decide +kernel, rfl⟩
theorem d_TM_vertex_50 : Dc b_TM_vertex 50 (.iastore) 1 51 := ⟨by decide +kernel, rfl⟩
theorem d_TM_vertex_51 : Dc b_TM_vertex 51 (.aload_n 0) 1 52 := ⟨by decide +kernel, rfl⟩
theorem d_TM_vertex_52 : Dc b_TM_vertex 52 (.getfield 22) 3 55 := ⟨by decide +kernel, rfl⟩
theorem d_TM_vertex_55 : Dc b_TM_vertex 55 (.iload_n 1) 1 56 := ⟨by decide +kernel, rfl⟩
theorem d_TM_vertex_56 : Dc b_TM_vertex 56 (.iload 4) 2 58 := ⟨by decide +kernel, rfl⟩
theorem d_TM_vertex_58 : Dc b_TM_vertex 58 (.iastore) 1 59 := ⟨by decide +kernel, rfl⟩
theorem d_TM_vertex_59 : Dc b_TM_vertex 59 (.iconst 1) 1 60 := ⟨by decide +kernel, rfl⟩
theorem d_TM_vertex_60 : Dc b_TM_vertex 60 (.ireturn) 1 61 := ⟨by decide +kernel, rfl⟩
theorem d_TM_isFar_0 : Dc b_TM_isFar 0 (.iload_n 0) 1 1 := ⟨by decide +kernel, rfl⟩
theorem d_TM_isFar_1 : Dc b_TM_isFar 1 (.sipush (-16384)) 3 4 := ⟨by decide +kernel, rfl⟩
theorem d_TM_isFar_4 : Dj b_TM_isFar 4 (.if_icmp .lt 10) 10 7 14 := ⟨by decide +kernel, rfl, by decide⟩
theorem d_TM_isFar_7 : Dc b_TM_isFar 7 (.iload_n 0) 1 8 := ⟨by decide +kernel, rfl⟩
theorem d_TM_isFar_8 : Dc b_TM_isFar 8 (.sipush 16384) 3 11 := ⟨by decide +kernel, rfl⟩
theorem d_TM_isFar_11 : Dj b_TM_isFar 11 (.if_icmp .le 7) 7 14 18 := ⟨by decide +kernel, rfl, by decide⟩
theorem d_TM_isFar_14 : Dc b_TM_isFar 14 (.iconst 1) 1 15 := ⟨by decide +kernel, rfl⟩
theorem d_TM_isFar_15 : Dj b_TM_isFar 15 (.goto 4) 4 18 19 := ⟨by decide +kernel, rfl, by decide⟩
theorem d_TM_isFar_18 : Dc b_TM_isFar 18 (.iconst 0) 1 19 := ⟨by decide +kernel, rfl⟩
theorem d_TM_isFar_19 : Dc b_TM_isFar 19 (.ireturn) 1 20 := ⟨by decide +kernel, rfl⟩
theorem d_TM_triangle_0 : Dc b_TM_triangle 0 (.iconst 0) 1 1 := ⟨by decide +kernel, rfl⟩
theorem d_TM_triangle_1 : Dc b_TM_triangle 1 (.istore_n 2) 1 2 := ⟨by decide +kernel, rfl⟩
theorem d_TM_triangle_2 : Dc b_TM_triangle 2 (.iconst 0) 1 3 := ⟨by decide +kernel, rfl⟩
theorem d_TM_triangle_3 : Dc b_TM_triangle 3 (.istore_n 3) 1 4 := ⟨by decide +kernel, rfl⟩
theorem d_TM_triangle_4 : Dc b_TM_triangle 4 (.iload_n 3) 1 5 := ⟨by decide +kernel, rfl⟩
theorem d_TM_triangle_5 : Dc b_TM_triangle 5 (.aload_n 0) 1 6 := ⟨by decide +kernel, rfl⟩
theorem d_TM_triangle_6 : Dc b_TM_triangle 6 (.getfield 33) 3 9 := ⟨by decide +kernel, rfl⟩
theorem d_TM_triangle_9 : Dj b_TM_triangle 9 (.if_icmp .ge 94) 94 12 103 := ⟨by decide +kernel, rfl, by decide⟩
theorem d_TM_triangle_12 : Dc b_TM_triangle 12 (.iconst 0) 1 13 := ⟨by decide +kernel, rfl⟩
theorem d_TM_triangle_13 : Dc b_TM_triangle 13 (.istore 4) 2 15 := ⟨by decide +kernel, rfl⟩
theorem d_TM_triangle_15 : Dc b_TM_triangle 15 (.iload 4) 2 17 := ⟨by decide +kernel, rfl⟩
theorem d_TM_triangle_17 : Dc b_TM_triangle 17 (.aload_n 0) 1 18 := ⟨by decide +kernel, rfl⟩
theorem d_TM_triangle_18 : Dc b_TM_triangle 18 (.getfield 29) 3 21 := ⟨by decide +kernel, rfl⟩
theorem d_TM_triangle_21 : Dj b_TM_triangle 21 (.if_icmp .ge 76) 76 24 97 := ⟨by decide +kernel, rfl, by decide⟩
theorem d_TM_triangle_24 : Dc b_TM_triangle 24 (.aload_n 0) 1 25 := ⟨by decide +kernel, rfl⟩
theorem d_TM_triangle_25 : Dc b_TM_triangle 25 (.iload 4) 2 27 := ⟨by decide +kernel, rfl⟩
theorem d_TM_triangle_27 : Dc b_TM_triangle 27 (.iload_n 3) 1 28 := ⟨by decide +kernel, rfl⟩
theorem d_TM_triangle_28 : Dc b_TM_triangle 28 (.invokevirtual 62) 3 31 := ⟨by decide +kernel, rfl⟩
theorem d_TM_triangle_31 : Dj b_TM_triangle 31 (.ifCond .eq 60) 60 34 91 := ⟨by decide +kernel, rfl, by decide⟩
theorem d_TM_triangle_34 : Dc b_TM_triangle 34 (.aload_n 0) 1 35 := ⟨by decide +kernel, rfl⟩
theorem d_TM_triangle_35 : Dc b_TM_triangle 35 (.getfield 13) 3 38 := ⟨by decide +kernel, rfl⟩
theorem d_TM_triangle_38 : Dc b_TM_triangle 38 (.bipush 24) 2 40 := ⟨by decide +kernel, rfl⟩
theorem d_TM_triangle_40 : Dc b_TM_triangle 40 (.iload_n 3) 1 41 := ⟨by decide +kernel, rfl⟩
theorem d_TM_triangle_41 : Dc b_TM_triangle 41 (.imul) 1 42 := ⟨by decide +kernel, rfl⟩
theorem d_TM_triangle_42 : Dc b_TM_triangle 42 (.iload 4) 2 44 := ⟨by decide +kernel, rfl⟩
theorem d_TM_triangle_44 : Dc b_TM_triangle 44 (.iadd) 1 45 := ⟨by decide +kernel, rfl⟩
theorem d_TM_triangle_45 : Dc b_TM_triangle 45 (.iaload) 1 46 := ⟨by decide +kernel, rfl⟩
theorem d_TM_triangle_46 : Dc b_TM_triangle 46 (.aload_n 0) 1 47 := ⟨by decide +kernel, rfl⟩
theorem d_TM_triangle_47 : Dc b_TM_triangle 47 (.iload 4) 2 49 := ⟨by decide +kernel, rfl⟩
theorem d_TM_triangle_49 : Dc b_TM_triangle 49 (.iload_n 3) 1 50 := ⟨by decide +kernel, rfl⟩
theorem d_TM_triangle_50 : Dc b_TM_triangle 50 (.invokevirtual 65) 3 53 := ⟨by decide +kernel, rfl⟩
theorem d_TM_triangle_53 : Dj b_TM_triangle 53 (.if_icmp .le 38) 38 56 91 := ⟨by decide +kernel, rfl, by decide⟩
theorem d_TM_triangle_56 : Dc b_TM_triangle 56 (.aload_n 0) 1 57 := ⟨by decide +kernel, rfl⟩
theorem d_TM_triangle_57 : Dc b_TM_triangle 57 (.getfield 7) 3 60 := ⟨by decide +kernel, rfl⟩
theorem d_TM_triangle_60 : Dc b_TM_triangle 60 (.bipush 24) 2 62 := ⟨by decide +kernel, rfl⟩
theorem d_TM_triangle_62 : Dc b_TM_triangle 62 (.iload_n 3) 1 63 := ⟨by decide +kernel, rfl⟩
theorem d_TM_triangle_63 : Dc b_TM_triangle 63 (.imul) 1 64 := ⟨by decide +kernel, rfl⟩
theorem d_TM_triangle_64 : Dc b_TM_triangle 64 (.iload 4) 2 66 := ⟨by decide +kernel, rfl⟩
theorem d_TM_triangle_66 : Dc b_TM_triangle 66 (.iadd) 1 67 := ⟨by decide +kernel, rfl⟩
theorem d_TM_triangle_67 : Dc b_TM_triangle 67 (.iload_n 1) 1 68 := ⟨by decide +kernel, rfl⟩
theorem d_TM_triangle_68 : Dc b_TM_triangle 68 (.iastore) 1 69 := ⟨by decide +kernel, rfl⟩
theorem d_TM_triangle_69 : Dc b_TM_triangle 69 (.aload_n 0) 1 70 := ⟨by decide +kernel, rfl⟩
theorem d_TM_triangle_70 : Dc b_TM_triangle 70 (.getfield 13) 3 73 := ⟨by decide +kernel, rfl⟩
theorem d_TM_triangle_73 : Dc b_TM_triangle 73 (.bipush 24) 2 75 := ⟨by decide +kernel, rfl⟩
theorem d_TM_triangle_75 : Dc b_TM_triangle 75 (.iload_n 3) 1 76 := ⟨by decide +kernel, rfl⟩
theorem d_TM_triangle_76 : Dc b_TM_triangle 76 (.imul) 1 77 := ⟨by decide +kernel, rfl⟩
theorem d_TM_triangle_77 : Dc b_TM_triangle 77 (.iload 4) 2 79 := ⟨by decide +kernel, rfl⟩
theorem d_TM_triangle_79 : Dc b_TM_triangle 79 (.iadd) 1 80 := ⟨by decide +kernel, rfl⟩
theorem d_TM_triangle_80 : Dc b_TM_triangle 80 (.aload_n 0) 1 81 := ⟨by decide +kernel, rfl⟩
theorem d_TM_triangle_81 : Dc b_TM_triangle 81 (.iload 4) 2 83 := ⟨by decide +kernel, rfl⟩
theorem d_TM_triangle_83 : Dc b_TM_triangle 83 (.iload_n 3) 1 84 := ⟨by decide +kernel, rfl⟩
theorem d_TM_triangle_84 : Dc b_TM_triangle 84 (.invokevirtual 65) 3 87 := ⟨by decide +kernel, rfl⟩
theorem d_TM_triangle_87 : Dc b_TM_triangle 87 (.iastore) 1 88 := ⟨by decide +kernel, rfl⟩
theorem d_TM_triangle_88 : Dc b_TM_triangle 88 (.iinc 2 1) 3 91 := ⟨by decide +kernel, rfl⟩
theorem d_TM_triangle_91 : Dc b_TM_triangle 91 (.iinc 4 1) 3 94 := ⟨by decide +kernel, rfl⟩
theorem d_TM_triangle_94 : Dj b_TM_triangle 94 (.goto (-79)) (-79) 97 15 := ⟨by decide +kernel, rfl, by decide⟩
theorem d_TM_triangle_97 : Dc b_TM_triangle 97 (.iinc 3 1) 3 100 := ⟨by decide +kernel, rfl⟩
theorem d_TM_triangle_100 : Dj b_TM_triangle 100 (.goto (-96)) (-96) 103 4 := ⟨by decide +kernel, rfl, by decide⟩
theorem d_TM_triangle_103 : Dc b_TM_triangle 103 (.iload_n 2) 1 104 := ⟨by decide +kernel, rfl⟩
theorem d_TM_triangle_104 : Dc b_TM_triangle 104 (.ireturn) 1 105 := ⟨by decide +kernel, rfl⟩
theorem d_TM_isCovered_0 : Dc b_TM_isCovered 0 (.ldc2_w 50) 3 3 := ⟨by decide +kernel, rfl⟩
theorem d_TM_isCovered_3 : Dc b_TM_isCovered 3 (.iload_n 1) 1 4 := ⟨by decide +kernel, rfl⟩
theorem d_TM_isCovered_4 : Dc b_TM_isCovered 4 (.i2l) 1 5 := ⟨by decide +kernel, rfl⟩
theorem d_TM_isCovered_5 : Dc b_TM_isCovered 5 (.lmul) 1 6 := ⟨by decide +kernel, rfl⟩
theorem d_TM_isCovered_6 : Dc b_TM_isCovered 6 (.ldc2_w 52) 3 9 := ⟨by decide +kernel, rfl⟩
theorem d_TM_isCovered_9 : Dc b_TM_isCovered 9 (.ladd) 1 10 := ⟨by decide +kernel, rfl⟩
theorem d_TM_isCovered_10 : Dc b_TM_isCovered 10 (.lstore_n 3) 1 11 := ⟨by decide +kernel, rfl⟩
theorem d_TM_isCovered_11 : Dc b_TM_isCovered 11 (.ldc2_w 50) 3 14 := ⟨by decide +kernel, rfl⟩
theorem d_TM_isCovered_14 : Dc b_TM_isCovered 14 (.iload_n 2) 1 15 := ⟨by decide +kernel, rfl⟩
theorem d_TM_isCovered_15 : Dc b_TM_isCovered 15 (.i2l) 1 16 := ⟨by decide +kernel, rfl⟩
theorem d_TM_isCovered_16 : Dc b_TM_isCovered 16 (.lmul) 1 17 := ⟨by decide +kernel, rfl⟩
theorem d_TM_isCovered_17 : Dc b_TM_isCovered 17 (.ldc2_w 52) 3 20 := ⟨by decide +kernel, rfl⟩
theorem d_TM_isCovered_20 : Dc b_TM_isCovered 20 (.ladd) 1 21 := ⟨by decide +kernel, rfl⟩
theorem d_TM_isCovered_21 : Dc b_TM_isCovered 21 (.lstore 5) 2 23 := ⟨by decide +kernel, rfl⟩
theorem d_TM_isCovered_23 : Dc b_TM_isCovered 23 (.aload_n 0) 1 24 := ⟨by decide +kernel, rfl⟩
theorem d_TM_isCovered_24 : Dc b_TM_isCovered 24 (.invokevirtual 54) 3 27 := ⟨by decide +kernel, rfl⟩
theorem d_TM_isCovered_27 : Dc b_TM_isCovered 27 (.lstore 7) 2 29 := ⟨by decide +kernel, rfl⟩
theorem d_TM_isCovered_29 : Dc b_TM_isCovered 29 (.lload 7) 2 31 := ⟨by decide +kernel, rfl⟩
theorem d_TM_isCovered_31 : Dc b_TM_isCovered 31 (.lconst 0) 1 32 := ⟨by decide +kernel, rfl⟩
theorem d_TM_isCovered_32 : Dc b_TM_isCovered 32 (.lcmp) 1 33 := ⟨by decide +kernel, rfl⟩
theorem d_TM_isCovered_33 : Dj b_TM_isCovered 33 (.ifCond .le 45) 45 36 78 := ⟨by decide +kernel, rfl, by decide⟩
theorem d_TM_isCovered_36 : Dc b_TM_isCovered 36 (.aload_n 0) 1 37 := ⟨by decide +kernel, rfl⟩
theorem d_TM_isCovered_37 : Dc b_TM_isCovered 37 (.iconst 0) 1 38 := ⟨by decide +kernel, rfl⟩
theorem d_TM_isCovered_38 : Dc b_TM_isCovered 38 (.iconst 1) 1 39 := ⟨by decide +kernel, rfl⟩
theorem d_TM_isCovered_39 : Dc b_TM_isCovered 39 (.lload_n 3) 1 40 := ⟨by decide +kernel, rfl⟩
theorem d_TM_isCovered_40 : Dc b_TM_isCovered 40 (.lload 5) 2 42 := ⟨by decide +kernel, rfl⟩
theorem d_TM_isCovered_42 : Dc b_TM_isCovered 42 (.invokevirtual 58) 3 45 := ⟨by decide +kernel, rfl⟩
theorem d_TM_isCovered_45 : Dj b_TM_isCovered 45 (.ifCond .eq 31) 31 48 76 := ⟨by decide +kernel, rfl, by decide⟩
theorem d_TM_isCovered_48 : Dc b_TM_isCovered 48 (.aload_n 0) 1 49 := ⟨by decide +kernel, rfl⟩
theorem d_TM_isCovered_49 : Dc b_TM_isCovered 49 (.iconst 1) 1 50 := ⟨by decide +kernel, rfl⟩
theorem d_TM_isCovered_50 : Dc b_TM_isCovered 50 (.iconst 2) 1 51 := ⟨by decide +kernel, rfl⟩
theorem d_TM_isCovered_51 : Dc b_TM_isCovered 51 (.lload_n 3) 1 52 := ⟨by decide +kernel, rfl⟩
theorem d_TM_isCovered_52 : Dc b_TM_isCovered 52 (.lload 5) 2 54 := ⟨by decide +kernel, rfl⟩
theorem d_TM_isCovered_54 : Dc b_TM_isCovered 54 (.invokevirtual 58) 3 57 := ⟨by decide +kernel, rfl⟩
theorem d_TM_isCovered_57 : Dj b_TM_isCovered 57 (.ifCond .eq 19) 19 60 76 := ⟨by decide +kernel, rfl, by decide⟩
theorem d_TM_isCovered_60 : Dc b_TM_isCovered 60 (.aload_n 0) 1 61 := ⟨by decide +kernel, rfl⟩
theorem d_TM_isCovered_61 : Dc b_TM_isCovered 61 (.iconst 2) 1 62 := ⟨by decide +kernel, rfl⟩
theorem d_TM_isCovered_62 : Dc b_TM_isCovered 62 (.iconst 0) 1 63 := ⟨by decide +kernel, rfl⟩
theorem d_TM_isCovered_63 : Dc b_TM_isCovered 63 (.lload_n 3) 1 64 := ⟨by decide +kernel, rfl⟩
theorem d_TM_isCovered_64 : Dc b_TM_isCovered 64 (.lload 5) 2 66 := ⟨by decide +kernel, rfl⟩
theorem d_TM_isCovered_66 : Dc b_TM_isCovered 66 (.invokevirtual 58) 3 69 := ⟨by decide +kernel, rfl⟩
theorem d_TM_isCovered_69 : Dj b_TM_isCovered 69 (.ifCond .eq 7) 7 72 76 := ⟨by decide +kernel, rfl, by decide⟩
theorem d_TM_isCovered_72 : Dc b_TM_isCovered 72 (.iconst 1) 1 73 := ⟨by decide +kernel, rfl⟩
theorem d_TM_isCovered_73 : Dj b_TM_isCovered 73 (.goto 4) 4 76 77 := ⟨by decide +kernel, rfl, by decide⟩
theorem d_TM_isCovered_76 : Dc b_TM_isCovered 76 (.iconst 0) 1 77 := ⟨by decide +kernel, rfl⟩
theorem d_TM_isCovered_77 : Dc b_TM_isCovered 77 (.ireturn) 1 78 := ⟨by decide +kernel, rfl⟩
theorem d_TM_isCovered_78 : Dc b_TM_isCovered 78 (.lload 7) 2 80 := ⟨by decide +kernel, rfl⟩
theorem d_TM_isCovered_80 : Dc b_TM_isCovered 80 (.lconst 0) 1 81 := ⟨by decide +kernel, rfl⟩
theorem d_TM_isCovered_81 : Dc b_TM_isCovered 81 (.lcmp) 1 82 := ⟨by decide +kernel, rfl⟩
theorem d_TM_isCovered_82 : Dj b_TM_isCovered 82 (.ifCond .ge 43) 43 85 125 := ⟨by decide +kernel, rfl, by decide⟩
theorem d_TM_isCovered_85 : Dc b_TM_isCovered 85 (.aload_n 0) 1 86 := ⟨by decide +kernel, rfl⟩
theorem d_TM_isCovered_86 : Dc b_TM_isCovered 86 (.iconst 0) 1 87 := ⟨by decide +kernel, rfl⟩
theorem d_TM_isCovered_87 : Dc b_TM_isCovered 87 (.iconst 2) 1 88 := ⟨by decide +kernel, rfl⟩
theorem d_TM_isCovered_88 : Dc b_TM_isCovered 88 (.lload_n 3) 1 89 := ⟨by decide +kernel, rfl⟩
theorem d_TM_isCovered_89 : Dc b_TM_isCovered 89 (.lload 5) 2 91 := ⟨by decide +kernel, rfl⟩
theorem d_TM_isCovered_91 : Dc b_TM_isCovered 91 (.invokevirtual 58) 3 94 := ⟨by decide +kernel, rfl⟩
theorem d_TM_isCovered_94 : Dj b_TM_isCovered 94 (.ifCond .eq 31) 31 97 125 := ⟨by decide +kernel, rfl, by decide⟩
theorem d_TM_isCovered_97 : Dc b_TM_isCovered 97 (.aload_n 0) 1 98 := ⟨by decide +kernel, rfl⟩
theorem d_TM_isCovered_98 : Dc b_TM_isCovered 98 (.iconst 2) 1 99 := ⟨by decide +kernel, rfl⟩
theorem d_TM_isCovered_99 : Dc b_TM_isCovered 99 (.iconst 1) 1 100 := ⟨by decide +kernel, rfl⟩
theorem d_TM_isCovered_100 : Dc b_TM_isCovered 100 (.lload_n 3) 1 101 := ⟨by decide +kernel, rfl⟩
theorem d_TM_isCovered_101 : Dc b_TM_isCovered 101 (.lload 5) 2 103 := ⟨by decide +kernel, rfl⟩
theorem d_TM_isCovered_103 : Dc b_TM_isCovered 103 (.invokevirtual 58) 3 106 := ⟨by decide +kernel, rfl⟩
theorem d_TM_isCovered_106 : Dj b_TM_isCovered 106 (.ifCond .eq 19) 19 109 125 := ⟨by decide +kernel, rfl, by decide⟩
theorem d_TM_isCovered_109 : Dc b_TM_isCovered 109 (.aload_n 0) 1 110 := ⟨by decide +kernel, rfl⟩
theorem d_TM_isCovered_110 : Dc b_TM_isCovered 110 (.iconst 1) 1 111 := ⟨by decide +kernel, rfl⟩
theorem d_TM_isCovered_111 : Dc b_TM_isCovered 111 (.iconst 0) 1 112 := ⟨by decide +kernel, rfl⟩
theorem d_TM_isCovered_112 : Dc b_TM_isCovered 112 (.lload_n 3) 1 113 := ⟨by decide +kernel, rfl⟩
theorem d_TM_isCovered_113 : Dc b_TM_isCovered 113 (.lload 5) 2 115 := ⟨by decide +kernel, rfl⟩
theorem d_TM_isCovered_115 : Dc b_TM_isCovered 115 (.invokevirtual 58) 3 118 := ⟨by decide +kernel, rfl⟩
theorem d_TM_isCovered_118 : Dj b_TM_isCovered 118 (.ifCond .eq 7) 7 121 125 := ⟨by decide +kernel, rfl, by decide⟩
theorem d_TM_isCovered_121 : Dc b_TM_isCovered 121 (.iconst 1) 1 122 := ⟨by decide +kernel, rfl⟩
theorem d_TM_isCovered_122 : Dj b_TM_isCovered 122 (.goto 4) 4 125 126 := ⟨by decide +kernel, rfl, by decide⟩
theorem d_TM_isCovered_125 : Dc b_TM_isCovered 125 (.iconst 0) 1 126 := ⟨by decide +kernel, rfl⟩
theorem d_TM_isCovered_126 : Dc b_TM_isCovered 126 (.ireturn) 1 127 := ⟨by decide +kernel, rfl⟩
theorem d_TM_area_0 : Dc b_TM_area 0 (.aload_n 0) 1 1 := ⟨by decide +kernel, rfl⟩
theorem d_TM_area_1 : Dc b_TM_area 1 (.iconst 0) 1 2 := ⟨by decide +kernel, rfl⟩
theorem d_TM_area_2 : Dc b_TM_area 2 (.iconst 1) 1 3 := ⟨by decide +kernel, rfl⟩
theorem d_TM_area_3 : Dc b_TM_area 3 (.aload_n 0) 1 4 := ⟨by decide +kernel, rfl⟩
theorem d_TM_area_4 : Dc b_TM_area 4 (.getfield 16) 3 7 := ⟨by decide +kernel, rfl⟩
theorem d_TM_area_7 : Dc b_TM_area 7 (.iconst 2) 1 8 := ⟨by decide +kernel, rfl⟩
theorem d_TM_area_8 : Dc b_TM_area 8 (.iaload) 1 9 := ⟨by decide +kernel, rfl⟩
theorem d_TM_area_9 : Dc b_TM_area 9 (.i2l) 1 10 := ⟨by decide +kernel, rfl⟩
theorem d_TM_area_10 : Dc b_TM_area 10 (.aload_n 0) 1 11 := ⟨by decide +kernel, rfl⟩
theorem d_TM_area_11 : Dc b_TM_area 11 (.getfield 19) 3 14 := ⟨by decide +kernel, rfl⟩
theorem d_TM_area_14 : Dc b_TM_area 14 (.iconst 2) 1 15 := ⟨by decide +kernel, rfl⟩
theorem d_TM_area_15 : Dc b_TM_area 15 (.iaload) 1 16 := ⟨by decide +kernel, rfl⟩
theorem d_TM_area_16 : Dc b_TM_area 16 (.i2l) 1 17 := ⟨by decide +kernel, rfl⟩
theorem d_TM_area_17 : Dc b_TM_area 17 (.invokevirtual 42) 3 20 := ⟨by decide +kernel, rfl⟩
theorem d_TM_area_20 : Dc b_TM_area 20 (.lreturn) 1 21 := ⟨by decide +kernel, rfl⟩
theorem d_TM_edge_0 : Dc b_TM_edge 0 (.aload_n 0) 1 1 := ⟨by decide +kernel, rfl⟩
theorem d_TM_edge_1 : Dc b_TM_edge 1 (.getfield 16) 3 4 := ⟨by decide +kernel, rfl⟩
theorem d_TM_edge_4 : Dc b_TM_edge 4 (.iload_n 2) 1 5 := ⟨by decide +kernel, rfl⟩
theorem d_TM_edge_5 : Dc b_TM_edge 5 (.iaload) 1 6 := ⟨by decide +kernel, rfl⟩
theorem d_TM_edge_6 : Dc b_TM_edge 6 (.aload_n 0) 1 7 := ⟨by decide +kernel, rfl⟩
theorem d_TM_edge_7 : Dc b_TM_edge 7 (.getfield 16) 3 10 := ⟨by decide +kernel, rfl⟩
theorem d_TM_edge_10 : Dc b_TM_edge 10 (.iload_n 1) 1 11 := ⟨by decide +kernel, rfl⟩
theorem d_TM_edge_11 : Dc b_TM_edge 11 (.iaload) 1 12 := ⟨by decide +kernel, rfl⟩
theorem d_TM_edge_12 : Dc b_TM_edge 12 (.isub) 1 13 := ⟨by decide +kernel, rfl⟩
theorem d_TM_edge_13 : Dc b_TM_edge 13 (.i2l) 1 14 := ⟨by decide +kernel, rfl⟩
theorem d_TM_edge_14 : Dc b_TM_edge 14 (.lload 5) 2 16 := ⟨by decide +kernel, rfl⟩
theorem d_TM_edge_16 : Dc b_TM_edge 16 (.aload_n 0) 1 17 := ⟨by decide +kernel, rfl⟩
theorem d_TM_edge_17 : Dc b_TM_edge 17 (.getfield 19) 3 20 := ⟨by decide +kernel, rfl⟩
theorem d_TM_edge_20 : Dc b_TM_edge 20 (.iload_n 1) 1 21 := ⟨by decide +kernel, rfl⟩
theorem d_TM_edge_21 : Dc b_TM_edge 21 (.iaload) 1 22 := ⟨by decide +kernel, rfl⟩
theorem d_TM_edge_22 : Dc b_TM_edge 22 (.i2l) 1 23 := ⟨by decide +kernel, rfl⟩
theorem d_TM_edge_23 : Dc b_TM_edge 23 (.lsub) 1 24 := ⟨by decide +kernel, rfl⟩
theorem d_TM_edge_24 : Dc b_TM_edge 24 (.lmul) 1 25 := ⟨by decide +kernel, rfl⟩
theorem d_TM_edge_25 : Dc b_TM_edge 25 (.aload_n 0) 1 26 := ⟨by decide +kernel, rfl⟩
theorem d_TM_edge_26 : Dc b_TM_edge 26 (.getfield 19) 3 29 := ⟨by decide +kernel, rfl⟩
theorem d_TM_edge_29 : Dc b_TM_edge 29 (.iload_n 2) 1 30 := ⟨by decide +kernel, rfl⟩
theorem d_TM_edge_30 : Dc b_TM_edge 30 (.iaload) 1 31 := ⟨by decide +kernel, rfl⟩
theorem d_TM_edge_31 : Dc b_TM_edge 31 (.aload_n 0) 1 32 := ⟨by decide +kernel, rfl⟩
theorem d_TM_edge_32 : Dc b_TM_edge 32 (.getfield 19) 3 35 := ⟨by decide +kernel, rfl⟩
theorem d_TM_edge_35 : Dc b_TM_edge 35 (.iload_n 1) 1 36 := ⟨by decide +kernel, rfl⟩
theorem d_TM_edge_36 : Dc b_TM_edge 36 (.iaload) 1 37 := ⟨by decide +kernel, rfl⟩
theorem d_TM_edge_37 : Dc b_TM_edge 37 (.isub) 1 38 := ⟨by decide +kernel, rfl⟩
theorem d_TM_edge_38 : Dc b_TM_edge 38 (.i2l) 1 39 := ⟨by decide +kernel, rfl⟩
theorem d_TM_edge_39 : Dc b_TM_edge 39 (.lload_n 3) 1 40 := ⟨by decide +kernel, rfl⟩
theorem d_TM_edge_40 : Dc b_TM_edge 40 (.aload_n 0) 1 41 := ⟨by decide +kernel, rfl⟩
theorem d_TM_edge_41 : Dc b_TM_edge 41 (.getfield 16) 3 44 := ⟨by decide +kernel, rfl⟩
theorem d_TM_edge_44 : Dc b_TM_edge 44 (.iload_n 1) 1 45 := ⟨by decide +kernel, rfl⟩
theorem d_TM_edge_45 : Dc b_TM_edge 45 (.iaload) 1 46 := ⟨by decide +kernel, rfl⟩
theorem d_TM_edge_46 : Dc b_TM_edge 46 (.i2l) 1 47 := ⟨by decide +kernel, rfl⟩
theorem d_TM_edge_47 : Dc b_TM_edge 47 (.lsub) 1 48 := ⟨by decide +kernel, rfl⟩
theorem d_TM_edge_48 : Dc b_TM_edge 48 (.lmul) 1 49 := ⟨by decide +kernel, rfl⟩
theorem d_TM_edge_49 : Dc b_TM_edge 49 (.lsub) 1 50 := ⟨by decide +kernel, rfl⟩
theorem d_TM_edge_50 : Dc b_TM_edge 50 (.lreturn) 1 51 := ⟨by decide +kernel, rfl⟩
theorem d_TM_isInside_0 : Dc b_TM_isInside 0 (.aload_n 0) 1 1 := ⟨by decide +kernel, rfl⟩
theorem d_TM_isInside_1 : Dc b_TM_isInside 1 (.iload_n 1) 1 2 := ⟨by decide +kernel, rfl⟩
theorem d_TM_isInside_2 : Dc b_TM_isInside 2 (.iload_n 2) 1 3 := ⟨by decide +kernel, rfl⟩
theorem d_TM_isInside_3 : Dc b_TM_isInside 3 (.lload_n 3) 1 4 := ⟨by decide +kernel, rfl⟩
theorem d_TM_isInside_4 : Dc b_TM_isInside 4 (.lload 5) 2 6 := ⟨by decide +kernel, rfl⟩
theorem d_TM_isInside_6 : Dc b_TM_isInside 6 (.invokevirtual 42) 3 9 := ⟨by decide +kernel, rfl⟩
theorem d_TM_isInside_9 : Dc b_TM_isInside 9 (.lstore 7) 2 11 := ⟨by decide +kernel, rfl⟩
theorem d_TM_isInside_11 : Dc b_TM_isInside 11 (.lload 7) 2 13 := ⟨by decide +kernel, rfl⟩
theorem d_TM_isInside_13 : Dc b_TM_isInside 13 (.lconst 0) 1 14 := ⟨by decide +kernel, rfl⟩
theorem d_TM_isInside_14 : Dc b_TM_isInside 14 (.lcmp) 1 15 := ⟨by decide +kernel, rfl⟩
theorem d_TM_isInside_15 : Dj b_TM_isInside 15 (.ifCond .gt 19) 19 18 34 := ⟨by decide +kernel, rfl, by decide⟩
theorem d_TM_isInside_18 : Dc b_TM_isInside 18 (.lload 7) 2 20 := ⟨by decide +kernel, rfl⟩
theorem d_TM_isInside_20 : Dc b_TM_isInside 20 (.lconst 0) 1 21 := ⟨by decide +kernel, rfl⟩
theorem d_TM_isInside_21 : Dc b_TM_isInside 21 (.lcmp) 1 22 := ⟨by decide +kernel, rfl⟩
theorem d_TM_isInside_22 : Dj b_TM_isInside 22 (.ifCond .ne 16) 16 25 38 := ⟨by decide +kernel, rfl, by decide⟩
theorem d_TM_isInside_25 : Dc b_TM_isInside 25 (.aload_n 0) 1 26 := ⟨by decide +kernel, rfl⟩
theorem d_TM_isInside_26 : Dc b_TM_isInside 26 (.iload_n 1) 1 27 := ⟨by decide +kernel, rfl⟩
theorem d_TM_isInside_27 : Dc b_TM_isInside 27 (.iload_n 2) 1 28 := ⟨by decide +kernel, rfl⟩
theorem d_TM_isInside_28 : Dc b_TM_isInside 28 (.invokevirtual 46) 3 31 := ⟨by decide +kernel, rfl⟩
theorem d_TM_isInside_31 : Dj b_TM_isInside 31 (.ifCond .eq 7) 7 34 38 := ⟨by decide +kernel, rfl, by decide⟩
theorem d_TM_isInside_34 : Dc b_TM_isInside 34 (.iconst 1) 1 35 := ⟨by decide +kernel, rfl⟩
theorem d_TM_isInside_35 : Dj b_TM_isInside 35 (.goto 4) 4 38 39 := ⟨by decide +kernel, rfl, by decide⟩
theorem d_TM_isInside_38 : Dc b_TM_isInside 38 (.iconst 0) 1 39 := ⟨by decide +kernel, rfl⟩
theorem d_TM_isInside_39 : Dc b_TM_isInside 39 (.ireturn) 1 40 := ⟨by decide +kernel, rfl⟩
theorem d_TM_isTopOrLeft_0 : Dc b_TM_isTopOrLeft 0 (.aload_n 0) 1 1 := ⟨by decide +kernel, rfl⟩
theorem d_TM_isTopOrLeft_1 : Dc b_TM_isTopOrLeft 1 (.getfield 19) 3 4 := ⟨by decide +kernel, rfl⟩
theorem d_TM_isTopOrLeft_4 : Dc b_TM_isTopOrLeft 4 (.iload_n 1) 1 5 := ⟨by decide +kernel, rfl⟩
theorem d_TM_isTopOrLeft_5 : Dc b_TM_isTopOrLeft 5 (.iaload) 1 6 := ⟨by decide +kernel, rfl⟩
theorem d_TM_isTopOrLeft_6 : Dc b_TM_isTopOrLeft 6 (.aload_n 0) 1 7 := ⟨by decide +kernel, rfl⟩
theorem d_TM_isTopOrLeft_7 : Dc b_TM_isTopOrLeft 7 (.getfield 19) 3 10 := ⟨by decide +kernel, rfl⟩
theorem d_TM_isTopOrLeft_10 : Dc b_TM_isTopOrLeft 10 (.iload_n 2) 1 11 := ⟨by decide +kernel, rfl⟩
theorem d_TM_isTopOrLeft_11 : Dc b_TM_isTopOrLeft 11 (.iaload) 1 12 := ⟨by decide +kernel, rfl⟩
theorem d_TM_isTopOrLeft_12 : Dj b_TM_isTopOrLeft 12 (.if_icmp .ne 18) 18 15 30 := ⟨by decide +kernel, rfl, by decide⟩
theorem d_TM_isTopOrLeft_15 : Dc b_TM_isTopOrLeft 15 (.aload_n 0) 1 16 := ⟨by decide +kernel, rfl⟩
theorem d_TM_isTopOrLeft_16 : Dc b_TM_isTopOrLeft 16 (.getfield 16) 3 19 := ⟨by decide +kernel, rfl⟩
theorem d_TM_isTopOrLeft_19 : Dc b_TM_isTopOrLeft 19 (.iload_n 2) 1 20 := ⟨by decide +kernel, rfl⟩
theorem d_TM_isTopOrLeft_20 : Dc b_TM_isTopOrLeft 20 (.iaload) 1 21 := ⟨by decide +kernel, rfl⟩
theorem d_TM_isTopOrLeft_21 : Dc b_TM_isTopOrLeft 21 (.aload_n 0) 1 22 := ⟨by decide +kernel, rfl⟩
theorem d_TM_isTopOrLeft_22 : Dc b_TM_isTopOrLeft 22 (.getfield 16) 3 25 := ⟨by decide +kernel, rfl⟩
theorem d_TM_isTopOrLeft_25 : Dc b_TM_isTopOrLeft 25 (.iload_n 1) 1 26 := ⟨by decide +kernel, rfl⟩
theorem d_TM_isTopOrLeft_26 : Dc b_TM_isTopOrLeft 26 (.iaload) 1 27 := ⟨by decide +kernel, rfl⟩
theorem d_TM_isTopOrLeft_27 : Dj b_TM_isTopOrLeft 27 (.if_icmp .gt 18) 18 30 45 := ⟨by decide +kernel, rfl, by decide⟩
theorem d_TM_isTopOrLeft_30 : Dc b_TM_isTopOrLeft 30 (.aload_n 0) 1 31 := ⟨by decide +kernel, rfl⟩
theorem d_TM_isTopOrLeft_31 : Dc b_TM_isTopOrLeft 31 (.getfield 19) 3 34 := ⟨by decide +kernel, rfl⟩
theorem d_TM_isTopOrLeft_34 : Dc b_TM_isTopOrLeft 34 (.iload_n 2) 1 35 := ⟨by decide +kernel, rfl⟩
theorem d_TM_isTopOrLeft_35 : Dc b_TM_isTopOrLeft 35 (.iaload) 1 36 := ⟨by decide +kernel, rfl⟩
theorem d_TM_isTopOrLeft_36 : Dc b_TM_isTopOrLeft 36 (.aload_n 0) 1 37 := ⟨by decide +kernel, rfl⟩
theorem d_TM_isTopOrLeft_37 : Dc b_TM_isTopOrLeft 37 (.getfield 19) 3 40 := ⟨by decide +kernel, rfl⟩
theorem d_TM_isTopOrLeft_40 : Dc b_TM_isTopOrLeft 40 (.iload_n 1) 1 41 := ⟨by decide +kernel, rfl⟩
theorem d_TM_isTopOrLeft_41 : Dc b_TM_isTopOrLeft 41 (.iaload) 1 42 := ⟨by decide +kernel, rfl⟩
theorem d_TM_isTopOrLeft_42 : Dj b_TM_isTopOrLeft 42 (.if_icmp .ge 7) 7 45 49 := ⟨by decide +kernel, rfl, by decide⟩
theorem d_TM_isTopOrLeft_45 : Dc b_TM_isTopOrLeft 45 (.iconst 1) 1 46 := ⟨by decide +kernel, rfl⟩
theorem d_TM_isTopOrLeft_46 : Dj b_TM_isTopOrLeft 46 (.goto 4) 4 49 50 := ⟨by decide +kernel, rfl, by decide⟩
theorem d_TM_isTopOrLeft_49 : Dc b_TM_isTopOrLeft 49 (.iconst 0) 1 50 := ⟨by decide +kernel, rfl⟩
theorem d_TM_isTopOrLeft_50 : Dc b_TM_isTopOrLeft 50 (.ireturn) 1 51 := ⟨by decide +kernel, rfl⟩
theorem d_TM_depthOf_0 : Dc b_TM_depthOf 0 (.ldc2_w 50) 3 3 := ⟨by decide +kernel, rfl⟩
theorem d_TM_depthOf_3 : Dc b_TM_depthOf 3 (.iload_n 1) 1 4 := ⟨by decide +kernel, rfl⟩
theorem d_TM_depthOf_4 : Dc b_TM_depthOf 4 (.i2l) 1 5 := ⟨by decide +kernel, rfl⟩
theorem d_TM_depthOf_5 : Dc b_TM_depthOf 5 (.lmul) 1 6 := ⟨by decide +kernel, rfl⟩
theorem d_TM_depthOf_6 : Dc b_TM_depthOf 6 (.ldc2_w 52) 3 9 := ⟨by decide +kernel, rfl⟩
theorem d_TM_depthOf_9 : Dc b_TM_depthOf 9 (.ladd) 1 10 := ⟨by decide +kernel, rfl⟩
theorem d_TM_depthOf_10 : Dc b_TM_depthOf 10 (.lstore_n 3) 1 11 := ⟨by decide +kernel, rfl⟩
theorem d_TM_depthOf_11 : Dc b_TM_depthOf 11 (.ldc2_w 50) 3 14 := ⟨by decide +kernel, rfl⟩
theorem d_TM_depthOf_14 : Dc b_TM_depthOf 14 (.iload_n 2) 1 15 := ⟨by decide +kernel, rfl⟩
theorem d_TM_depthOf_15 : Dc b_TM_depthOf 15 (.i2l) 1 16 := ⟨by decide +kernel, rfl⟩
theorem d_TM_depthOf_16 : Dc b_TM_depthOf 16 (.lmul) 1 17 := ⟨by decide +kernel, rfl⟩
theorem d_TM_depthOf_17 : Dc b_TM_depthOf 17 (.ldc2_w 52) 3 20 := ⟨by decide +kernel, rfl⟩
theorem d_TM_depthOf_20 : Dc b_TM_depthOf 20 (.ladd) 1 21 := ⟨by decide +kernel, rfl⟩
theorem d_TM_depthOf_21 : Dc b_TM_depthOf 21 (.lstore 5) 2 23 := ⟨by decide +kernel, rfl⟩
theorem d_TM_depthOf_23 : Dc b_TM_depthOf 23 (.aload_n 0) 1 24 := ⟨by decide +kernel, rfl⟩
theorem d_TM_depthOf_24 : Dc b_TM_depthOf 24 (.iconst 1) 1 25 := ⟨by decide +kernel, rfl⟩
theorem d_TM_depthOf_25 : Dc b_TM_depthOf 25 (.iconst 2) 1 26 := ⟨by decide +kernel, rfl⟩
theorem d_TM_depthOf_26 : Dc b_TM_depthOf 26 (.lload_n 3) 1 27 := ⟨by decide +kernel, rfl⟩
theorem d_TM_depthOf_27 : Dc b_TM_depthOf 27 (.lload 5) 2 29 := ⟨by decide +kernel, rfl⟩
theorem d_TM_depthOf_29 : Dc b_TM_depthOf 29 (.invokevirtual 42) 3 32 := ⟨by decide +kernel, rfl⟩
theorem d_TM_depthOf_32 : Dc b_TM_depthOf 32 (.aload_n 0) 1 33 := ⟨by decide +kernel, rfl⟩
theorem d_TM_depthOf_33 : Dc b_TM_depthOf 33 (.getfield 22) 3 36 := ⟨by decide +kernel, rfl⟩
theorem d_TM_depthOf_36 : Dc b_TM_depthOf 36 (.iconst 0) 1 37 := ⟨by decide +kernel, rfl⟩
theorem d_TM_depthOf_37 : Dc b_TM_depthOf 37 (.iaload) 1 38 := ⟨by decide +kernel, rfl⟩
theorem d_TM_depthOf_38 : Dc b_TM_depthOf 38 (.i2l) 1 39 := ⟨by decide +kernel, rfl⟩
theorem d_TM_depthOf_39 : Dc b_TM_depthOf 39 (.lmul) 1 40 := ⟨by decide +kernel, rfl⟩
theorem d_TM_depthOf_40 : Dc b_TM_depthOf 40 (.aload_n 0) 1 41 := ⟨by decide +kernel, rfl⟩
theorem d_TM_depthOf_41 : Dc b_TM_depthOf 41 (.iconst 2) 1 42 := ⟨by decide +kernel, rfl⟩
theorem d_TM_depthOf_42 : Dc b_TM_depthOf 42 (.iconst 0) 1 43 := ⟨by decide +kernel, rfl⟩
theorem d_TM_depthOf_43 : Dc b_TM_depthOf 43 (.lload_n 3) 1 44 := ⟨by decide +kernel, rfl⟩
theorem d_TM_depthOf_44 : Dc b_TM_depthOf 44 (.lload 5) 2 46 := ⟨by decide +kernel, rfl⟩
theorem d_TM_depthOf_46 : Dc b_TM_depthOf 46 (.invokevirtual 42) 3 49 := ⟨by decide +kernel, rfl⟩
theorem d_TM_depthOf_49 : Dc b_TM_depthOf 49 (.aload_n 0) 1 50 := ⟨by decide +kernel, rfl⟩
theorem d_TM_depthOf_50 : Dc b_TM_depthOf 50 (.getfield 22) 3 53 := ⟨by decide +kernel, rfl⟩
theorem d_TM_depthOf_53 : Dc b_TM_depthOf 53 (.iconst 1) 1 54 := ⟨by decide +kernel, rfl⟩
theorem d_TM_depthOf_54 : Dc b_TM_depthOf 54 (.iaload) 1 55 := ⟨by decide +kernel, rfl⟩
theorem d_TM_depthOf_55 : Dc b_TM_depthOf 55 (.i2l) 1 56 := ⟨by decide +kernel, rfl⟩
theorem d_TM_depthOf_56 : Dc b_TM_depthOf 56 (.lmul) 1 57 := ⟨by decide +kernel, rfl⟩
theorem d_TM_depthOf_57 : Dc b_TM_depthOf 57 (.ladd) 1 58 := ⟨by decide +kernel, rfl⟩
theorem d_TM_depthOf_58 : Dc b_TM_depthOf 58 (.aload_n 0) 1 59 := ⟨by decide +kernel, rfl⟩
theorem d_TM_depthOf_59 : Dc b_TM_depthOf 59 (.iconst 0) 1 60 := ⟨by decide +kernel, rfl⟩
theorem d_TM_depthOf_60 : Dc b_TM_depthOf 60 (.iconst 1) 1 61 := ⟨by decide +kernel, rfl⟩
theorem d_TM_depthOf_61 : Dc b_TM_depthOf 61 (.lload_n 3) 1 62 := ⟨by decide +kernel, rfl⟩
theorem d_TM_depthOf_62 : Dc b_TM_depthOf 62 (.lload 5) 2 64 := ⟨by decide +kernel, rfl⟩
theorem d_TM_depthOf_64 : Dc b_TM_depthOf 64 (.invokevirtual 42) 3 67 := ⟨by decide +kernel, rfl⟩
theorem d_TM_depthOf_67 : Dc b_TM_depthOf 67 (.aload_n 0) 1 68 := ⟨by decide +kernel, rfl⟩
theorem d_TM_depthOf_68 : Dc b_TM_depthOf 68 (.getfield 22) 3 71 := ⟨by decide +kernel, rfl⟩
theorem d_TM_depthOf_71 : Dc b_TM_depthOf 71 (.iconst 2) 1 72 := ⟨by decide +kernel, rfl⟩
theorem d_TM_depthOf_72 : Dc b_TM_depthOf 72 (.iaload) 1 73 := ⟨by decide +kernel, rfl⟩
theorem d_TM_depthOf_73 : Dc b_TM_depthOf 73 (.i2l) 1 74 := ⟨by decide +kernel, rfl⟩
theorem d_TM_depthOf_74 : Dc b_TM_depthOf 74 (.lmul) 1 75 := ⟨by decide +kernel, rfl⟩
theorem d_TM_depthOf_75 : Dc b_TM_depthOf 75 (.ladd) 1 76 := ⟨by decide +kernel, rfl⟩
theorem d_TM_depthOf_76 : Dc b_TM_depthOf 76 (.lstore 7) 2 78 := ⟨by decide +kernel, rfl⟩
theorem d_TM_depthOf_78 : Dc b_TM_depthOf 78 (.lload 7) 2 80 := ⟨by decide +kernel, rfl⟩
theorem d_TM_depthOf_80 : Dc b_TM_depthOf 80 (.aload_n 0) 1 81 := ⟨by decide +kernel, rfl⟩
theorem d_TM_depthOf_81 : Dc b_TM_depthOf 81 (.invokevirtual 54) 3 84 := ⟨by decide +kernel, rfl⟩
theorem d_TM_depthOf_84 : Dc b_TM_depthOf 84 (.ldiv) 1 85 := ⟨by decide +kernel, rfl⟩
theorem d_TM_depthOf_85 : Dc b_TM_depthOf 85 (.l2i) 1 86 := ⟨by decide +kernel, rfl⟩
theorem d_TM_depthOf_86 : Dc b_TM_depthOf 86 (.ireturn) 1 87 := ⟨by decide +kernel, rfl⟩
theorem d_TM_covers_0 : Dc b_TM_covers 0 (.iload_n 1) 1 1 := ⟨by decide +kernel, rfl⟩
theorem d_TM_covers_1 : Dc b_TM_covers 1 (.sipush (-2000)) 3 4 := ⟨by decide +kernel, rfl⟩
theorem d_TM_covers_4 : Dj b_TM_covers 4 (.if_icmp .lt 28) 28 7 32 := ⟨by decide +kernel, rfl, by decide⟩
theorem d_TM_covers_7 : Dc b_TM_covers 7 (.iload_n 1) 1 8 := ⟨by decide +kernel, rfl⟩
theorem d_TM_covers_8 : Dc b_TM_covers 8 (.sipush 2000) 3 11 := ⟨by decide +kernel, rfl⟩
theorem d_TM_covers_11 : Dj b_TM_covers 11 (.if_icmp .gt 21) 21 14 32 := ⟨by decide +kernel, rfl, by decide⟩
theorem d_TM_covers_14 : Dc b_TM_covers 14 (.iload_n 2) 1 15 := ⟨by decide +kernel, rfl⟩
theorem d_TM_covers_15 : Dc b_TM_covers 15 (.sipush (-2000)) 3 18 := ⟨by decide +kernel, rfl⟩
theorem d_TM_covers_18 : Dj b_TM_covers 18 (.if_icmp .lt 14) 14 21 32 := ⟨by decide +kernel, rfl, by decide⟩
theorem d_TM_covers_21 : Dc b_TM_covers 21 (.iload_n 2) 1 22 := ⟨by decide +kernel, rfl⟩
theorem d_TM_covers_22 : Dc b_TM_covers 22 (.sipush 2000) 3 25 := ⟨by decide +kernel, rfl⟩
theorem d_TM_covers_25 : Dj b_TM_covers 25 (.if_icmp .gt 7) 7 28 32 := ⟨by decide +kernel, rfl, by decide⟩
theorem d_TM_covers_28 : Dc b_TM_covers 28 (.iconst 1) 1 29 := ⟨by decide +kernel, rfl⟩
theorem d_TM_covers_29 : Dj b_TM_covers 29 (.goto 4) 4 32 33 := ⟨by decide +kernel, rfl, by decide⟩
theorem d_TM_covers_32 : Dc b_TM_covers 32 (.iconst 0) 1 33 := ⟨by decide +kernel, rfl⟩
theorem d_TM_covers_33 : Dc b_TM_covers 33 (.istore_n 3) 1 34 := ⟨by decide +kernel, rfl⟩
theorem d_TM_covers_34 : Dc b_TM_covers 34 (.iload_n 3) 1 35 := ⟨by decide +kernel, rfl⟩
theorem d_TM_covers_35 : Dj b_TM_covers 35 (.ifCond .eq 16) 16 38 51 := ⟨by decide +kernel, rfl, by decide⟩
theorem d_TM_covers_38 : Dc b_TM_covers 38 (.aload_n 0) 1 39 := ⟨by decide +kernel, rfl⟩
theorem d_TM_covers_39 : Dc b_TM_covers 39 (.iload_n 1) 1 40 := ⟨by decide +kernel, rfl⟩
theorem d_TM_covers_40 : Dc b_TM_covers 40 (.iload_n 2) 1 41 := ⟨by decide +kernel, rfl⟩
theorem d_TM_covers_41 : Dc b_TM_covers 41 (.invokevirtual 62) 3 44 := ⟨by decide +kernel, rfl⟩
theorem d_TM_covers_44 : Dj b_TM_covers 44 (.ifCond .eq 7) 7 47 51 := ⟨by decide +kernel, rfl, by decide⟩
theorem d_TM_covers_47 : Dc b_TM_covers 47 (.iconst 1) 1 48 := ⟨by decide +kernel, rfl⟩
theorem d_TM_covers_48 : Dj b_TM_covers 48 (.goto 4) 4 51 52 := ⟨by decide +kernel, rfl, by decide⟩
theorem d_TM_covers_51 : Dc b_TM_covers 51 (.iconst 0) 1 52 := ⟨by decide +kernel, rfl⟩
theorem d_TM_covers_52 : Dc b_TM_covers 52 (.ireturn) 1 53 := ⟨by decide +kernel, rfl⟩
theorem d_TM_line_0 : Dc b_TM_line 0 (.iload_n 1) 1 1 := ⟨by decide +kernel, rfl⟩
theorem d_TM_line_1 : Dc b_TM_line 1 (.invokestatic 37) 3 4 := ⟨by decide +kernel, rfl⟩
theorem d_TM_line_4 : Dj b_TM_line 4 (.ifCond .ne 25) 25 7 29 := ⟨by decide +kernel, rfl, by decide⟩
theorem d_TM_line_7 : Dc b_TM_line 7 (.iload_n 2) 1 8 := ⟨by decide +kernel, rfl⟩
theorem d_TM_line_8 : Dc b_TM_line 8 (.invokestatic 37) 3 11 := ⟨by decide +kernel, rfl⟩
theorem d_TM_line_11 : Dj b_TM_line 11 (.ifCond .ne 18) 18 14 29 := ⟨by decide +kernel, rfl, by decide⟩
theorem d_TM_line_14 : Dc b_TM_line 14 (.iload_n 3) 1 15 := ⟨by decide +kernel, rfl⟩
theorem d_TM_line_15 : Dc b_TM_line 15 (.invokestatic 37) 3 18 := ⟨by decide +kernel, rfl⟩
theorem d_TM_line_18 : Dj b_TM_line 18 (.ifCond .ne 11) 11 21 29 := ⟨by decide +kernel, rfl, by decide⟩
theorem d_TM_line_21 : Dc b_TM_line 21 (.iload 4) 2 23 := ⟨by decide +kernel, rfl⟩
theorem d_TM_line_23 : Dc b_TM_line 23 (.invokestatic 37) 3 26 := ⟨by decide +kernel, rfl⟩
theorem d_TM_line_26 : Dj b_TM_line 26 (.ifCond .eq 5) 5 29 31 := ⟨by decide +kernel, rfl, by decide⟩
theorem d_TM_line_29 : Dc b_TM_line 29 (.iconst (-1)) 1 30 := ⟨by decide +kernel, rfl⟩
theorem d_TM_line_30 : Dc b_TM_line 30 (.ireturn) 1 31 := ⟨by decide +kernel, rfl⟩
theorem d_TM_line_31 : Dc b_TM_line 31 (.iload_n 3) 1 32 := ⟨by decide +kernel, rfl⟩
theorem d_TM_line_32 : Dc b_TM_line 32 (.iload_n 1) 1 33 := ⟨by decide +kernel, rfl⟩
theorem d_TM_line_33 : Dj b_TM_line 33 (.if_icmp .ge 9) 9 36 42 := ⟨by decide +kernel, rfl, by decide⟩
theorem d_TM_line_36 : Dc b_TM_line 36 (.iload_n 1) 1 37 := ⟨by decide +kernel, rfl⟩
theorem d_TM_line_37 : Dc b_TM_line 37 (.iload_n 3) 1 38 := ⟨by decide +kernel, rfl⟩
theorem d_TM_line_38 : Dc b_TM_line 38 (.isub) 1 39 := ⟨by decide +kernel, rfl⟩
theorem d_TM_line_39 : Dj b_TM_line 39 (.goto 6) 6 42 45 := ⟨by decide +kernel, rfl, by decide⟩
theorem d_TM_line_42 : Dc b_TM_line 42 (.iload_n 3) 1 43 := ⟨by decide +kernel, rfl⟩
theorem d_TM_line_43 : Dc b_TM_line 43 (.iload_n 1) 1 44 := ⟨by decide +kernel, rfl⟩
theorem d_TM_line_44 : Dc b_TM_line 44 (.isub) 1 45 := ⟨by decide +kernel, rfl⟩
theorem d_TM_line_45 : Dc b_TM_line 45 (.istore 6) 2 47 := ⟨by decide +kernel, rfl⟩
theorem d_TM_line_47 : Dc b_TM_line 47 (.iload 4) 2 49 := ⟨by decide +kernel, rfl⟩
theorem d_TM_line_49 : Dc b_TM_line 49 (.iload_n 2) 1 50 := ⟨by decide +kernel, rfl⟩
theorem d_TM_line_50 : Dj b_TM_line 50 (.if_icmp .ge 10) 10 53 60 := ⟨by decide +kernel, rfl, by decide⟩
theorem d_TM_line_53 : Dc b_TM_line 53 (.iload_n 2) 1 54 := ⟨by decide +kernel, rfl⟩
theorem d_TM_line_54 : Dc b_TM_line 54 (.iload 4) 2 56 := ⟨by decide +kernel, rfl⟩
theorem d_TM_line_56 : Dc b_TM_line 56 (.isub) 1 57 := ⟨by decide +kernel, rfl⟩
theorem d_TM_line_57 : Dj b_TM_line 57 (.goto 7) 7 60 64 := ⟨by decide +kernel, rfl, by decide⟩
theorem d_TM_line_60 : Dc b_TM_line 60 (.iload 4) 2 62 := ⟨by decide +kernel, rfl⟩
theorem d_TM_line_62 : Dc b_TM_line 62 (.iload_n 2) 1 63 := ⟨by decide +kernel, rfl⟩
theorem d_TM_line_63 : Dc b_TM_line 63 (.isub) 1 64 := ⟨by decide +kernel, rfl⟩
theorem d_TM_line_64 : Dc b_TM_line 64 (.istore 7) 2 66 := ⟨by decide +kernel, rfl⟩
theorem d_TM_line_66 : Dc b_TM_line 66 (.iload 6) 2 68 := ⟨by decide +kernel, rfl⟩
theorem d_TM_line_68 : Dc b_TM_line 68 (.iload 7) 2 70 := ⟨by decide +kernel, rfl⟩
theorem d_TM_line_70 : Dj b_TM_line 70 (.if_icmp .lt 7) 7 73 77 := ⟨by decide +kernel, rfl, by decide⟩
theorem d_TM_line_73 : Dc b_TM_line 73 (.iconst 1) 1 74 := ⟨by decide +kernel, rfl⟩
theorem d_TM_line_74 : Dj b_TM_line 74 (.goto 4) 4 77 78 := ⟨by decide +kernel, rfl, by decide⟩
theorem d_TM_line_77 : Dc b_TM_line 77 (.iconst 0) 1 78 := ⟨by decide +kernel, rfl⟩
theorem d_TM_line_78 : Dc b_TM_line 78 (.istore 8) 2 80 := ⟨by decide +kernel, rfl⟩
theorem d_TM_line_80 : Dc b_TM_line 80 (.iload 8) 2 82 := ⟨by decide +kernel, rfl⟩
theorem d_TM_line_82 : Dj b_TM_line 82 (.ifCond .eq 8) 8 85 90 := ⟨by decide +kernel, rfl, by decide⟩
theorem d_TM_line_85 : Dc b_TM_line 85 (.iload 6) 2 87 := ⟨by decide +kernel, rfl⟩
theorem d_TM_line_87 : Dj b_TM_line 87 (.goto 5) 5 90 92 := ⟨by decide +kernel, rfl, by decide⟩
theorem d_TM_line_90 : Dc b_TM_line 90 (.iload 7) 2 92 := ⟨by decide +kernel, rfl⟩
theorem d_TM_line_92 : Dc b_TM_line 92 (.istore 9) 2 94 := ⟨by decide +kernel, rfl⟩
theorem d_TM_line_94 : Dc b_TM_line 94 (.iload 8) 2 96 := ⟨by decide +kernel, rfl⟩
theorem d_TM_line_96 : Dj b_TM_line 96 (.ifCond .eq 8) 8 99 104 := ⟨by decide +kernel, rfl, by decide⟩
theorem d_TM_line_99 : Dc b_TM_line 99 (.iload 7) 2 101 := ⟨by decide +kernel, rfl⟩
theorem d_TM_line_101 : Dj b_TM_line 101 (.goto 5) 5 104 106 := ⟨by decide +kernel, rfl, by decide⟩
theorem d_TM_line_104 : Dc b_TM_line 104 (.iload 6) 2 106 := ⟨by decide +kernel, rfl⟩
theorem d_TM_line_106 : Dc b_TM_line 106 (.istore 10) 2 108 := ⟨by decide +kernel, rfl⟩
theorem d_TM_line_108 : Dc b_TM_line 108 (.iconst 0) 1 109 := ⟨by decide +kernel, rfl⟩
theorem d_TM_line_109 : Dc b_TM_line 109 (.istore 11) 2 111 := ⟨by decide +kernel, rfl⟩
theorem d_TM_line_111 : Dc b_TM_line 111 (.iconst 0) 1 112 := ⟨by decide +kernel, rfl⟩
theorem d_TM_line_112 : Dc b_TM_line 112 (.istore 12) 2 114 := ⟨by decide +kernel, rfl⟩
theorem d_TM_line_114 : Dc b_TM_line 114 (.iload 12) 2 116 := ⟨by decide +kernel, rfl⟩
theorem d_TM_line_116 : Dc b_TM_line 116 (.iload 9) 2 118 := ⟨by decide +kernel, rfl⟩
theorem d_TM_line_118 : Dj b_TM_line 118 (.if_icmp .gt 122) 122 121 240 := ⟨by decide +kernel, rfl, by decide⟩
theorem d_TM_line_121 : Dc b_TM_line 121 (.iload 9) 2 123 := ⟨by decide +kernel, rfl⟩
theorem d_TM_line_123 : Dj b_TM_line 123 (.ifCond .ne 7) 7 126 130 := ⟨by decide +kernel, rfl, by decide⟩
theorem d_TM_line_126 : Dc b_TM_line 126 (.iconst 0) 1 127 := ⟨by decide +kernel, rfl⟩
theorem d_TM_line_127 : Dj b_TM_line 127 (.goto 29) 29 130 156 := ⟨by decide +kernel, rfl, by decide⟩
theorem d_TM_line_130 : Dc b_TM_line 130 (.ldc2_w 69) 3 133 := ⟨by decide +kernel, rfl⟩
theorem d_TM_line_133 : Dc b_TM_line 133 (.iload 12) 2 135 := ⟨by decide +kernel, rfl⟩
theorem d_TM_line_135 : Dc b_TM_line 135 (.i2l) 1 136 := ⟨by decide +kernel, rfl⟩
theorem d_TM_line_136 : Dc b_TM_line 136 (.lmul) 1 137 := ⟨by decide +kernel, rfl⟩
theorem d_TM_line_137 : Dc b_TM_line 137 (.iload 10) 2 139 := ⟨by decide +kernel, rfl⟩
theorem d_TM_line_139 : Dc b_TM_line 139 (.i2l) 1 140 := ⟨by decide +kernel, rfl⟩
theorem d_TM_line_140 : Dc b_TM_line 140 (.lmul) 1 141 := ⟨by decide +kernel, rfl⟩
theorem d_TM_line_141 : Dc b_TM_line 141 (.iload 9) 2 143 := ⟨by decide +kernel, rfl⟩
theorem d_TM_line_143 : Dc b_TM_line 143 (.i2l) 1 144 := ⟨by decide +kernel, rfl⟩
theorem d_TM_line_144 : Dc b_TM_line 144 (.ladd) 1 145 := ⟨by decide +kernel, rfl⟩
theorem d_TM_line_145 : Dc b_TM_line 145 (.lconst 1) 1 146 := ⟨by decide +kernel, rfl⟩
theorem d_TM_line_146 : Dc b_TM_line 146 (.lsub) 1 147 := ⟨by decide +kernel, rfl⟩
theorem d_TM_line_147 : Dc b_TM_line 147 (.ldc2_w 69) 3 150 := ⟨by decide +kernel, rfl⟩
theorem d_TM_line_150 : Dc b_TM_line 150 (.iload 9) 2 152 := ⟨by decide +kernel, rfl⟩
theorem d_TM_line_152 : Dc b_TM_line 152 (.i2l) 1 153 := ⟨by decide +kernel, rfl⟩
theorem d_TM_line_153 : Dc b_TM_line 153 (.lmul) 1 154 := ⟨by decide +kernel, rfl⟩
theorem d_TM_line_154 : Dc b_TM_line 154 (.ldiv) 1 155 := ⟨by decide +kernel, rfl⟩
theorem d_TM_line_155 : Dc b_TM_line 155 (.l2i) 1 156 := ⟨by decide +kernel, rfl⟩
theorem d_TM_line_156 : Dc b_TM_line 156 (.istore 13) 2 158 := ⟨by decide +kernel, rfl⟩
theorem d_TM_line_158 : Dc b_TM_line 158 (.iload_n 1) 1 159 := ⟨by decide +kernel, rfl⟩
theorem d_TM_line_159 : Dc b_TM_line 159 (.iload_n 3) 1 160 := ⟨by decide +kernel, rfl⟩
theorem d_TM_line_160 : Dc b_TM_line 160 (.iload_n 1) 1 161 := ⟨by decide +kernel, rfl⟩
theorem d_TM_line_161 : Dc b_TM_line 161 (.isub) 1 162 := ⟨by decide +kernel, rfl⟩
theorem d_TM_line_162 : Dc b_TM_line 162 (.invokestatic 71) 3 165 := ⟨by decide +kernel, rfl⟩
theorem d_TM_line_165 : Dc b_TM_line 165 (.iload 8) 2 167 := ⟨by decide +kernel, rfl⟩
theorem d_TM_line_167 : Dj b_TM_line 167 (.ifCond .eq 8) 8 170 175 := ⟨by decide +kernel, rfl, by decide⟩
theorem d_TM_line_170 : Dc b_TM_line 170 (.iload 12) 2 172 := ⟨by decide +kernel, rfl⟩
theorem d_TM_line_172 : Dj b_TM_line 172 (.goto 5) 5 175 177 := ⟨by decide +kernel, rfl, by decide⟩
theorem d_TM_line_175 : Dc b_TM_line 175 (.iload 13) 2 177 := ⟨by decide +kernel, rfl⟩
theorem d_TM_line_177 : Dc b_TM_line 177 (.imul) 1 178 := ⟨by decide +kernel, rfl⟩
theorem d_TM_line_178 : Dc b_TM_line 178 (.iadd) 1 179 := ⟨by decide +kernel, rfl⟩
theorem d_TM_line_179 : Dc b_TM_line 179 (.istore 14) 2 181 := ⟨by decide +kernel, rfl⟩
theorem d_TM_line_181 : Dc b_TM_line 181 (.iload_n 2) 1 182 := ⟨by decide +kernel, rfl⟩
theorem d_TM_line_182 : Dc b_TM_line 182 (.iload 4) 2 184 := ⟨by decide +kernel, rfl⟩
theorem d_TM_line_184 : Dc b_TM_line 184 (.iload_n 2) 1 185 := ⟨by decide +kernel, rfl⟩
theorem d_TM_line_185 : Dc b_TM_line 185 (.isub) 1 186 := ⟨by decide +kernel, rfl⟩
theorem d_TM_line_186 : Dc b_TM_line 186 (.invokestatic 71) 3 189 := ⟨by decide +kernel, rfl⟩
theorem d_TM_line_189 : Dc b_TM_line 189 (.iload 8) 2 191 := ⟨by decide +kernel, rfl⟩
theorem d_TM_line_191 : Dj b_TM_line 191 (.ifCond .eq 8) 8 194 199 := ⟨by decide +kernel, rfl, by decide⟩
theorem d_TM_line_194 : Dc b_TM_line 194 (.iload 13) 2 196 := ⟨by decide +kernel, rfl⟩
theorem d_TM_line_196 : Dj b_TM_line 196 (.goto 5) 5 199 201 := ⟨by decide +kernel, rfl, by decide⟩
theorem d_TM_line_199 : Dc b_TM_line 199 (.iload 12) 2 201 := ⟨by decide +kernel, rfl⟩
theorem d_TM_line_201 : Dc b_TM_line 201 (.imul) 1 202 := ⟨by decide +kernel, rfl⟩
theorem d_TM_line_202 : Dc b_TM_line 202 (.iadd) 1 203 := ⟨by decide +kernel, rfl⟩
theorem d_TM_line_203 : Dc b_TM_line 203 (.istore 15) 2 205 := ⟨by decide +kernel, rfl⟩
theorem d_TM_line_205 : Dc b_TM_line 205 (.aload_n 0) 1 206 := ⟨by decide +kernel, rfl⟩
theorem d_TM_line_206 : Dc b_TM_line 206 (.iload 14) 2 208 := ⟨by decide +kernel, rfl⟩
theorem d_TM_line_208 : Dc b_TM_line 208 (.iload 15) 2 210 := ⟨by decide +kernel, rfl⟩
theorem d_TM_line_210 : Dc b_TM_line 210 (.invokevirtual 75) 3 213 := ⟨by decide +kernel, rfl⟩
theorem d_TM_line_213 : Dj b_TM_line 213 (.ifCond .eq 21) 21 216 234 := ⟨by decide +kernel, rfl, by decide⟩
theorem d_TM_line_216 : Dc b_TM_line 216 (.aload_n 0) 1 217 := ⟨by decide +kernel, rfl⟩
theorem d_TM_line_217 : Dc b_TM_line 217 (.getfield 7) 3 220 := ⟨by decide +kernel, rfl⟩
theorem d_TM_line_220 : Dc b_TM_line 220 (.bipush 24) 2 222 := ⟨by decide +kernel, rfl⟩
theorem d_TM_line_222 : Dc b_TM_line 222 (.iload 15) 2 224 := ⟨by decide +kernel, rfl⟩
theorem d_TM_line_224 : Dc b_TM_line 224 (.imul) 1 225 := ⟨by decide +kernel, rfl⟩
theorem d_TM_line_225 : Dc b_TM_line 225 (.iload 14) 2 227 := ⟨by decide +kernel, rfl⟩
theorem d_TM_line_227 : Dc b_TM_line 227 (.iadd) 1 228 := ⟨by decide +kernel, rfl⟩
theorem d_TM_line_228 : Dc b_TM_line 228 (.iload 5) 2 230 := ⟨by decide +kernel, rfl⟩
theorem d_TM_line_230 : Dc b_TM_line 230 (.iastore) 1 231 := ⟨by decide +kernel, rfl⟩
theorem d_TM_line_231 : Dc b_TM_line 231 (.iinc 11 1) 3 234 := ⟨by decide +kernel, rfl⟩
theorem d_TM_line_234 : Dc b_TM_line 234 (.iinc 12 1) 3 237 := ⟨by decide +kernel, rfl⟩
theorem d_TM_line_237 : Dj b_TM_line 237 (.goto (-123)) (-123) 240 114 := ⟨by decide +kernel, rfl, by decide⟩
theorem d_TM_line_240 : Dc b_TM_line 240 (.iload 11) 2 242 := ⟨by decide +kernel, rfl⟩
theorem d_TM_line_242 : Dc b_TM_line 242 (.ireturn) 1 243 := ⟨by decide +kernel, rfl⟩
theorem d_TM_sign_0 : Dc b_TM_sign 0 (.iload_n 0) 1 1 := ⟨by decide +kernel, rfl⟩
theorem d_TM_sign_1 : Dj b_TM_sign 1 (.ifCond .ge 7) 7 4 8 := ⟨by decide +kernel, rfl, by decide⟩
theorem d_TM_sign_4 : Dc b_TM_sign 4 (.iconst (-1)) 1 5 := ⟨by decide +kernel, rfl⟩
theorem d_TM_sign_5 : Dj b_TM_sign 5 (.goto 12) 12 8 17 := ⟨by decide +kernel, rfl, by decide⟩
theorem d_TM_sign_8 : Dc b_TM_sign 8 (.iload_n 0) 1 9 := ⟨by decide +kernel, rfl⟩
theorem d_TM_sign_9 : Dj b_TM_sign 9 (.ifCond .le 7) 7 12 16 := ⟨by decide +kernel, rfl, by decide⟩
theorem d_TM_sign_12 : Dc b_TM_sign 12 (.iconst 1) 1 13 := ⟨by decide +kernel, rfl⟩
theorem d_TM_sign_13 : Dj b_TM_sign 13 (.goto 4) 4 16 17 := ⟨by decide +kernel, rfl, by decide⟩
theorem d_TM_sign_16 : Dc b_TM_sign 16 (.iconst 0) 1 17 := ⟨by decide +kernel, rfl⟩
theorem d_TM_sign_17 : Dc b_TM_sign 17 (.ireturn) 1 18 := ⟨by decide +kernel, rfl⟩
theorem d_TM_isPixel_0 : Dc b_TM_isPixel 0 (.iload_n 1) 1 1 := ⟨by decide +kernel, rfl⟩
theorem d_TM_isPixel_1 : Dj b_TM_isPixel 1 (.ifCond .lt 27) 27 4 28 := ⟨by decide +kernel, rfl, by decide⟩
theorem d_TM_isPixel_4 : Dc b_TM_isPixel 4 (.iload_n 1) 1 5 := ⟨by decide +kernel, rfl⟩
theorem d_TM_isPixel_5 : Dc b_TM_isPixel 5 (.aload_n 0) 1 6 := ⟨by decide +kernel, rfl⟩
theorem d_TM_isPixel_6 : Dc b_TM_isPixel 6 (.getfield 29) 3 9 := ⟨by decide +kernel, rfl⟩
theorem d_TM_isPixel_9 : Dj b_TM_isPixel 9 (.if_icmp .ge 19) 19 12 28 := ⟨by decide +kernel, rfl, by decide⟩
theorem d_TM_isPixel_12 : Dc b_TM_isPixel 12 (.iload_n 2) 1 13 := ⟨by decide +kernel, rfl⟩
theorem d_TM_isPixel_13 : Dj b_TM_isPixel 13 (.ifCond .lt 15) 15 16 28 := ⟨by decide +kernel, rfl, by decide⟩
theorem d_TM_isPixel_16 : Dc b_TM_isPixel 16 (.iload_n 2) 1 17 := ⟨by decide +kernel, rfl⟩
theorem d_TM_isPixel_17 : Dc b_TM_isPixel 17 (.aload_n 0) 1 18 := ⟨by decide +kernel, rfl⟩
theorem d_TM_isPixel_18 : Dc b_TM_isPixel 18 (.getfield 33) 3 21 := ⟨by decide +kernel, rfl⟩
theorem d_TM_isPixel_21 : Dj b_TM_isPixel 21 (.if_icmp .ge 7) 7 24 28 := ⟨by decide +kernel, rfl, by decide⟩
theorem d_TM_isPixel_24 : Dc b_TM_isPixel 24 (.iconst 1) 1 25 := ⟨by decide +kernel, rfl⟩
theorem d_TM_isPixel_25 : Dj b_TM_isPixel 25 (.goto 4) 4 28 29 := ⟨by decide +kernel, rfl, by decide⟩
theorem d_TM_isPixel_28 : Dc b_TM_isPixel 28 (.iconst 0) 1 29 := ⟨by decide +kernel, rfl⟩
theorem d_TM_isPixel_29 : Dc b_TM_isPixel 29 (.ireturn) 1 30 := ⟨by decide +kernel, rfl⟩
theorem d_TM_fill_0 : Dc b_TM_fill 0 (.aload_n 0) 1 1 := ⟨by decide +kernel, rfl⟩
theorem d_TM_fill_1 : Dc b_TM_fill 1 (.iload_n 1) 1 2 := ⟨by decide +kernel, rfl⟩
theorem d_TM_fill_2 : Dc b_TM_fill 2 (.iload_n 2) 1 3 := ⟨by decide +kernel, rfl⟩
theorem d_TM_fill_3 : Dc b_TM_fill 3 (.invokevirtual 75) 3 6 := ⟨by decide +kernel, rfl⟩
theorem d_TM_fill_6 : Dj b_TM_fill 6 (.ifCond .eq 18) 18 9 24 := ⟨by decide +kernel, rfl, by decide⟩
theorem d_TM_fill_9 : Dc b_TM_fill 9 (.aload_n 0) 1 10 := ⟨by decide +kernel, rfl⟩
theorem d_TM_fill_10 : Dc b_TM_fill 10 (.getfield 7) 3 13 := ⟨by decide +kernel, rfl⟩
theorem d_TM_fill_13 : Dc b_TM_fill 13 (.bipush 24) 2 15 := ⟨by decide +kernel, rfl⟩
theorem d_TM_fill_15 : Dc b_TM_fill 15 (.iload_n 2) 1 16 := ⟨by decide +kernel, rfl⟩
theorem d_TM_fill_16 : Dc b_TM_fill 16 (.imul) 1 17 := ⟨by decide +kernel, rfl⟩
theorem d_TM_fill_17 : Dc b_TM_fill 17 (.iload_n 1) 1 18 := ⟨by decide +kernel, rfl⟩
theorem d_TM_fill_18 : Dc b_TM_fill 18 (.iadd) 1 19 := ⟨by decide +kernel, rfl⟩
theorem d_TM_fill_19 : Dc b_TM_fill 19 (.iaload) 1 20 := ⟨by decide +kernel, rfl⟩
theorem d_TM_fill_20 : Dc b_TM_fill 20 (.iload_n 3) 1 21 := ⟨by decide +kernel, rfl⟩
theorem d_TM_fill_21 : Dj b_TM_fill 21 (.if_icmp .ne 5) 5 24 26 := ⟨by decide +kernel, rfl, by decide⟩
theorem d_TM_fill_24 : Dc b_TM_fill 24 (.iconst 0) 1 25 := ⟨by decide +kernel, rfl⟩
theorem d_TM_fill_25 : Dc b_TM_fill 25 (.ireturn) 1 26 := ⟨by decide +kernel, rfl⟩
theorem d_TM_fill_26 : Dc b_TM_fill 26 (.aload_n 0) 1 27 := ⟨by decide +kernel, rfl⟩
theorem d_TM_fill_27 : Dc b_TM_fill 27 (.invokevirtual 78) 3 30 := ⟨by decide +kernel, rfl⟩
theorem d_TM_fill_30 : Dc b_TM_fill 30 (.aload_n 0) 1 31 := ⟨by decide +kernel, rfl⟩
theorem d_TM_fill_31 : Dc b_TM_fill 31 (.iload_n 1) 1 32 := ⟨by decide +kernel, rfl⟩
theorem d_TM_fill_32 : Dc b_TM_fill 32 (.iload_n 2) 1 33 := ⟨by decide +kernel, rfl⟩
theorem d_TM_fill_33 : Dc b_TM_fill 33 (.invokevirtual 81) 3 36 := ⟨by decide +kernel, rfl⟩
theorem d_TM_fill_36 : Dc b_TM_fill 36 (.istore 4) 2 38 := ⟨by decide +kernel, rfl⟩
theorem d_TM_fill_38 : Dc b_TM_fill 38 (.iconst 0) 1 39 := ⟨by decide +kernel, rfl⟩
theorem d_TM_fill_39 : Dc b_TM_fill 39 (.istore 5) 2 41 := ⟨by decide +kernel, rfl⟩
theorem d_TM_fill_41 : Dc b_TM_fill 41 (.iload 5) 2 43 := ⟨by decide +kernel, rfl⟩
theorem d_TM_fill_43 : Dc b_TM_fill 43 (.sipush 576) 3 46 := ⟨by decide +kernel, rfl⟩
theorem d_TM_fill_46 : Dj b_TM_fill 46 (.if_icmp .ge 37) 37 49 83 := ⟨by decide +kernel, rfl, by decide⟩
theorem d_TM_fill_49 : Dc b_TM_fill 49 (.aload_n 0) 1 50 := ⟨by decide +kernel, rfl⟩
theorem d_TM_fill_50 : Dc b_TM_fill 50 (.getfield 7) 3 53 := ⟨by decide +kernel, rfl⟩
theorem d_TM_fill_53 : Dc b_TM_fill 53 (.iload 5) 2 55 := ⟨by decide +kernel, rfl⟩
theorem d_TM_fill_55 : Dc b_TM_fill 55 (.aload_n 0) 1 56 := ⟨by decide +kernel, rfl⟩
theorem d_TM_fill_56 : Dc b_TM_fill 56 (.getfield 25) 3 59 := ⟨by decide +kernel, rfl⟩
theorem d_TM_fill_59 : Dc b_TM_fill 59 (.iload 5) 2 61 := ⟨by decide +kernel, rfl⟩
theorem d_TM_fill_61 : Dc b_TM_fill 61 (.baload) 1 62 := ⟨by decide +kernel, rfl⟩
theorem d_TM_fill_62 : Dj b_TM_fill 62 (.ifCond .eq 7) 7 65 69 := ⟨by decide +kernel, rfl, by decide⟩
theorem d_TM_fill_65 : Dc b_TM_fill 65 (.iload_n 3) 1 66 := ⟨by decide +kernel, rfl⟩
theorem d_TM_fill_66 : Dj b_TM_fill 66 (.goto 10) 10 69 76 := ⟨by decide +kernel, rfl, by decide⟩
theorem d_TM_fill_69 : Dc b_TM_fill 69 (.aload_n 0) 1 70 := ⟨by decide +kernel, rfl⟩
theorem d_TM_fill_70 : Dc b_TM_fill 70 (.getfield 7) 3 73 := ⟨by decide +kernel, rfl⟩
theorem d_TM_fill_73 : Dc b_TM_fill 73 (.iload 5) 2 75 := ⟨by decide +kernel, rfl⟩
theorem d_TM_fill_75 : Dc b_TM_fill 75 (.iaload) 1 76 := ⟨by decide +kernel, rfl⟩
theorem d_TM_fill_76 : Dc b_TM_fill 76 (.iastore) 1 77 := ⟨by decide +kernel, rfl⟩
theorem d_TM_fill_77 : Dc b_TM_fill 77 (.iinc 5 1) 3 80 := ⟨by decide +kernel, rfl⟩
theorem d_TM_fill_80 : Dj b_TM_fill 80 (.goto (-39)) (-39) 83 41 := ⟨by decide +kernel, rfl, by decide⟩
theorem d_TM_fill_83 : Dc b_TM_fill 83 (.iload 4) 2 85 := ⟨by decide +kernel, rfl⟩
theorem d_TM_fill_85 : Dc b_TM_fill 85 (.ireturn) 1 86 := ⟨by decide +kernel, rfl⟩
theorem d_TM_unmark_0 : Dc b_TM_unmark 0 (.iconst 0) 1 1 := ⟨by decide +kernel, rfl⟩
theorem d_TM_unmark_1 : Dc b_TM_unmark 1 (.istore_n 1) 1 2 := ⟨by decide +kernel, rfl⟩
theorem d_TM_unmark_2 : Dc b_TM_unmark 2 (.iload_n 1) 1 3 := ⟨by decide +kernel, rfl⟩
theorem d_TM_unmark_3 : Dc b_TM_unmark 3 (.sipush 576) 3 6 := ⟨by decide +kernel, rfl⟩
theorem d_TM_unmark_6 : Dj b_TM_unmark 6 (.if_icmp .ge 16) 16 9 22 := ⟨by decide +kernel, rfl, by decide⟩
theorem d_TM_unmark_9 : Dc b_TM_unmark 9 (.aload_n 0) 1 10 := ⟨by decide +kernel, rfl⟩
theorem d_TM_unmark_10 : Dc b_TM_unmark 10 (.getfield 25) 3 13 := ⟨by decide +kernel, rfl⟩
theorem d_TM_unmark_13 : Dc b_TM_unmark 13 (.iload_n 1) 1 14 := ⟨by decide +kernel, rfl⟩
theorem d_TM_unmark_14 : Dc b_TM_unmark 14 (.iconst 0) 1 15 := ⟨by decide +kernel, rfl⟩
theorem d_TM_unmark_15 : Dc b_TM_unmark 15 (.bastore) 1 16 := ⟨by decide +kernel, rfl⟩
theorem d_TM_unmark_16 : Dc b_TM_unmark 16 (.iinc 1 1) 3 19 := ⟨by decide +kernel, rfl⟩
theorem d_TM_unmark_19 : Dj b_TM_unmark 19 (.goto (-17)) (-17) 22 2 := ⟨by decide +kernel, rfl, by decide⟩
theorem d_TM_unmark_22 : Dc b_TM_unmark 22 (.return_) 1 23 := ⟨by decide +kernel, rfl⟩
theorem d_TM_mark_0 : Dc b_TM_mark 0 (.aload_n 0) 1 1 := ⟨by decide +kernel, rfl⟩
theorem d_TM_mark_1 : Dc b_TM_mark 1 (.getfield 7) 3 4 := ⟨by decide +kernel, rfl⟩
theorem d_TM_mark_4 : Dc b_TM_mark 4 (.bipush 24) 2 6 := ⟨by decide +kernel, rfl⟩
theorem d_TM_mark_6 : Dc b_TM_mark 6 (.iload_n 2) 1 7 := ⟨by decide +kernel, rfl⟩
theorem d_TM_mark_7 : Dc b_TM_mark 7 (.imul) 1 8 := ⟨by decide +kernel, rfl⟩
theorem d_TM_mark_8 : Dc b_TM_mark 8 (.iload_n 1) 1 9 := ⟨by decide +kernel, rfl⟩
theorem d_TM_mark_9 : Dc b_TM_mark 9 (.iadd) 1 10 := ⟨by decide +kernel, rfl⟩
theorem d_TM_mark_10 : Dc b_TM_mark 10 (.iaload) 1 11 := ⟨by decide +kernel, rfl⟩
theorem d_TM_mark_11 : Dc b_TM_mark 11 (.istore_n 3) 1 12 := ⟨by decide +kernel, rfl⟩
theorem d_TM_mark_12 : Dc b_TM_mark 12 (.aload_n 0) 1 13 := ⟨by decide +kernel, rfl⟩
theorem d_TM_mark_13 : Dc b_TM_mark 13 (.getfield 25) 3 16 := ⟨by decide +kernel, rfl⟩
theorem d_TM_mark_16 : Dc b_TM_mark 16 (.bipush 24) 2 18 := ⟨by decide +kernel, rfl⟩
theorem d_TM_mark_18 : Dc b_TM_mark 18 (.iload_n 2) 1 19 := ⟨by decide +kernel, rfl⟩
theorem d_TM_mark_19 : Dc b_TM_mark 19 (.imul) 1 20 := ⟨by decide +kernel, rfl⟩
theorem d_TM_mark_20 : Dc b_TM_mark 20 (.iload_n 1) 1 21 := ⟨by decide +kernel, rfl⟩
theorem d_TM_mark_21 : Dc b_TM_mark 21 (.iadd) 1 22 := ⟨by decide +kernel, rfl⟩
theorem d_TM_mark_22 : Dc b_TM_mark 22 (.iconst 1) 1 23 := ⟨by decide +kernel, rfl⟩
theorem d_TM_mark_23 : Dc b_TM_mark 23 (.bastore) 1 24 := ⟨by decide +kernel, rfl⟩
theorem d_TM_mark_24 : Dc b_TM_mark 24 (.iconst 1) 1 25 := ⟨by decide +kernel, rfl⟩
theorem d_TM_mark_25 : Dc b_TM_mark 25 (.istore 4) 2 27 := ⟨by decide +kernel, rfl⟩
theorem d_TM_mark_27 : Dc b_TM_mark 27 (.iconst 1) 1 28 := ⟨by decide +kernel, rfl⟩
theorem d_TM_mark_28 : Dc b_TM_mark 28 (.istore 5) 2 30 := ⟨by decide +kernel, rfl⟩
theorem d_TM_mark_30 : Dc b_TM_mark 30 (.iload 5) 2 32 := ⟨by decide +kernel, rfl⟩
theorem d_TM_mark_32 : Dj b_TM_mark 32 (.ifCond .eq 184) 184 35 216 := ⟨by decide +kernel, rfl, by decide⟩
theorem d_TM_mark_35 : Dc b_TM_mark 35 (.iconst 0) 1 36 := ⟨by decide +kernel, rfl⟩
theorem d_TM_mark_36 : Dc b_TM_mark 36 (.istore 5) 2 38 := ⟨by decide +kernel, rfl⟩
theorem d_TM_mark_38 : Dc b_TM_mark 38 (.iconst 0) 1 39 := ⟨by decide +kernel, rfl⟩
theorem d_TM_mark_39 : Dc b_TM_mark 39 (.istore 6) 2 41 := ⟨by decide +kernel, rfl⟩
theorem d_TM_mark_41 : Dc b_TM_mark 41 (.iload 6) 2 43 := ⟨by decide +kernel, rfl⟩
theorem d_TM_mark_43 : Dc b_TM_mark 43 (.aload_n 0) 1 44 := ⟨by decide +kernel, rfl⟩
theorem d_TM_mark_44 : Dc b_TM_mark 44 (.getfield 33) 3 47 := ⟨by decide +kernel, rfl⟩
theorem d_TM_mark_47 : Dj b_TM_mark 47 (.if_icmp .ge 166) 166 50 213 := ⟨by decide +kernel, rfl, by decide⟩
theorem d_TM_mark_50 : Dc b_TM_mark 50 (.iconst 0) 1 51 := ⟨by decide +kernel, rfl⟩
theorem d_TM_mark_51 : Dc b_TM_mark 51 (.istore 7) 2 53 := ⟨by decide +kernel, rfl⟩
theorem d_TM_mark_53 : Dc b_TM_mark 53 (.iload 7) 2 55 := ⟨by decide +kernel, rfl⟩
theorem d_TM_mark_55 : Dc b_TM_mark 55 (.aload_n 0) 1 56 := ⟨by decide +kernel, rfl⟩
theorem d_TM_mark_56 : Dc b_TM_mark 56 (.getfield 29) 3 59 := ⟨by decide +kernel, rfl⟩
theorem d_TM_mark_59 : Dj b_TM_mark 59 (.if_icmp .ge 148) 148 62 207 := ⟨by decide +kernel, rfl, by decide⟩
theorem d_TM_mark_62 : Dc b_TM_mark 62 (.bipush 24) 2 64 := ⟨by decide +kernel, rfl⟩
theorem d_TM_mark_64 : Dc b_TM_mark 64 (.iload 6) 2 66 := ⟨by decide +kernel, rfl⟩
theorem d_TM_mark_66 : Dc b_TM_mark 66 (.imul) 1 67 := ⟨by decide +kernel, rfl⟩
theorem d_TM_mark_67 : Dc b_TM_mark 67 (.iload 7) 2 69 := ⟨by decide +kernel, rfl⟩
theorem d_TM_mark_69 : Dc b_TM_mark 69 (.iadd) 1 70 := ⟨by decide +kernel, rfl⟩
theorem d_TM_mark_70 : Dc b_TM_mark 70 (.istore 8) 2 72 := ⟨by decide +kernel, rfl⟩
theorem d_TM_mark_72 : Dc b_TM_mark 72 (.iload 7) 2 74 := ⟨by decide +kernel, rfl⟩
theorem d_TM_mark_74 : Dj b_TM_mark 74 (.ifCond .le 15) 15 77 89 := ⟨by decide +kernel, rfl, by decide⟩
theorem d_TM_mark_77 : Dc b_TM_mark 77 (.aload_n 0) 1 78 := ⟨by decide +kernel, rfl⟩
theorem d_TM_mark_78 : Dc b_TM_mark 78 (.getfield 25) 3 81 := ⟨by decide +kernel, rfl⟩
theorem d_TM_mark_81 : Dc b_TM_mark 81 (.iload 8) 2 83 := ⟨by decide +kernel, rfl⟩
theorem d_TM_mark_83 : Dc b_TM_mark 83 (.iconst 1) 1 84 := ⟨by decide +kernel, rfl⟩
theorem d_TM_mark_84 : Dc b_TM_mark 84 (.isub) 1 85 := ⟨by decide +kernel, rfl⟩
theorem d_TM_mark_85 : Dc b_TM_mark 85 (.baload) 1 86 := ⟨by decide +kernel, rfl⟩
theorem d_TM_mark_86 : Dj b_TM_mark 86 (.ifCond .ne 68) 68 89 154 := ⟨by decide +kernel, rfl, by decide⟩
theorem d_TM_mark_89 : Dc b_TM_mark 89 (.iload 7) 2 91 := ⟨by decide +kernel, rfl⟩
theorem d_TM_mark_91 : Dc b_TM_mark 91 (.iconst 1) 1 92 := ⟨by decide +kernel, rfl⟩
theorem d_TM_mark_92 : Dc b_TM_mark 92 (.iadd) 1 93 := ⟨by decide +kernel, rfl⟩
theorem d_TM_mark_93 : Dc b_TM_mark 93 (.aload_n 0) 1 94 := ⟨by decide +kernel, rfl⟩
theorem d_TM_mark_94 : Dc b_TM_mark 94 (.getfield 29) 3 97 := ⟨by decide +kernel, rfl⟩
theorem d_TM_mark_97 : Dj b_TM_mark 97 (.if_icmp .ge 15) 15 100 112 := ⟨by decide +kernel, rfl, by decide⟩
theorem d_TM_mark_100 : Dc b_TM_mark 100 (.aload_n 0) 1 101 := ⟨by decide +kernel, rfl⟩
theorem d_TM_mark_101 : Dc b_TM_mark 101 (.getfield 25) 3 104 := ⟨by decide +kernel, rfl⟩
theorem d_TM_mark_104 : Dc b_TM_mark 104 (.iload 8) 2 106 := ⟨by decide +kernel, rfl⟩
theorem d_TM_mark_106 : Dc b_TM_mark 106 (.iconst 1) 1 107 := ⟨by decide +kernel, rfl⟩
theorem d_TM_mark_107 : Dc b_TM_mark 107 (.iadd) 1 108 := ⟨by decide +kernel, rfl⟩
theorem d_TM_mark_108 : Dc b_TM_mark 108 (.baload) 1 109 := ⟨by decide +kernel, rfl⟩
theorem d_TM_mark_109 : Dj b_TM_mark 109 (.ifCond .ne 45) 45 112 154 := ⟨by decide +kernel, rfl, by decide⟩
theorem d_TM_mark_112 : Dc b_TM_mark 112 (.iload 6) 2 114 := ⟨by decide +kernel, rfl⟩
theorem d_TM_mark_114 : Dj b_TM_mark 114 (.ifCond .le 16) 16 117 130 := ⟨by decide +kernel, rfl, by decide⟩
theorem d_TM_mark_117 : Dc b_TM_mark 117 (.aload_n 0) 1 118 := ⟨by decide +kernel, rfl⟩
theorem d_TM_mark_118 : Dc b_TM_mark 118 (.getfield 25) 3 121 := ⟨by decide +kernel, rfl⟩
theorem d_TM_mark_121 : Dc b_TM_mark 121 (.iload 8) 2 123 := ⟨by decide +kernel, rfl⟩
theorem d_TM_mark_123 : Dc b_TM_mark 123 (.bipush 24) 2 125 := ⟨by decide +kernel, rfl⟩
theorem d_TM_mark_125 : Dc b_TM_mark 125 (.isub) 1 126 := ⟨by decide +kernel, rfl⟩
theorem d_TM_mark_126 : Dc b_TM_mark 126 (.baload) 1 127 := ⟨by decide +kernel, rfl⟩
theorem d_TM_mark_127 : Dj b_TM_mark 127 (.ifCond .ne 27) 27 130 154 := ⟨by decide +kernel, rfl, by decide⟩
theorem d_TM_mark_130 : Dc b_TM_mark 130 (.iload 6) 2 132 := ⟨by decide +kernel, rfl⟩
theorem d_TM_mark_132 : Dc b_TM_mark 132 (.iconst 1) 1 133 := ⟨by decide +kernel, rfl⟩
theorem d_TM_mark_133 : Dc b_TM_mark 133 (.iadd) 1 134 := ⟨by decide +kernel, rfl⟩
theorem d_TM_mark_134 : Dc b_TM_mark 134 (.aload_n 0) 1 135 := ⟨by decide +kernel, rfl⟩
theorem d_TM_mark_135 : Dc b_TM_mark 135 (.getfield 33) 3 138 := ⟨by decide +kernel, rfl⟩
theorem d_TM_mark_138 : Dj b_TM_mark 138 (.if_icmp .ge 20) 20 141 158 := ⟨by decide +kernel, rfl, by decide⟩
theorem d_TM_mark_141 : Dc b_TM_mark 141 (.aload_n 0) 1 142 := ⟨by decide +kernel, rfl⟩
theorem d_TM_mark_142 : Dc b_TM_mark 142 (.getfield 25) 3 145 := ⟨by decide +kernel, rfl⟩
theorem d_TM_mark_145 : Dc b_TM_mark 145 (.iload 8) 2 147 := ⟨by decide +kernel, rfl⟩
theorem d_TM_mark_147 : Dc b_TM_mark 147 (.bipush 24) 2 149 := ⟨by decide +kernel, rfl⟩
theorem d_TM_mark_149 : Dc b_TM_mark 149 (.iadd) 1 150 := ⟨by decide +kernel, rfl⟩
theorem d_TM_mark_150 : Dc b_TM_mark 150 (.baload) 1 151 := ⟨by decide +kernel, rfl⟩
theorem d_TM_mark_151 : Dj b_TM_mark 151 (.ifCond .eq 7) 7 154 158 := ⟨by decide +kernel, rfl, by decide⟩
theorem d_TM_mark_154 : Dc b_TM_mark 154 (.iconst 1) 1 155 := ⟨by decide +kernel, rfl⟩
theorem d_TM_mark_155 : Dj b_TM_mark 155 (.goto 4) 4 158 159 := ⟨by decide +kernel, rfl, by decide⟩
theorem d_TM_mark_158 : Dc b_TM_mark 158 (.iconst 0) 1 159 := ⟨by decide +kernel, rfl⟩
theorem d_TM_mark_159 : Dc b_TM_mark 159 (.istore 9) 2 161 := ⟨by decide +kernel, rfl⟩
theorem d_TM_mark_161 : Dc b_TM_mark 161 (.aload_n 0) 1 162 := ⟨by decide +kernel, rfl⟩
theorem d_TM_mark_162 : Dc b_TM_mark 162 (.getfield 25) 3 165 := ⟨by decide +kernel, rfl⟩
theorem d_TM_mark_165 : Dc b_TM_mark 165 (.iload 8) 2 167 := ⟨by decide +kernel, rfl⟩
theorem d_TM_mark_167 : Dc b_TM_mark 167 (.baload) 1 168 := ⟨by decide +kernel, rfl⟩
theorem d_TM_mark_168 : Dj b_TM_mark 168 (.ifCond .ne 33) 33 171 201 := ⟨by decide +kernel, rfl, by decide⟩
theorem d_TM_mark_171 : Dc b_TM_mark 171 (.aload_n 0) 1 172 := ⟨by decide +kernel, rfl⟩
theorem d_TM_mark_172 : Dc b_TM_mark 172 (.getfield 7) 3 175 := ⟨by decide +kernel, rfl⟩
theorem d_TM_mark_175 : Dc b_TM_mark 175 (.iload 8) 2 177 := ⟨by decide +kernel, rfl⟩
theorem d_TM_mark_177 : Dc b_TM_mark 177 (.iaload) 1 178 := ⟨by decide +kernel, rfl⟩
theorem d_TM_mark_178 : Dc b_TM_mark 178 (.iload_n 3) 1 179 := ⟨by decide +kernel, rfl⟩
theorem d_TM_mark_179 : Dj b_TM_mark 179 (.if_icmp .ne 22) 22 182 201 := ⟨by decide +kernel, rfl, by decide⟩
theorem d_TM_mark_182 : Dc b_TM_mark 182 (.iload 9) 2 184 := ⟨by decide +kernel, rfl⟩
theorem d_TM_mark_184 : Dj b_TM_mark 184 (.ifCond .eq 17) 17 187 201 := ⟨by decide +kernel, rfl, by decide⟩
theorem d_TM_mark_187 : Dc b_TM_mark 187 (.aload_n 0) 1 188 := ⟨by decide +kernel, rfl⟩
theorem d_TM_mark_188 : Dc b_TM_mark 188 (.getfield 25) 3 191 := ⟨by decide +kernel, rfl⟩
theorem d_TM_mark_191 : Dc b_TM_mark 191 (.iload 8) 2 193 := ⟨by decide +kernel, rfl⟩
theorem d_TM_mark_193 : Dc b_TM_mark 193 (.iconst 1) 1 194 := ⟨by decide +kernel, rfl⟩
theorem d_TM_mark_194 : Dc b_TM_mark 194 (.bastore) 1 195 := ⟨by decide +kernel, rfl⟩
theorem d_TM_mark_195 : Dc b_TM_mark 195 (.iinc 4 1) 3 198 := ⟨by decide +kernel, rfl⟩
theorem d_TM_mark_198 : Dc b_TM_mark 198 (.iconst 1) 1 199 := ⟨by decide +kernel, rfl⟩
theorem d_TM_mark_199 : Dc b_TM_mark 199 (.istore 5) 2 201 := ⟨by decide +kernel, rfl⟩
theorem d_TM_mark_201 : Dc b_TM_mark 201 (.iinc 7 1) 3 204 := ⟨by decide +kernel, rfl⟩
theorem d_TM_mark_204 : Dj b_TM_mark 204 (.goto (-151)) (-151) 207 53 := ⟨by decide +kernel, rfl, by decide⟩
theorem d_TM_mark_207 : Dc b_TM_mark 207 (.iinc 6 1) 3 210 := ⟨by decide +kernel, rfl⟩
theorem d_TM_mark_210 : Dj b_TM_mark 210 (.goto (-169)) (-169) 213 41 := ⟨by decide +kernel, rfl, by decide⟩
theorem d_TM_mark_213 : Dj b_TM_mark 213 (.goto (-183)) (-183) 216 30 := ⟨by decide +kernel, rfl, by decide⟩
theorem d_TM_mark_216 : Dc b_TM_mark 216 (.iload 4) 2 218 := ⟨by decide +kernel, rfl⟩
theorem d_TM_mark_218 : Dc b_TM_mark 218 (.ireturn) 1 219 := ⟨by decide +kernel, rfl⟩
theorem d_TM_pieces_0 : Dc b_TM_pieces 0 (.aload_n 0) 1 1 := ⟨by decide +kernel, rfl⟩
theorem d_TM_pieces_1 : Dc b_TM_pieces 1 (.invokevirtual 78) 3 4 := ⟨by decide +kernel, rfl⟩
theorem d_TM_pieces_4 : Dc b_TM_pieces 4 (.iconst 0) 1 5 := ⟨by decide +kernel, rfl⟩
theorem d_TM_pieces_5 : Dc b_TM_pieces 5 (.istore_n 2) 1 6 := ⟨by decide +kernel, rfl⟩
theorem d_TM_pieces_6 : Dc b_TM_pieces 6 (.iconst 0) 1 7 := ⟨by decide +kernel, rfl⟩
theorem d_TM_pieces_7 : Dc b_TM_pieces 7 (.istore_n 3) 1 8 := ⟨by decide +kernel, rfl⟩
theorem d_TM_pieces_8 : Dc b_TM_pieces 8 (.iload_n 3) 1 9 := ⟨by decide +kernel, rfl⟩
theorem d_TM_pieces_9 : Dc b_TM_pieces 9 (.aload_n 0) 1 10 := ⟨by decide +kernel, rfl⟩
theorem d_TM_pieces_10 : Dc b_TM_pieces 10 (.getfield 33) 3 13 := ⟨by decide +kernel, rfl⟩
theorem d_TM_pieces_13 : Dj b_TM_pieces 13 (.if_icmp .ge 69) 69 16 82 := ⟨by decide +kernel, rfl, by decide⟩
theorem d_TM_pieces_16 : Dc b_TM_pieces 16 (.iconst 0) 1 17 := ⟨by decide +kernel, rfl⟩
theorem d_TM_pieces_17 : Dc b_TM_pieces 17 (.istore 4) 2 19 := ⟨by decide +kernel, rfl⟩
theorem d_TM_pieces_19 : Dc b_TM_pieces 19 (.iload 4) 2 21 := ⟨by decide +kernel, rfl⟩
theorem d_TM_pieces_21 : Dc b_TM_pieces 21 (.aload_n 0) 1 22 := ⟨by decide +kernel, rfl⟩
theorem d_TM_pieces_22 : Dc b_TM_pieces 22 (.getfield 29) 3 25 := ⟨by decide +kernel, rfl⟩
theorem d_TM_pieces_25 : Dj b_TM_pieces 25 (.if_icmp .ge 51) 51 28 76 := ⟨by decide +kernel, rfl, by decide⟩
theorem d_TM_pieces_28 : Dc b_TM_pieces 28 (.aload_n 0) 1 29 := ⟨by decide +kernel, rfl⟩
theorem d_TM_pieces_29 : Dc b_TM_pieces 29 (.getfield 7) 3 32 := ⟨by decide +kernel, rfl⟩
theorem d_TM_pieces_32 : Dc b_TM_pieces 32 (.bipush 24) 2 34 := ⟨by decide +kernel, rfl⟩
theorem d_TM_pieces_34 : Dc b_TM_pieces 34 (.iload_n 3) 1 35 := ⟨by decide +kernel, rfl⟩
theorem d_TM_pieces_35 : Dc b_TM_pieces 35 (.imul) 1 36 := ⟨by decide +kernel, rfl⟩
theorem d_TM_pieces_36 : Dc b_TM_pieces 36 (.iload 4) 2 38 := ⟨by decide +kernel, rfl⟩
theorem d_TM_pieces_38 : Dc b_TM_pieces 38 (.iadd) 1 39 := ⟨by decide +kernel, rfl⟩
theorem d_TM_pieces_39 : Dc b_TM_pieces 39 (.iaload) 1 40 := ⟨by decide +kernel, rfl⟩
theorem d_TM_pieces_40 : Dc b_TM_pieces 40 (.iload_n 1) 1 41 := ⟨by decide +kernel, rfl⟩
theorem d_TM_pieces_41 : Dj b_TM_pieces 41 (.if_icmp .ne 29) 29 44 70 := ⟨by decide +kernel, rfl, by decide⟩
theorem d_TM_pieces_44 : Dc b_TM_pieces 44 (.aload_n 0) 1 45 := ⟨by decide +kernel, rfl⟩
theorem d_TM_pieces_45 : Dc b_TM_pieces 45 (.getfield 25) 3 48 := ⟨by decide +kernel, rfl⟩
theorem d_TM_pieces_48 : Dc b_TM_pieces 48 (.bipush 24) 2 50 := ⟨by decide +kernel, rfl⟩
theorem d_TM_pieces_50 : Dc b_TM_pieces 50 (.iload_n 3) 1 51 := ⟨by decide +kernel, rfl⟩
theorem d_TM_pieces_51 : Dc b_TM_pieces 51 (.imul) 1 52 := ⟨by decide +kernel, rfl⟩
theorem d_TM_pieces_52 : Dc b_TM_pieces 52 (.iload 4) 2 54 := ⟨by decide +kernel, rfl⟩
theorem d_TM_pieces_54 : Dc b_TM_pieces 54 (.iadd) 1 55 := ⟨by decide +kernel, rfl⟩
theorem d_TM_pieces_55 : Dc b_TM_pieces 55 (.baload) 1 56 := ⟨by decide +kernel, rfl⟩
theorem d_TM_pieces_56 : Dj b_TM_pieces 56 (.ifCond .ne 14) 14 59 70 := ⟨by decide +kernel, rfl, by decide⟩
theorem d_TM_pieces_59 : Dc b_TM_pieces 59 (.aload_n 0) 1 60 := ⟨by decide +kernel, rfl⟩
theorem d_TM_pieces_60 : Dc b_TM_pieces 60 (.iload 4) 2 62 := ⟨by decide +kernel, rfl⟩
theorem d_TM_pieces_62 : Dc b_TM_pieces 62 (.iload_n 3) 1 63 := ⟨by decide +kernel, rfl⟩
theorem d_TM_pieces_63 : Dc b_TM_pieces 63 (.invokevirtual 81) 3 66 := ⟨by decide +kernel, rfl⟩
theorem d_TM_pieces_66 : Dc b_TM_pieces 66 (.pop) 1 67 := ⟨by decide +kernel, rfl⟩
theorem d_TM_pieces_67 : Dc b_TM_pieces 67 (.iinc 2 1) 3 70 := ⟨by decide +kernel, rfl⟩
theorem d_TM_pieces_70 : Dc b_TM_pieces 70 (.iinc 4 1) 3 73 := ⟨by decide +kernel, rfl⟩
theorem d_TM_pieces_73 : Dj b_TM_pieces 73 (.goto (-54)) (-54) 76 19 := ⟨by decide +kernel, rfl, by decide⟩
theorem d_TM_pieces_76 : Dc b_TM_pieces 76 (.iinc 3 1) 3 79 := ⟨by decide +kernel, rfl⟩
theorem d_TM_pieces_79 : Dj b_TM_pieces 79 (.goto (-71)) (-71) 82 8 := ⟨by decide +kernel, rfl, by decide⟩
theorem d_TM_pieces_82 : Dc b_TM_pieces 82 (.iload_n 2) 1 83 := ⟨by decide +kernel, rfl⟩
theorem d_TM_pieces_83 : Dc b_TM_pieces 83 (.ireturn) 1 84 := ⟨by decide +kernel, rfl⟩
theorem d_TM_pixel_0 : Dc b_TM_pixel 0 (.aload_n 0) 1 1 := ⟨by decide +kernel, rfl⟩
theorem d_TM_pixel_1 : Dc b_TM_pixel 1 (.iload_n 1) 1 2 := ⟨by decide +kernel, rfl⟩
theorem d_TM_pixel_2 : Dc b_TM_pixel 2 (.iload_n 2) 1 3 := ⟨by decide +kernel, rfl⟩
theorem d_TM_pixel_3 : Dc b_TM_pixel 3 (.invokevirtual 75) 3 6 := ⟨by decide +kernel, rfl⟩
theorem d_TM_pixel_6 : Dj b_TM_pixel 6 (.ifCond .eq 17) 17 9 23 := ⟨by decide +kernel, rfl, by decide⟩
theorem d_TM_pixel_9 : Dc b_TM_pixel 9 (.aload_n 0) 1 10 := ⟨by decide +kernel, rfl⟩
theorem d_TM_pixel_10 : Dc b_TM_pixel 10 (.getfield 7) 3 13 := ⟨by decide +kernel, rfl⟩
theorem d_TM_pixel_13 : Dc b_TM_pixel 13 (.bipush 24) 2 15 := ⟨by decide +kernel, rfl⟩
theorem d_TM_pixel_15 : Dc b_TM_pixel 15 (.iload_n 2) 1 16 := ⟨by decide +kernel, rfl⟩
theorem d_TM_pixel_16 : Dc b_TM_pixel 16 (.imul) 1 17 := ⟨by decide +kernel, rfl⟩
theorem d_TM_pixel_17 : Dc b_TM_pixel 17 (.iload_n 1) 1 18 := ⟨by decide +kernel, rfl⟩
theorem d_TM_pixel_18 : Dc b_TM_pixel 18 (.iadd) 1 19 := ⟨by decide +kernel, rfl⟩
theorem d_TM_pixel_19 : Dc b_TM_pixel 19 (.iaload) 1 20 := ⟨by decide +kernel, rfl⟩
theorem d_TM_pixel_20 : Dj b_TM_pixel 20 (.goto 4) 4 23 24 := ⟨by decide +kernel, rfl, by decide⟩
theorem d_TM_pixel_23 : Dc b_TM_pixel 23 (.iconst (-1)) 1 24 := ⟨by decide +kernel, rfl⟩
theorem d_TM_pixel_24 : Dc b_TM_pixel 24 (.ireturn) 1 25 := ⟨by decide +kernel, rfl⟩
theorem d_TM_depthAt_0 : Dc b_TM_depthAt 0 (.aload_n 0) 1 1 := ⟨by decide +kernel, rfl⟩
theorem d_TM_depthAt_1 : Dc b_TM_depthAt 1 (.iload_n 1) 1 2 := ⟨by decide +kernel, rfl⟩
theorem d_TM_depthAt_2 : Dc b_TM_depthAt 2 (.iload_n 2) 1 3 := ⟨by decide +kernel, rfl⟩
theorem d_TM_depthAt_3 : Dc b_TM_depthAt 3 (.invokevirtual 75) 3 6 := ⟨by decide +kernel, rfl⟩
theorem d_TM_depthAt_6 : Dj b_TM_depthAt 6 (.ifCond .eq 17) 17 9 23 := ⟨by decide +kernel, rfl, by decide⟩
theorem d_TM_depthAt_9 : Dc b_TM_depthAt 9 (.aload_n 0) 1 10 := ⟨by decide +kernel, rfl⟩
theorem d_TM_depthAt_10 : Dc b_TM_depthAt 10 (.getfield 13) 3 13 := ⟨by decide +kernel, rfl⟩
theorem d_TM_depthAt_13 : Dc b_TM_depthAt 13 (.bipush 24) 2 15 := ⟨by decide +kernel, rfl⟩
theorem d_TM_depthAt_15 : Dc b_TM_depthAt 15 (.iload_n 2) 1 16 := ⟨by decide +kernel, rfl⟩
theorem d_TM_depthAt_16 : Dc b_TM_depthAt 16 (.imul) 1 17 := ⟨by decide +kernel, rfl⟩
theorem d_TM_depthAt_17 : Dc b_TM_depthAt 17 (.iload_n 1) 1 18 := ⟨by decide +kernel, rfl⟩
theorem d_TM_depthAt_18 : Dc b_TM_depthAt 18 (.iadd) 1 19 := ⟨by decide +kernel, rfl⟩
theorem d_TM_depthAt_19 : Dc b_TM_depthAt 19 (.iaload) 1 20 := ⟨by decide +kernel, rfl⟩
theorem d_TM_depthAt_20 : Dj b_TM_depthAt 20 (.goto 4) 4 23 24 := ⟨by decide +kernel, rfl, by decide⟩
theorem d_TM_depthAt_23 : Dc b_TM_depthAt 23 (.iconst (-1)) 1 24 := ⟨by decide +kernel, rfl⟩
theorem d_TM_depthAt_24 : Dc b_TM_depthAt 24 (.ireturn) 1 25 := ⟨by decide +kernel, rfl⟩
theorem d_TM_count_0 : Dc b_TM_count 0 (.iconst 0) 1 1 := ⟨by decide +kernel, rfl⟩
theorem d_TM_count_1 : Dc b_TM_count 1 (.istore_n 2) 1 2 := ⟨by decide +kernel, rfl⟩
theorem d_TM_count_2 : Dc b_TM_count 2 (.iconst 0) 1 3 := ⟨by decide +kernel, rfl⟩
theorem d_TM_count_3 : Dc b_TM_count 3 (.istore_n 3) 1 4 := ⟨by decide +kernel, rfl⟩
theorem d_TM_count_4 : Dc b_TM_count 4 (.iload_n 3) 1 5 := ⟨by decide +kernel, rfl⟩
theorem d_TM_count_5 : Dc b_TM_count 5 (.aload_n 0) 1 6 := ⟨by decide +kernel, rfl⟩
theorem d_TM_count_6 : Dc b_TM_count 6 (.getfield 33) 3 9 := ⟨by decide +kernel, rfl⟩
theorem d_TM_count_9 : Dj b_TM_count 9 (.if_icmp .ge 51) 51 12 60 := ⟨by decide +kernel, rfl, by decide⟩
theorem d_TM_count_12 : Dc b_TM_count 12 (.iconst 0) 1 13 := ⟨by decide +kernel, rfl⟩
theorem d_TM_count_13 : Dc b_TM_count 13 (.istore 4) 2 15 := ⟨by decide +kernel, rfl⟩
theorem d_TM_count_15 : Dc b_TM_count 15 (.iload 4) 2 17 := ⟨by decide +kernel, rfl⟩
theorem d_TM_count_17 : Dc b_TM_count 17 (.aload_n 0) 1 18 := ⟨by decide +kernel, rfl⟩
theorem d_TM_count_18 : Dc b_TM_count 18 (.getfield 29) 3 21 := ⟨by decide +kernel, rfl⟩
theorem d_TM_count_21 : Dj b_TM_count 21 (.if_icmp .ge 33) 33 24 54 := ⟨by decide +kernel, rfl, by decide⟩
theorem d_TM_count_24 : Dc b_TM_count 24 (.iload_n 2) 1 25 := ⟨by decide +kernel, rfl⟩
theorem d_TM_count_25 : Dc b_TM_count 25 (.aload_n 0) 1 26 := ⟨by decide +kernel, rfl⟩
theorem d_TM_count_26 : Dc b_TM_count 26 (.getfield 7) 3 29 := ⟨by decide +kernel, rfl⟩
theorem d_TM_count_29 : Dc b_TM_count 29 (.bipush 24) 2 31 := ⟨by decide +kernel, rfl⟩
theorem d_TM_count_31 : Dc b_TM_count 31 (.iload_n 3) 1 32 := ⟨by decide +kernel, rfl⟩
theorem d_TM_count_32 : Dc b_TM_count 32 (.imul) 1 33 := ⟨by decide +kernel, rfl⟩
theorem d_TM_count_33 : Dc b_TM_count 33 (.iload 4) 2 35 := ⟨by decide +kernel, rfl⟩
theorem d_TM_count_35 : Dc b_TM_count 35 (.iadd) 1 36 := ⟨by decide +kernel, rfl⟩
theorem d_TM_count_36 : Dc b_TM_count 36 (.iaload) 1 37 := ⟨by decide +kernel, rfl⟩
theorem d_TM_count_37 : Dc b_TM_count 37 (.iload_n 1) 1 38 := ⟨by decide +kernel, rfl⟩
theorem d_TM_count_38 : Dj b_TM_count 38 (.if_icmp .ne 7) 7 41 45 := ⟨by decide +kernel, rfl, by decide⟩
theorem d_TM_count_41 : Dc b_TM_count 41 (.iconst 1) 1 42 := ⟨by decide +kernel, rfl⟩
theorem d_TM_count_42 : Dj b_TM_count 42 (.goto 4) 4 45 46 := ⟨by decide +kernel, rfl, by decide⟩
theorem d_TM_count_45 : Dc b_TM_count 45 (.iconst 0) 1 46 := ⟨by decide +kernel, rfl⟩
theorem d_TM_count_46 : Dc b_TM_count 46 (.iadd) 1 47 := ⟨by decide +kernel, rfl⟩
theorem d_TM_count_47 : Dc b_TM_count 47 (.istore_n 2) 1 48 := ⟨by decide +kernel, rfl⟩
theorem d_TM_count_48 : Dc b_TM_count 48 (.iinc 4 1) 3 51 := ⟨by decide +kernel, rfl⟩
theorem d_TM_count_51 : Dj b_TM_count 51 (.goto (-36)) (-36) 54 15 := ⟨by decide +kernel, rfl, by decide⟩
theorem d_TM_count_54 : Dc b_TM_count 54 (.iinc 3 1) 3 57 := ⟨by decide +kernel, rfl⟩
theorem d_TM_count_57 : Dj b_TM_count 57 (.goto (-53)) (-53) 60 4 := ⟨by decide +kernel, rfl, by decide⟩
theorem d_TM_count_60 : Dc b_TM_count 60 (.iload_n 2) 1 61 := ⟨by decide +kernel, rfl⟩
theorem d_TM_count_61 : Dc b_TM_count 61 (.ireturn) 1 62 := ⟨by decide +kernel, rfl⟩
end
section
theorem d_law_0 : Dc code 0 (.new 7) 3 3 := ⟨by decide +kernel, rfl⟩
theorem d_law_3 : Dc code 3 (.dup) 1 4 := ⟨by decide +kernel, rfl⟩
theorem d_law_4 : Dc code 4 (.aload_n 0) 1 5 := ⟨by decide +kernel, rfl⟩
theorem d_law_5 : Dc code 5 (.iconst 0) 1 6 := ⟨by decide +kernel, rfl⟩
theorem d_law_6 : Dc code 6 (.invokestatic 9) 3 9 := ⟨by decide +kernel, rfl⟩
theorem d_law_9 : Dc code 9 (.aload_n 0) 1 10 := ⟨by decide +kernel, rfl⟩
theorem d_law_10 : Dc code 10 (.iconst 1) 1 11 := ⟨by decide +kernel, rfl⟩
theorem d_law_11 : Dc code 11 (.invokestatic 9) 3 14 := ⟨by decide +kernel, rfl⟩
theorem d_law_14 : Dc code 14 (.invokespecial 15) 3 17 := ⟨by decide +kernel, rfl⟩
theorem d_law_17 : Dc code 17 (.astore_n 1) 1 18 := ⟨by decide +kernel, rfl⟩
theorem d_law_18 : Dc code 18 (.new 18) 3 21 := ⟨by decide +kernel, rfl⟩
theorem d_law_21 : Dc code 21 (.dup) 1 22 := ⟨by decide +kernel, rfl⟩
theorem d_law_22 : Dc code 22 (.aload_n 0) 1 23 := ⟨by decide +kernel, rfl⟩
theorem d_law_23 : Dc code 23 (.iconst 0) 1 24 := ⟨by decide +kernel, rfl⟩
theorem d_law_24 : Dc code 24 (.invokestatic 9) 3 27 := ⟨by decide +kernel, rfl⟩
theorem d_law_27 : Dc code 27 (.aload_n 0) 1 28 := ⟨by decide +kernel, rfl⟩
theorem d_law_28 : Dc code 28 (.iconst 1) 1 29 := ⟨by decide +kernel, rfl⟩
theorem d_law_29 : Dc code 29 (.invokestatic 9) 3 32 := ⟨by decide +kernel, rfl⟩
theorem d_law_32 : Dc code 32 (.invokespecial 20) 3 35 := ⟨by decide +kernel, rfl⟩
theorem d_law_35 : Dc code 35 (.astore_n 2) 1 36 := ⟨by decide +kernel, rfl⟩
theorem d_law_36 : Dc code 36 (.iconst 2) 1 37 := ⟨by decide +kernel, rfl⟩
theorem d_law_37 : Dc code 37 (.istore_n 3) 1 38 := ⟨by decide +kernel, rfl⟩
theorem d_law_38 : Dc code 38 (.iload_n 3) 1 39 := ⟨by decide +kernel, rfl⟩
theorem d_law_39 : Dc code 39 (.aload_n 0) 1 40 := ⟨by decide +kernel, rfl⟩
theorem d_law_40 : Dc code 40 (.arraylength) 1 41 := ⟨by decide +kernel, rfl⟩
theorem d_law_41 : Dc code 41 (.bipush 6) 2 43 := ⟨by decide +kernel, rfl⟩
theorem d_law_43 : Dc code 43 (.isub) 1 44 := ⟨by decide +kernel, rfl⟩
theorem d_law_44 : Dj code 44 (.if_icmp .gt 430) 430 47 474 := ⟨by decide +kernel, rfl, by decide⟩
theorem d_law_47 : Dc code 47 (.aload_n 0) 1 48 := ⟨by decide +kernel, rfl⟩
theorem d_law_48 : Dc code 48 (.iload_n 3) 1 49 := ⟨by decide +kernel, rfl⟩
theorem d_law_49 : Dc code 49 (.iaload) 1 50 := ⟨by decide +kernel, rfl⟩
theorem d_law_50 : Dc code 50 (.bipush 15) 2 52 := ⟨by decide +kernel, rfl⟩
theorem d_law_52 : Dc code 52 (.iand) 1 53 := ⟨by decide +kernel, rfl⟩
theorem d_law_53 : Dc code 53 (.tableswitch 415 0 9 #[55, 88, 141, 164, 197, 260, 303, 336, 369, 392]) 55 108 := ⟨by decide +kernel, rfl⟩
theorem d_law_108 : Dc code 108 (.aload_n 1) 1 109 := ⟨by decide +kernel, rfl⟩
theorem d_law_109 : Dc code 109 (.aload_n 0) 1 110 := ⟨by decide +kernel, rfl⟩
theorem d_law_110 : Dc code 110 (.iload_n 3) 1 111 := ⟨by decide +kernel, rfl⟩
theorem d_law_111 : Dc code 111 (.iconst 1) 1 112 := ⟨by decide +kernel, rfl⟩
theorem d_law_112 : Dc code 112 (.iadd) 1 113 := ⟨by decide +kernel, rfl⟩
theorem d_law_113 : Dc code 113 (.iaload) 1 114 := ⟨by decide +kernel, rfl⟩
theorem d_law_114 : Dc code 114 (.aload_n 0) 1 115 := ⟨by decide +kernel, rfl⟩
theorem d_law_115 : Dc code 115 (.iload_n 3) 1 116 := ⟨by decide +kernel, rfl⟩
theorem d_law_116 : Dc code 116 (.iconst 2) 1 117 := ⟨by decide +kernel, rfl⟩
theorem d_law_117 : Dc code 117 (.iadd) 1 118 := ⟨by decide +kernel, rfl⟩
theorem d_law_118 : Dc code 118 (.iaload) 1 119 := ⟨by decide +kernel, rfl⟩
theorem d_law_119 : Dc code 119 (.invokevirtual 21) 3 122 := ⟨by decide +kernel, rfl⟩
theorem d_law_122 : Dc code 122 (.aload_n 2) 1 123 := ⟨by decide +kernel, rfl⟩
theorem d_law_123 : Dc code 123 (.aload_n 0) 1 124 := ⟨by decide +kernel, rfl⟩
theorem d_law_124 : Dc code 124 (.iload_n 3) 1 125 := ⟨by decide +kernel, rfl⟩
theorem d_law_125 : Dc code 125 (.iconst 1) 1 126 := ⟨by decide +kernel, rfl⟩
theorem d_law_126 : Dc code 126 (.iadd) 1 127 := ⟨by decide +kernel, rfl⟩
theorem d_law_127 : Dc code 127 (.iaload) 1 128 := ⟨by decide +kernel, rfl⟩
theorem d_law_128 : Dc code 128 (.aload_n 0) 1 129 := ⟨by decide +kernel, rfl⟩
theorem d_law_129 : Dc code 129 (.iload_n 3) 1 130 := ⟨by decide +kernel, rfl⟩
theorem d_law_130 : Dc code 130 (.iconst 2) 1 131 := ⟨by decide +kernel, rfl⟩
theorem d_law_131 : Dc code 131 (.iadd) 1 132 := ⟨by decide +kernel, rfl⟩
theorem d_law_132 : Dc code 132 (.iaload) 1 133 := ⟨by decide +kernel, rfl⟩
theorem d_law_133 : Dc code 133 (.invokevirtual 25) 3 136 := ⟨by decide +kernel, rfl⟩
theorem d_law_136 : Dj code 136 (.if_icmp .eq 332) 332 139 468 := ⟨by decide +kernel, rfl, by decide⟩
theorem d_law_139 : Dc code 139 (.iconst 0) 1 140 := ⟨by decide +kernel, rfl⟩
theorem d_law_140 : Dc code 140 (.ireturn) 1 141 := ⟨by decide +kernel, rfl⟩
theorem d_law_141 : Dc code 141 (.aload_n 1) 1 142 := ⟨by decide +kernel, rfl⟩
theorem d_law_142 : Dc code 142 (.aload_n 0) 1 143 := ⟨by decide +kernel, rfl⟩
theorem d_law_143 : Dc code 143 (.iload_n 3) 1 144 := ⟨by decide +kernel, rfl⟩
theorem d_law_144 : Dc code 144 (.iconst 1) 1 145 := ⟨by decide +kernel, rfl⟩
theorem d_law_145 : Dc code 145 (.iadd) 1 146 := ⟨by decide +kernel, rfl⟩
theorem d_law_146 : Dc code 146 (.iaload) 1 147 := ⟨by decide +kernel, rfl⟩
theorem d_law_147 : Dc code 147 (.aload_n 0) 1 148 := ⟨by decide +kernel, rfl⟩
theorem d_law_148 : Dc code 148 (.iload_n 3) 1 149 := ⟨by decide +kernel, rfl⟩
theorem d_law_149 : Dc code 149 (.iconst 2) 1 150 := ⟨by decide +kernel, rfl⟩
theorem d_law_150 : Dc code 150 (.iadd) 1 151 := ⟨by decide +kernel, rfl⟩
theorem d_law_151 : Dc code 151 (.iaload) 1 152 := ⟨by decide +kernel, rfl⟩
theorem d_law_152 : Dc code 152 (.aload_n 0) 1 153 := ⟨by decide +kernel, rfl⟩
theorem d_law_153 : Dc code 153 (.iload_n 3) 1 154 := ⟨by decide +kernel, rfl⟩
theorem d_law_154 : Dc code 154 (.iconst 3) 1 155 := ⟨by decide +kernel, rfl⟩
theorem d_law_155 : Dc code 155 (.iadd) 1 156 := ⟨by decide +kernel, rfl⟩
theorem d_law_156 : Dc code 156 (.iaload) 1 157 := ⟨by decide +kernel, rfl⟩
theorem d_law_157 : Dc code 157 (.aload_n 0) 1 158 := ⟨by decide +kernel, rfl⟩
theorem d_law_158 : Dc code 158 (.iload_n 3) 1 159 := ⟨by decide +kernel, rfl⟩
theorem d_law_159 : Dc code 159 (.iconst 4) 1 160 := ⟨by decide +kernel, rfl⟩
theorem d_law_160 : Dc code 160 (.iadd) 1 161 := ⟨by decide +kernel, rfl⟩
theorem d_law_161 : Dc code 161 (.iaload) 1 162 := ⟨by decide +kernel, rfl⟩
theorem d_law_162 : Dc code 162 (.invokevirtual 26) 3 165 := ⟨by decide +kernel, rfl⟩
theorem d_law_165 : Dc code 165 (.aload_n 2) 1 166 := ⟨by decide +kernel, rfl⟩
theorem d_law_166 : Dc code 166 (.aload_n 0) 1 167 := ⟨by decide +kernel, rfl⟩
theorem d_law_167 : Dc code 167 (.iload_n 3) 1 168 := ⟨by decide +kernel, rfl⟩
theorem d_law_168 : Dc code 168 (.iconst 1) 1 169 := ⟨by decide +kernel, rfl⟩
theorem d_law_169 : Dc code 169 (.iadd) 1 170 := ⟨by decide +kernel, rfl⟩
theorem d_law_170 : Dc code 170 (.iaload) 1 171 := ⟨by decide +kernel, rfl⟩
theorem d_law_171 : Dc code 171 (.aload_n 0) 1 172 := ⟨by decide +kernel, rfl⟩
theorem d_law_172 : Dc code 172 (.iload_n 3) 1 173 := ⟨by decide +kernel, rfl⟩
theorem d_law_173 : Dc code 173 (.iconst 2) 1 174 := ⟨by decide +kernel, rfl⟩
theorem d_law_174 : Dc code 174 (.iadd) 1 175 := ⟨by decide +kernel, rfl⟩
theorem d_law_175 : Dc code 175 (.iaload) 1 176 := ⟨by decide +kernel, rfl⟩
theorem d_law_176 : Dc code 176 (.aload_n 0) 1 177 := ⟨by decide +kernel, rfl⟩
theorem d_law_177 : Dc code 177 (.iload_n 3) 1 178 := ⟨by decide +kernel, rfl⟩
theorem d_law_178 : Dc code 178 (.iconst 3) 1 179 := ⟨by decide +kernel, rfl⟩
theorem d_law_179 : Dc code 179 (.iadd) 1 180 := ⟨by decide +kernel, rfl⟩
theorem d_law_180 : Dc code 180 (.iaload) 1 181 := ⟨by decide +kernel, rfl⟩
theorem d_law_181 : Dc code 181 (.aload_n 0) 1 182 := ⟨by decide +kernel, rfl⟩
theorem d_law_182 : Dc code 182 (.iload_n 3) 1 183 := ⟨by decide +kernel, rfl⟩
theorem d_law_183 : Dc code 183 (.iconst 4) 1 184 := ⟨by decide +kernel, rfl⟩
theorem d_law_184 : Dc code 184 (.iadd) 1 185 := ⟨by decide +kernel, rfl⟩
theorem d_law_185 : Dc code 185 (.iaload) 1 186 := ⟨by decide +kernel, rfl⟩
theorem d_law_186 : Dc code 186 (.invokevirtual 30) 3 189 := ⟨by decide +kernel, rfl⟩
theorem d_law_189 : Dj code 189 (.if_icmp .eq 279) 279 192 468 := ⟨by decide +kernel, rfl, by decide⟩
theorem d_law_192 : Dc code 192 (.iconst 0) 1 193 := ⟨by decide +kernel, rfl⟩
theorem d_law_193 : Dc code 193 (.ireturn) 1 194 := ⟨by decide +kernel, rfl⟩
theorem d_law_194 : Dc code 194 (.aload_n 1) 1 195 := ⟨by decide +kernel, rfl⟩
theorem d_law_195 : Dc code 195 (.aload_n 0) 1 196 := ⟨by decide +kernel, rfl⟩
theorem d_law_196 : Dc code 196 (.iload_n 3) 1 197 := ⟨by decide +kernel, rfl⟩
theorem d_law_197 : Dc code 197 (.iconst 1) 1 198 := ⟨by decide +kernel, rfl⟩
theorem d_law_198 : Dc code 198 (.iadd) 1 199 := ⟨by decide +kernel, rfl⟩
theorem d_law_199 : Dc code 199 (.iaload) 1 200 := ⟨by decide +kernel, rfl⟩
theorem d_law_200 : Dc code 200 (.invokevirtual 31) 3 203 := ⟨by decide +kernel, rfl⟩
theorem d_law_203 : Dc code 203 (.aload_n 2) 1 204 := ⟨by decide +kernel, rfl⟩
theorem d_law_204 : Dc code 204 (.aload_n 0) 1 205 := ⟨by decide +kernel, rfl⟩
theorem d_law_205 : Dc code 205 (.iload_n 3) 1 206 := ⟨by decide +kernel, rfl⟩
theorem d_law_206 : Dc code 206 (.iconst 1) 1 207 := ⟨by decide +kernel, rfl⟩
theorem d_law_207 : Dc code 207 (.iadd) 1 208 := ⟨by decide +kernel, rfl⟩
theorem d_law_208 : Dc code 208 (.iaload) 1 209 := ⟨by decide +kernel, rfl⟩
theorem d_law_209 : Dc code 209 (.invokevirtual 35) 3 212 := ⟨by decide +kernel, rfl⟩
theorem d_law_212 : Dj code 212 (.if_icmp .eq 256) 256 215 468 := ⟨by decide +kernel, rfl, by decide⟩
theorem d_law_215 : Dc code 215 (.iconst 0) 1 216 := ⟨by decide +kernel, rfl⟩
theorem d_law_216 : Dc code 216 (.ireturn) 1 217 := ⟨by decide +kernel, rfl⟩
theorem d_law_217 : Dc code 217 (.aload_n 1) 1 218 := ⟨by decide +kernel, rfl⟩
theorem d_law_218 : Dc code 218 (.aload_n 0) 1 219 := ⟨by decide +kernel, rfl⟩
theorem d_law_219 : Dc code 219 (.iload_n 3) 1 220 := ⟨by decide +kernel, rfl⟩
theorem d_law_220 : Dc code 220 (.iconst 1) 1 221 := ⟨by decide +kernel, rfl⟩
theorem d_law_221 : Dc code 221 (.iadd) 1 222 := ⟨by decide +kernel, rfl⟩
theorem d_law_222 : Dc code 222 (.iaload) 1 223 := ⟨by decide +kernel, rfl⟩
theorem d_law_223 : Dc code 223 (.aload_n 0) 1 224 := ⟨by decide +kernel, rfl⟩
theorem d_law_224 : Dc code 224 (.iload_n 3) 1 225 := ⟨by decide +kernel, rfl⟩
theorem d_law_225 : Dc code 225 (.iconst 2) 1 226 := ⟨by decide +kernel, rfl⟩
theorem d_law_226 : Dc code 226 (.iadd) 1 227 := ⟨by decide +kernel, rfl⟩
theorem d_law_227 : Dc code 227 (.iaload) 1 228 := ⟨by decide +kernel, rfl⟩
theorem d_law_228 : Dc code 228 (.invokevirtual 36) 3 231 := ⟨by decide +kernel, rfl⟩
theorem d_law_231 : Dc code 231 (.aload_n 2) 1 232 := ⟨by decide +kernel, rfl⟩
theorem d_law_232 : Dc code 232 (.aload_n 0) 1 233 := ⟨by decide +kernel, rfl⟩
theorem d_law_233 : Dc code 233 (.iload_n 3) 1 234 := ⟨by decide +kernel, rfl⟩
theorem d_law_234 : Dc code 234 (.iconst 1) 1 235 := ⟨by decide +kernel, rfl⟩
theorem d_law_235 : Dc code 235 (.iadd) 1 236 := ⟨by decide +kernel, rfl⟩
theorem d_law_236 : Dc code 236 (.iaload) 1 237 := ⟨by decide +kernel, rfl⟩
theorem d_law_237 : Dc code 237 (.aload_n 0) 1 238 := ⟨by decide +kernel, rfl⟩
theorem d_law_238 : Dc code 238 (.iload_n 3) 1 239 := ⟨by decide +kernel, rfl⟩
theorem d_law_239 : Dc code 239 (.iconst 2) 1 240 := ⟨by decide +kernel, rfl⟩
theorem d_law_240 : Dc code 240 (.iadd) 1 241 := ⟨by decide +kernel, rfl⟩
theorem d_law_241 : Dc code 241 (.iaload) 1 242 := ⟨by decide +kernel, rfl⟩
theorem d_law_242 : Dc code 242 (.invokevirtual 39) 3 245 := ⟨by decide +kernel, rfl⟩
theorem d_law_245 : Dj code 245 (.if_icmp .eq 223) 223 248 468 := ⟨by decide +kernel, rfl, by decide⟩
theorem d_law_248 : Dc code 248 (.iconst 0) 1 249 := ⟨by decide +kernel, rfl⟩
theorem d_law_249 : Dc code 249 (.ireturn) 1 250 := ⟨by decide +kernel, rfl⟩
theorem d_law_250 : Dc code 250 (.aload_n 1) 1 251 := ⟨by decide +kernel, rfl⟩
theorem d_law_251 : Dc code 251 (.aload_n 0) 1 252 := ⟨by decide +kernel, rfl⟩
theorem d_law_252 : Dc code 252 (.iload_n 3) 1 253 := ⟨by decide +kernel, rfl⟩
theorem d_law_253 : Dc code 253 (.iconst 1) 1 254 := ⟨by decide +kernel, rfl⟩
theorem d_law_254 : Dc code 254 (.iadd) 1 255 := ⟨by decide +kernel, rfl⟩
theorem d_law_255 : Dc code 255 (.iaload) 1 256 := ⟨by decide +kernel, rfl⟩
theorem d_law_256 : Dc code 256 (.aload_n 0) 1 257 := ⟨by decide +kernel, rfl⟩
theorem d_law_257 : Dc code 257 (.iload_n 3) 1 258 := ⟨by decide +kernel, rfl⟩
theorem d_law_258 : Dc code 258 (.iconst 2) 1 259 := ⟨by decide +kernel, rfl⟩
theorem d_law_259 : Dc code 259 (.iadd) 1 260 := ⟨by decide +kernel, rfl⟩
theorem d_law_260 : Dc code 260 (.iaload) 1 261 := ⟨by decide +kernel, rfl⟩
theorem d_law_261 : Dc code 261 (.aload_n 0) 1 262 := ⟨by decide +kernel, rfl⟩
theorem d_law_262 : Dc code 262 (.iload_n 3) 1 263 := ⟨by decide +kernel, rfl⟩
theorem d_law_263 : Dc code 263 (.iconst 3) 1 264 := ⟨by decide +kernel, rfl⟩
theorem d_law_264 : Dc code 264 (.iadd) 1 265 := ⟨by decide +kernel, rfl⟩
theorem d_law_265 : Dc code 265 (.iaload) 1 266 := ⟨by decide +kernel, rfl⟩
theorem d_law_266 : Dc code 266 (.aload_n 0) 1 267 := ⟨by decide +kernel, rfl⟩
theorem d_law_267 : Dc code 267 (.iload_n 3) 1 268 := ⟨by decide +kernel, rfl⟩
theorem d_law_268 : Dc code 268 (.iconst 4) 1 269 := ⟨by decide +kernel, rfl⟩
theorem d_law_269 : Dc code 269 (.iadd) 1 270 := ⟨by decide +kernel, rfl⟩
theorem d_law_270 : Dc code 270 (.iaload) 1 271 := ⟨by decide +kernel, rfl⟩
theorem d_law_271 : Dc code 271 (.aload_n 0) 1 272 := ⟨by decide +kernel, rfl⟩
theorem d_law_272 : Dc code 272 (.iload_n 3) 1 273 := ⟨by decide +kernel, rfl⟩
theorem d_law_273 : Dc code 273 (.iconst 5) 1 274 := ⟨by decide +kernel, rfl⟩
theorem d_law_274 : Dc code 274 (.iadd) 1 275 := ⟨by decide +kernel, rfl⟩
theorem d_law_275 : Dc code 275 (.iaload) 1 276 := ⟨by decide +kernel, rfl⟩
theorem d_law_276 : Dc code 276 (.invokevirtual 40) 3 279 := ⟨by decide +kernel, rfl⟩
theorem d_law_279 : Dc code 279 (.aload_n 2) 1 280 := ⟨by decide +kernel, rfl⟩
theorem d_law_280 : Dc code 280 (.aload_n 0) 1 281 := ⟨by decide +kernel, rfl⟩
theorem d_law_281 : Dc code 281 (.iload_n 3) 1 282 := ⟨by decide +kernel, rfl⟩
theorem d_law_282 : Dc code 282 (.iconst 1) 1 283 := ⟨by decide +kernel, rfl⟩
theorem d_law_283 : Dc code 283 (.iadd) 1 284 := ⟨by decide +kernel, rfl⟩
theorem d_law_284 : Dc code 284 (.iaload) 1 285 := ⟨by decide +kernel, rfl⟩
theorem d_law_285 : Dc code 285 (.aload_n 0) 1 286 := ⟨by decide +kernel, rfl⟩
theorem d_law_286 : Dc code 286 (.iload_n 3) 1 287 := ⟨by decide +kernel, rfl⟩
theorem d_law_287 : Dc code 287 (.iconst 2) 1 288 := ⟨by decide +kernel, rfl⟩
theorem d_law_288 : Dc code 288 (.iadd) 1 289 := ⟨by decide +kernel, rfl⟩
theorem d_law_289 : Dc code 289 (.iaload) 1 290 := ⟨by decide +kernel, rfl⟩
theorem d_law_290 : Dc code 290 (.aload_n 0) 1 291 := ⟨by decide +kernel, rfl⟩
theorem d_law_291 : Dc code 291 (.iload_n 3) 1 292 := ⟨by decide +kernel, rfl⟩
theorem d_law_292 : Dc code 292 (.iconst 3) 1 293 := ⟨by decide +kernel, rfl⟩
theorem d_law_293 : Dc code 293 (.iadd) 1 294 := ⟨by decide +kernel, rfl⟩
theorem d_law_294 : Dc code 294 (.iaload) 1 295 := ⟨by decide +kernel, rfl⟩
theorem d_law_295 : Dc code 295 (.aload_n 0) 1 296 := ⟨by decide +kernel, rfl⟩
theorem d_law_296 : Dc code 296 (.iload_n 3) 1 297 := ⟨by decide +kernel, rfl⟩
theorem d_law_297 : Dc code 297 (.iconst 4) 1 298 := ⟨by decide +kernel, rfl⟩
theorem d_law_298 : Dc code 298 (.iadd) 1 299 := ⟨by decide +kernel, rfl⟩
theorem d_law_299 : Dc code 299 (.iaload) 1 300 := ⟨by decide +kernel, rfl⟩
theorem d_law_300 : Dc code 300 (.aload_n 0) 1 301 := ⟨by decide +kernel, rfl⟩
theorem d_law_301 : Dc code 301 (.iload_n 3) 1 302 := ⟨by decide +kernel, rfl⟩
theorem d_law_302 : Dc code 302 (.iconst 5) 1 303 := ⟨by decide +kernel, rfl⟩
theorem d_law_303 : Dc code 303 (.iadd) 1 304 := ⟨by decide +kernel, rfl⟩
theorem d_law_304 : Dc code 304 (.iaload) 1 305 := ⟨by decide +kernel, rfl⟩
theorem d_law_305 : Dc code 305 (.invokevirtual 44) 3 308 := ⟨by decide +kernel, rfl⟩
theorem d_law_308 : Dj code 308 (.if_icmp .eq 160) 160 311 468 := ⟨by decide +kernel, rfl, by decide⟩
theorem d_law_311 : Dc code 311 (.iconst 0) 1 312 := ⟨by decide +kernel, rfl⟩
theorem d_law_312 : Dc code 312 (.ireturn) 1 313 := ⟨by decide +kernel, rfl⟩
theorem d_law_313 : Dc code 313 (.aload_n 1) 1 314 := ⟨by decide +kernel, rfl⟩
theorem d_law_314 : Dc code 314 (.aload_n 0) 1 315 := ⟨by decide +kernel, rfl⟩
theorem d_law_315 : Dc code 315 (.iload_n 3) 1 316 := ⟨by decide +kernel, rfl⟩
theorem d_law_316 : Dc code 316 (.iconst 1) 1 317 := ⟨by decide +kernel, rfl⟩
theorem d_law_317 : Dc code 317 (.iadd) 1 318 := ⟨by decide +kernel, rfl⟩
theorem d_law_318 : Dc code 318 (.iaload) 1 319 := ⟨by decide +kernel, rfl⟩
theorem d_law_319 : Dc code 319 (.aload_n 0) 1 320 := ⟨by decide +kernel, rfl⟩
theorem d_law_320 : Dc code 320 (.iload_n 3) 1 321 := ⟨by decide +kernel, rfl⟩
theorem d_law_321 : Dc code 321 (.iconst 2) 1 322 := ⟨by decide +kernel, rfl⟩
theorem d_law_322 : Dc code 322 (.iadd) 1 323 := ⟨by decide +kernel, rfl⟩
theorem d_law_323 : Dc code 323 (.iaload) 1 324 := ⟨by decide +kernel, rfl⟩
theorem d_law_324 : Dc code 324 (.aload_n 0) 1 325 := ⟨by decide +kernel, rfl⟩
theorem d_law_325 : Dc code 325 (.iload_n 3) 1 326 := ⟨by decide +kernel, rfl⟩
theorem d_law_326 : Dc code 326 (.iconst 3) 1 327 := ⟨by decide +kernel, rfl⟩
theorem d_law_327 : Dc code 327 (.iadd) 1 328 := ⟨by decide +kernel, rfl⟩
theorem d_law_328 : Dc code 328 (.iaload) 1 329 := ⟨by decide +kernel, rfl⟩
theorem d_law_329 : Dc code 329 (.invokevirtual 45) 3 332 := ⟨by decide +kernel, rfl⟩
theorem d_law_332 : Dc code 332 (.aload_n 2) 1 333 := ⟨by decide +kernel, rfl⟩
theorem d_law_333 : Dc code 333 (.aload_n 0) 1 334 := ⟨by decide +kernel, rfl⟩
theorem d_law_334 : Dc code 334 (.iload_n 3) 1 335 := ⟨by decide +kernel, rfl⟩
theorem d_law_335 : Dc code 335 (.iconst 1) 1 336 := ⟨by decide +kernel, rfl⟩
theorem d_law_336 : Dc code 336 (.iadd) 1 337 := ⟨by decide +kernel, rfl⟩
theorem d_law_337 : Dc code 337 (.iaload) 1 338 := ⟨by decide +kernel, rfl⟩
theorem d_law_338 : Dc code 338 (.aload_n 0) 1 339 := ⟨by decide +kernel, rfl⟩
theorem d_law_339 : Dc code 339 (.iload_n 3) 1 340 := ⟨by decide +kernel, rfl⟩
theorem d_law_340 : Dc code 340 (.iconst 2) 1 341 := ⟨by decide +kernel, rfl⟩
theorem d_law_341 : Dc code 341 (.iadd) 1 342 := ⟨by decide +kernel, rfl⟩
theorem d_law_342 : Dc code 342 (.iaload) 1 343 := ⟨by decide +kernel, rfl⟩
theorem d_law_343 : Dc code 343 (.aload_n 0) 1 344 := ⟨by decide +kernel, rfl⟩
theorem d_law_344 : Dc code 344 (.iload_n 3) 1 345 := ⟨by decide +kernel, rfl⟩
theorem d_law_345 : Dc code 345 (.iconst 3) 1 346 := ⟨by decide +kernel, rfl⟩
theorem d_law_346 : Dc code 346 (.iadd) 1 347 := ⟨by decide +kernel, rfl⟩
theorem d_law_347 : Dc code 347 (.iaload) 1 348 := ⟨by decide +kernel, rfl⟩
theorem d_law_348 : Dc code 348 (.invokevirtual 49) 3 351 := ⟨by decide +kernel, rfl⟩
theorem d_law_351 : Dj code 351 (.if_icmp .eq 117) 117 354 468 := ⟨by decide +kernel, rfl, by decide⟩
theorem d_law_354 : Dc code 354 (.iconst 0) 1 355 := ⟨by decide +kernel, rfl⟩
theorem d_law_355 : Dc code 355 (.ireturn) 1 356 := ⟨by decide +kernel, rfl⟩
theorem d_law_356 : Dc code 356 (.aload_n 1) 1 357 := ⟨by decide +kernel, rfl⟩
theorem d_law_357 : Dc code 357 (.aload_n 0) 1 358 := ⟨by decide +kernel, rfl⟩
theorem d_law_358 : Dc code 358 (.iload_n 3) 1 359 := ⟨by decide +kernel, rfl⟩
theorem d_law_359 : Dc code 359 (.iconst 1) 1 360 := ⟨by decide +kernel, rfl⟩
theorem d_law_360 : Dc code 360 (.iadd) 1 361 := ⟨by decide +kernel, rfl⟩
theorem d_law_361 : Dc code 361 (.iaload) 1 362 := ⟨by decide +kernel, rfl⟩
theorem d_law_362 : Dc code 362 (.aload_n 0) 1 363 := ⟨by decide +kernel, rfl⟩
theorem d_law_363 : Dc code 363 (.iload_n 3) 1 364 := ⟨by decide +kernel, rfl⟩
theorem d_law_364 : Dc code 364 (.iconst 2) 1 365 := ⟨by decide +kernel, rfl⟩
theorem d_law_365 : Dc code 365 (.iadd) 1 366 := ⟨by decide +kernel, rfl⟩
theorem d_law_366 : Dc code 366 (.iaload) 1 367 := ⟨by decide +kernel, rfl⟩
theorem d_law_367 : Dc code 367 (.invokevirtual 50) 3 370 := ⟨by decide +kernel, rfl⟩
theorem d_law_370 : Dc code 370 (.aload_n 2) 1 371 := ⟨by decide +kernel, rfl⟩
theorem d_law_371 : Dc code 371 (.aload_n 0) 1 372 := ⟨by decide +kernel, rfl⟩
theorem d_law_372 : Dc code 372 (.iload_n 3) 1 373 := ⟨by decide +kernel, rfl⟩
theorem d_law_373 : Dc code 373 (.iconst 1) 1 374 := ⟨by decide +kernel, rfl⟩
theorem d_law_374 : Dc code 374 (.iadd) 1 375 := ⟨by decide +kernel, rfl⟩
theorem d_law_375 : Dc code 375 (.iaload) 1 376 := ⟨by decide +kernel, rfl⟩
theorem d_law_376 : Dc code 376 (.aload_n 0) 1 377 := ⟨by decide +kernel, rfl⟩
theorem d_law_377 : Dc code 377 (.iload_n 3) 1 378 := ⟨by decide +kernel, rfl⟩
theorem d_law_378 : Dc code 378 (.iconst 2) 1 379 := ⟨by decide +kernel, rfl⟩
theorem d_law_379 : Dc code 379 (.iadd) 1 380 := ⟨by decide +kernel, rfl⟩
theorem d_law_380 : Dc code 380 (.iaload) 1 381 := ⟨by decide +kernel, rfl⟩
theorem d_law_381 : Dc code 381 (.invokevirtual 54) 3 384 := ⟨by decide +kernel, rfl⟩
theorem d_law_384 : Dj code 384 (.if_icmp .eq 84) 84 387 468 := ⟨by decide +kernel, rfl, by decide⟩
theorem d_law_387 : Dc code 387 (.iconst 0) 1 388 := ⟨by decide +kernel, rfl⟩
theorem d_law_388 : Dc code 388 (.ireturn) 1 389 := ⟨by decide +kernel, rfl⟩
theorem d_law_389 : Dc code 389 (.aload_n 1) 1 390 := ⟨by decide +kernel, rfl⟩
theorem d_law_390 : Dc code 390 (.aload_n 0) 1 391 := ⟨by decide +kernel, rfl⟩
theorem d_law_391 : Dc code 391 (.iload_n 3) 1 392 := ⟨by decide +kernel, rfl⟩
theorem d_law_392 : Dc code 392 (.iconst 1) 1 393 := ⟨by decide +kernel, rfl⟩
theorem d_law_393 : Dc code 393 (.iadd) 1 394 := ⟨by decide +kernel, rfl⟩
theorem d_law_394 : Dc code 394 (.iaload) 1 395 := ⟨by decide +kernel, rfl⟩
theorem d_law_395 : Dc code 395 (.aload_n 0) 1 396 := ⟨by decide +kernel, rfl⟩
theorem d_law_396 : Dc code 396 (.iload_n 3) 1 397 := ⟨by decide +kernel, rfl⟩
theorem d_law_397 : Dc code 397 (.iconst 2) 1 398 := ⟨by decide +kernel, rfl⟩
theorem d_law_398 : Dc code 398 (.iadd) 1 399 := ⟨by decide +kernel, rfl⟩
theorem d_law_399 : Dc code 399 (.iaload) 1 400 := ⟨by decide +kernel, rfl⟩
theorem d_law_400 : Dc code 400 (.invokevirtual 55) 3 403 := ⟨by decide +kernel, rfl⟩
theorem d_law_403 : Dc code 403 (.aload_n 2) 1 404 := ⟨by decide +kernel, rfl⟩
theorem d_law_404 : Dc code 404 (.aload_n 0) 1 405 := ⟨by decide +kernel, rfl⟩
theorem d_law_405 : Dc code 405 (.iload_n 3) 1 406 := ⟨by decide +kernel, rfl⟩
theorem d_law_406 : Dc code 406 (.iconst 1) 1 407 := ⟨by decide +kernel, rfl⟩
theorem d_law_407 : Dc code 407 (.iadd) 1 408 := ⟨by decide +kernel, rfl⟩
theorem d_law_408 : Dc code 408 (.iaload) 1 409 := ⟨by decide +kernel, rfl⟩
theorem d_law_409 : Dc code 409 (.aload_n 0) 1 410 := ⟨by decide +kernel, rfl⟩
theorem d_law_410 : Dc code 410 (.iload_n 3) 1 411 := ⟨by decide +kernel, rfl⟩
theorem d_law_411 : Dc code 411 (.iconst 2) 1 412 := ⟨by decide +kernel, rfl⟩
theorem d_law_412 : Dc code 412 (.iadd) 1 413 := ⟨by decide +kernel, rfl⟩
theorem d_law_413 : Dc code 413 (.iaload) 1 414 := ⟨by decide +kernel, rfl⟩
theorem d_law_414 : Dc code 414 (.invokevirtual 58) 3 417 := ⟨by decide +kernel, rfl⟩
theorem d_law_417 : Dj code 417 (.if_icmp .eq 51) 51 420 468 := ⟨by decide +kernel, rfl, by decide⟩
theorem d_law_420 : Dc code 420 (.iconst 0) 1 421 := ⟨by decide +kernel, rfl⟩
theorem d_law_421 : Dc code 421 (.ireturn) 1 422 := ⟨by decide +kernel, rfl⟩
theorem d_law_422 : Dc code 422 (.aload_n 1) 1 423 := ⟨by decide +kernel, rfl⟩
theorem d_law_423 : Dc code 423 (.aload_n 0) 1 424 := ⟨by decide +kernel, rfl⟩
theorem d_law_424 : Dc code 424 (.iload_n 3) 1 425 := ⟨by decide +kernel, rfl⟩
theorem d_law_425 : Dc code 425 (.iconst 1) 1 426 := ⟨by decide +kernel, rfl⟩
theorem d_law_426 : Dc code 426 (.iadd) 1 427 := ⟨by decide +kernel, rfl⟩
theorem d_law_427 : Dc code 427 (.iaload) 1 428 := ⟨by decide +kernel, rfl⟩
theorem d_law_428 : Dc code 428 (.invokevirtual 59) 3 431 := ⟨by decide +kernel, rfl⟩
theorem d_law_431 : Dc code 431 (.aload_n 2) 1 432 := ⟨by decide +kernel, rfl⟩
theorem d_law_432 : Dc code 432 (.aload_n 0) 1 433 := ⟨by decide +kernel, rfl⟩
theorem d_law_433 : Dc code 433 (.iload_n 3) 1 434 := ⟨by decide +kernel, rfl⟩
theorem d_law_434 : Dc code 434 (.iconst 1) 1 435 := ⟨by decide +kernel, rfl⟩
theorem d_law_435 : Dc code 435 (.iadd) 1 436 := ⟨by decide +kernel, rfl⟩
theorem d_law_436 : Dc code 436 (.iaload) 1 437 := ⟨by decide +kernel, rfl⟩
theorem d_law_437 : Dc code 437 (.invokevirtual 62) 3 440 := ⟨by decide +kernel, rfl⟩
theorem d_law_440 : Dj code 440 (.if_icmp .eq 28) 28 443 468 := ⟨by decide +kernel, rfl, by decide⟩
theorem d_law_443 : Dc code 443 (.iconst 0) 1 444 := ⟨by decide +kernel, rfl⟩
theorem d_law_444 : Dc code 444 (.ireturn) 1 445 := ⟨by decide +kernel, rfl⟩
theorem d_law_445 : Dc code 445 (.aload_n 1) 1 446 := ⟨by decide +kernel, rfl⟩
theorem d_law_446 : Dc code 446 (.aload_n 0) 1 447 := ⟨by decide +kernel, rfl⟩
theorem d_law_447 : Dc code 447 (.iload_n 3) 1 448 := ⟨by decide +kernel, rfl⟩
theorem d_law_448 : Dc code 448 (.iconst 1) 1 449 := ⟨by decide +kernel, rfl⟩
theorem d_law_449 : Dc code 449 (.iadd) 1 450 := ⟨by decide +kernel, rfl⟩
theorem d_law_450 : Dc code 450 (.iaload) 1 451 := ⟨by decide +kernel, rfl⟩
theorem d_law_451 : Dc code 451 (.invokevirtual 63) 3 454 := ⟨by decide +kernel, rfl⟩
theorem d_law_454 : Dc code 454 (.aload_n 2) 1 455 := ⟨by decide +kernel, rfl⟩
theorem d_law_455 : Dc code 455 (.aload_n 0) 1 456 := ⟨by decide +kernel, rfl⟩
theorem d_law_456 : Dc code 456 (.iload_n 3) 1 457 := ⟨by decide +kernel, rfl⟩
theorem d_law_457 : Dc code 457 (.iconst 1) 1 458 := ⟨by decide +kernel, rfl⟩
theorem d_law_458 : Dc code 458 (.iadd) 1 459 := ⟨by decide +kernel, rfl⟩
theorem d_law_459 : Dc code 459 (.iaload) 1 460 := ⟨by decide +kernel, rfl⟩
theorem d_law_460 : Dc code 460 (.invokevirtual 66) 3 463 := ⟨by decide +kernel, rfl⟩
theorem d_law_463 : Dj code 463 (.if_icmp .eq 5) 5 466 468 := ⟨by decide +kernel, rfl, by decide⟩
theorem d_law_466 : Dc code 466 (.iconst 0) 1 467 := ⟨by decide +kernel, rfl⟩
theorem d_law_467 : Dc code 467 (.ireturn) 1 468 := ⟨by decide +kernel, rfl⟩
theorem d_law_468 : Dc code 468 (.iinc 3 6) 3 471 := ⟨by decide +kernel, rfl⟩
theorem d_law_471 : Dj code 471 (.goto (-433)) (-433) 474 38 := ⟨by decide +kernel, rfl, by decide⟩
theorem d_law_474 : Dc code 474 (.iconst 1) 1 475 := ⟨by decide +kernel, rfl⟩
theorem d_law_475 : Dc code 475 (.ireturn) 1 476 := ⟨by decide +kernel, rfl⟩
end
section
/-! ===== cells ===== -/
def cI (ta : Nat → ClassId) (n : Nat) (f : Nat → Int32) : va_E := .inl (ta 0, n, .inl f)
def cC (ta : Nat → ClassId) (n : Nat) (f : Nat → Int32) : va_E := .inl (ta 1, n, .inl f)
def cS (ta : Nat → ClassId) (n : Nat) (f : Nat → Int32) : va_E := .inl (ta 2, n, .inl f)
def cZ (ta : Nat → ClassId) (n : Nat) (f : Nat → Int32) : va_E := .inl (ta 3, n, .inl f)
def ed3 (a : Nat → Nat) : Nat → Option Nat := va_up (va_up (va_up (fun _ => none) 0 (some (a 11))) 1 (some (a 12))) 2 (some (a 13))
def cQ (ta : Nat → ClassId) (a : Nat → Nat) : va_E := .inl (ta 4, 3, .inr (.inr (.inr (.inr (ed3 a)))))
/-- the raster: a 0 itself, a 2 .. a 10 its arrays in the fields' order (colors depths stack seen xs ys zs edges order), a 11 .. a 13 the edges -/
def oTR (w h : Nat) (a : Nat → Nat) : va_E := .inr (0, [.int (nI w), .int (nI h), .ref (a 2), .ref (a 3), .ref (a 4), .ref (a 5), .ref (a 6), .ref (a 7), .ref (a 8), .ref (a 9), .ref (a 10)])
def oEd (now rt dn bg : Int64) (ls : Int32) : va_E := .inr (1, [.long now, .long rt, .long dn, .long bg, .int ls])
/-- the model: a 0 itself, a 2 .. a 7 colours depths xs ys zs marks -/
def oTM (w h : Nat) (a : Nat → Nat) : va_E := .inr (2, [.int (nI w), .int (nI h), .ref (a 2), .ref (a 3), .ref (a 4), .ref (a 5), .ref (a 6), .ref (a 7)])
section RN
variable {l : Launch} {cc : ByteArray} {nL : Nat} {own : String} {R : Room} {D : va_G} {ta : Nat → ClassId} {G : GT} {pc pc' tgt : Nat} {lv lv' : List (Nat × Value)} {st : List Value} {ws ws' : va_W}
theorem rx_iaddN (C : CX l cc nL own R D ta G) {a b : Nat} (hd : Dc cc pc .iadd 1 pc') (k : G pc' lv (.int (nI (a + b)) :: st) ws) : G pc lv (.int (nI b) :: .int (nI a) :: st) ws := rx_iadd C hd (by rw [nI_add]; exact k)
theorem rx_imulN (C : CX l cc nL own R D ta G) {a b : Nat} (hd : Dc cc pc .imul 1 pc') (k : G pc' lv (.int (nI (a * b)) :: st) ws) : G pc lv (.int (nI b) :: .int (nI a) :: st) ws := rx_imul C hd (by rw [pk_mul]; exact k)
theorem rx_isubN (C : CX l cc nL own R D ta G) {a b : Nat} (h : b ≤ a) (hd : Dc cc pc .isub 1 pc') (k : G pc' lv (.int (nI (a - b)) :: st) ws) : G pc lv (.int (nI b) :: .int (nI a) :: st) ws := rx_isub C hd (by rw [pk_sub h]; exact k)
theorem rx_iremN (C : CX l cc nL own R D ta G) {a b : Nat} (h0 : 0 < b) (ha : a < 2 ^ 31) (hb : b < 2 ^ 31) (hd : Dc cc pc .irem 1 pc') (k : G pc' lv (.int (nI (a % b)) :: st) ws) : G pc lv (.int (nI b) :: .int (nI a) :: st) ws := rx_irem C (nI_ne0 h0 hb) hd (by rw [pk_rem ha h0 hb]; exact k)
theorem rx_i2lN (C : CX l cc nL own R D ta G) {a : Nat} (ha : a < 2 ^ 31) (hd : Dc cc pc .i2l 1 pc') (k : G pc' lv (.long (lN a) :: st) ws) : G pc lv (.int (nI a) :: st) ws := rx_i2l C hd (by rw [nI_l ha]; exact k)
theorem rx_ws (k : G pc lv st ws') (h : ws = ws') : G pc lv st ws := h ▸ k
theorem rx_icmp_geN (C : CX l cc nL own R D ta G) {a b : Nat} {off : Int} (ha : a < 2 ^ 31) (hb : b < 2 ^ 31) (hd : Dj cc pc (.if_icmp .ge off) off pc' tgt) (kt : b ≤ a → G tgt lv st ws) (kf : a < b → G pc' lv st ws) : G pc lv (.int (nI b) :: .int (nI a) :: st) ws := rx_icmp_ge C hd (fun h => kt ((nI_leI hb ha).mp h)) (fun h => kf (by have := mt (nI_leI hb ha).mpr h; omega))
theorem rx_icmp_ltN (C : CX l cc nL own R D ta G) {a b : Nat} {off : Int} (ha : a < 2 ^ 31) (hb : b < 2 ^ 31) (hd : Dj cc pc (.if_icmp .lt off) off pc' tgt) (kt : a < b → G tgt lv st ws) (kf : b ≤ a → G pc' lv st ws) : G pc lv (.int (nI b) :: .int (nI a) :: st) ws := rx_icmp_lt C hd (fun h => kt ((nI_ltI ha hb).mp h)) (fun h => kf (by have := mt (nI_ltI ha hb).mpr h; omega))
theorem rx_icmp_gtN (C : CX l cc nL own R D ta G) {a b : Nat} {off : Int} (ha : a < 2 ^ 31) (hb : b < 2 ^ 31) (hd : Dj cc pc (.if_icmp .gt off) off pc' tgt) (kt : b < a → G tgt lv st ws) (kf : a ≤ b → G pc' lv st ws) : G pc lv (.int (nI b) :: .int (nI a) :: st) ws := rx_icmp_gt C hd (fun h => kt ((nI_ltI hb ha).mp h)) (fun h => kf (by have := mt (nI_ltI hb ha).mpr h; omega))
theorem rx_icmp_leN (C : CX l cc nL own R D ta G) {a b : Nat} {off : Int} (ha : a < 2 ^ 31) (hb : b < 2 ^ 31) (hd : Dj cc pc (.if_icmp .le off) off pc' tgt) (kt : a ≤ b → G tgt lv st ws) (kf : b < a → G pc' lv st ws) : G pc lv (.int (nI b) :: .int (nI a) :: st) ws := rx_icmp_le C hd (fun h => kt ((nI_leI ha hb).mp h)) (fun h => kf (by have := mt (nI_leI ha hb).mpr h; omega))
theorem rx_icmp_eqN (C : CX l cc nL own R D ta G) {a b : Nat} {off : Int} (ha : a < 2 ^ 31) (hb : b < 2 ^ 31) (hd : Dj cc pc (.if_icmp .eq off) off pc' tgt) (kt : a = b → G tgt lv st ws) (kf : a ≠ b → G pc' lv st ws) : G pc lv (.int (nI b) :: .int (nI a) :: st) ws := rx_icmp_eq C hd (fun h => kt ((nI_eq ha hb).mp h)) (fun h => kf (fun q => h ((nI_eq ha hb).mpr q)))
theorem rx_icmp_neN (C : CX l cc nL own R D ta G) {a b : Nat} {off : Int} (ha : a < 2 ^ 31) (hb : b < 2 ^ 31) (hd : Dj cc pc (.if_icmp .ne off) off pc' tgt) (kt : a ≠ b → G tgt lv st ws) (kf : a = b → G pc' lv st ws) : G pc lv (.int (nI b) :: .int (nI a) :: st) ws := rx_icmp_ne C hd (fun h => kt (fun q => h ((nI_eq ha hb).mpr q))) (fun h => kf ((nI_eq ha hb).mp h))
theorem rx_if_eqN (C : CX l cc nL own R D ta G) {a : Nat} {off : Int} (ha : a < 2 ^ 31) (hd : Dj cc pc (.ifCond .eq off) off pc' tgt) (kt : a = 0 → G tgt lv st ws) (kf : a ≠ 0 → G pc' lv st ws) : G pc lv (.int (nI a) :: st) ws := rx_if_eq C hd (fun h => kt ((nI_eq ha (by decide)).mp (h.trans nI_0.symm))) (fun h => kf (fun q => h (by rw [q]; exact nI_0)))
theorem rx_if_neN (C : CX l cc nL own R D ta G) {a : Nat} {off : Int} (ha : a < 2 ^ 31) (hd : Dj cc pc (.ifCond .ne off) off pc' tgt) (kt : a ≠ 0 → G tgt lv st ws) (kf : a = 0 → G pc' lv st ws) : G pc lv (.int (nI a) :: st) ws := rx_if_ne C hd (fun h => kt (fun q => h (by rw [q]; exact nI_0))) (fun h => kf ((nI_eq ha (by decide)).mp (h.trans nI_0.symm)))
theorem rx_if_gtN (C : CX l cc nL own R D ta G) {a : Nat} {off : Int} (ha : a < 2 ^ 31) (hd : Dj cc pc (.ifCond .gt off) off pc' tgt) (kt : 0 < a → G tgt lv st ws) (kf : a = 0 → G pc' lv st ws) : G pc lv (.int (nI a) :: st) ws := rx_if_gt C hd (fun h => kt ((nI_ltI (by decide) ha).mp (by rw [nI_0]; exact h))) (fun h => kf (by have := mt (nI_ltI (a := 0) (by decide) ha).mpr (by rw [nI_0]; exact h); omega))
theorem rx_if_leN (C : CX l cc nL own R D ta G) {a : Nat} {off : Int} (ha : a < 2 ^ 31) (hd : Dj cc pc (.ifCond .le off) off pc' tgt) (kt : a = 0 → G tgt lv st ws) (kf : 0 < a → G pc' lv st ws) : G pc lv (.int (nI a) :: st) ws := rx_if_le C hd (fun h => kt (by have := (nI_leI ha (by decide : (0:Nat) < 2 ^ 31)).mp (by rw [nI_0]; exact h); omega)) (fun h => kf (by have := mt (nI_leI (b := 0) ha (by decide)).mpr (by rw [nI_0]; exact h); omega))
theorem rx_lcmp_ge (C : CX l cc nL own R D ta G) {x y : Int64} {off : Int} {pc1 : Nat} (hc : Dc cc pc .lcmp 1 pc1) (hd : Dj cc pc1 (.ifCond .ge off) off pc' tgt) (kt : y ≤ x → G tgt lv st ws) (kf : ¬ y ≤ x → G pc' lv st ws) : G pc lv (.long y :: .long x :: st) ws := rx_lcmp C hc (rx_if_ge C hd (fun h => kt ((lg_cmp_ge x y).mp h)) (fun h => kf (mt (lg_cmp_ge x y).mpr h)))
theorem rx_lcmp_lt (C : CX l cc nL own R D ta G) {x y : Int64} {off : Int} {pc1 : Nat} (hc : Dc cc pc .lcmp 1 pc1) (hd : Dj cc pc1 (.ifCond .lt off) off pc' tgt) (kt : x < y → G tgt lv st ws) (kf : ¬ x < y → G pc' lv st ws) : G pc lv (.long y :: .long x :: st) ws := rx_lcmp C hc (rx_if_lt C hd (fun h => kt ((lg_cmp_lt x y).mp h)) (fun h => kf (mt (lg_cmp_lt x y).mpr h)))
theorem rx_lcmp_gt (C : CX l cc nL own R D ta G) {x y : Int64} {off : Int} {pc1 : Nat} (hc : Dc cc pc .lcmp 1 pc1) (hd : Dj cc pc1 (.ifCond .gt off) off pc' tgt) (kt : y < x → G tgt lv st ws) (kf : ¬ y < x → G pc' lv st ws) : G pc lv (.long y :: .long x :: st) ws := rx_lcmp C hc (rx_if_gt C hd (fun h => kt ((lg_cmp_gt x y).mp h)) (fun h => kf (mt (lg_cmp_gt x y).mpr h)))
theorem rx_lcmp_le (C : CX l cc nL own R D ta G) {x y : Int64} {off : Int} {pc1 : Nat} (hc : Dc cc pc .lcmp 1 pc1) (hd : Dj cc pc1 (.ifCond .le off) off pc' tgt) (kt : x ≤ y → G tgt lv st ws) (kf : ¬ x ≤ y → G pc' lv st ws) : G pc lv (.long y :: .long x :: st) ws := rx_lcmp C hc (rx_if_le C hd (fun h => kt ((lg_cmp_le x y).mp h)) (fun h => kf (mt (lg_cmp_le x y).mpr h)))
theorem rx_lcmp_eq (C : CX l cc nL own R D ta G) {x y : Int64} {off : Int} {pc1 : Nat} (hc : Dc cc pc .lcmp 1 pc1) (hd : Dj cc pc1 (.ifCond .eq off) off pc' tgt) (kt : x = y → G tgt lv st ws) (kf : ¬ x = y → G pc' lv st ws) : G pc lv (.long y :: .long x :: st) ws := rx_lcmp C hc (rx_if_eq C hd (fun h => kt ((lg_cmp_eq x y).mp h)) (fun h => kf (mt (lg_cmp_eq x y).mpr h)))
theorem rx_lcmp_ne (C : CX l cc nL own R D ta G) {x y : Int64} {off : Int} {pc1 : Nat} (hc : Dc cc pc .lcmp 1 pc1) (hd : Dj cc pc1 (.ifCond .ne off) off pc' tgt) (kt : ¬ x = y → G tgt lv st ws) (kf : x = y → G pc' lv st ws) : G pc lv (.long y :: .long x :: st) ws := rx_lcmp C hc (rx_if_ne C hd (fun h => kt (fun q => h ((lg_cmp_eq x y).mpr q))) (fun h => kf ((lg_cmp_eq x y).mp h)))
theorem rx_objInit (C : CX l cc nL own R D ta G) {a idx : Nat} (hw : Cond.methodLink own idx objectInit ∈ gw) (hR : 1 ≤ R.frames ∧ 20 ≤ R.locals) (hr : (st.map fun v => v.category).sum ≤ 8) (hd : Dc cc pc (.invokespecial idx) 3 pc') (k : G pc' lv st ws) : G pc lv (.ref a :: st) ws := by
  obtain ⟨p, e, s, m, args, below, meth, c, A, H0, Q, ck, cs, hx, hb, hml, ho, hts, hK, hck, hcs, rfl⟩ := C
  obtain ⟨hd, rfl⟩ := hd
  intro ls H locs hl hP hD hS
  exact W.objInit hx hb ho (hts _ hw) (hts _ g_12) (hts _ g_13) rfl (by rw [hml]; exact hl.1) rfl hd hR.1 (by have := lv_room (m := m) (pc := pc) (ls := ls) (rest := st) hr; have e9 : (F0 m pc ls (.ref a :: st)).monitorRoom = (F0 m pc ls st).monitorRoom := rfl; omega) (k ls H locs hl hP hD hS)
end RN
end
section
theorem cw_LW_21 : CwV "TriangleRasterLaw" 21 y_TR_clear b_TR_clear 4 (some .boolean) 2 := ⟨g_76, g_77, g_78, g_1, g_79, by decide, by decide, by decide +kernel⟩
theorem cw_LW_26 : CwV "TriangleRasterLaw" 26 y_TR_vertex b_TR_vertex 5 (some .boolean) 4 := ⟨g_81, g_82, g_83, g_1, g_84, by decide, by decide, by decide +kernel⟩
theorem cw_TR_52 : CwS "TriangleRaster" 52 y_TR_isFar b_TR_isFar 1 (some .boolean) 1 := ⟨g_85, g_86, g_1, g_87, by decide, by decide, by decide +kernel⟩
theorem cw_LW_31 : CwV "TriangleRasterLaw" 31 y_TR_triangle b_TR_triangle 11 (some .int) 1 := ⟨g_89, g_90, g_91, g_1, g_92, by decide, by decide, by decide +kernel⟩
theorem cw_TR_67 : CwV "TriangleRaster" 67 y_TR_turn b_TR_turn 6 (some .long) 0 := ⟨g_93, g_95, gs_TR_turn, g_1, g_96, by decide, by decide, by decide +kernel⟩
theorem cw_TR_57 : CwV "TriangleRaster" 57 y_Ed_set b_Ed_set 9 none 4 := ⟨g_97, g_98, g_99, g_2, g_100, by decide, by decide, by decide +kernel⟩
theorem cw_TR_61 : CwS "TriangleRaster" 61 y_Ma_absL b_Ma_absL 2 (some .long) 1 := ⟨g_102, g_103, g_4, g_104, by decide, by decide, by decide +kernel⟩
theorem cw_TR_71 : CwV "TriangleRaster" 71 y_Ed_toRow b_Ed_toRow 2 none 1 := ⟨g_105, g_106, g_107, g_2, g_108, by decide, by decide, by decide +kernel⟩
theorem cw_TR_75 : CwV "TriangleRaster" 75 y_Ed_isIn b_Ed_isIn 1 (some .boolean) 0 := ⟨g_109, g_110, g_111, g_2, g_112, by decide, by decide, by decide +kernel⟩
theorem cw_TR_79 : CwV "TriangleRaster" 79 y_TR_write b_TR_write 9 (some .boolean) 3 := ⟨g_113, g_115, gs_TR_write, g_1, g_116, by decide, by decide, by decide +kernel⟩
theorem cw_TR_83 : CwV "TriangleRaster" 83 y_Ed_toRight b_Ed_toRight 1 none 0 := ⟨g_117, g_118, g_119, g_2, g_120, by decide, by decide, by decide +kernel⟩
theorem cw_LW_36 : CwV "TriangleRasterLaw" 36 y_TR_covers b_TR_covers 3 (some .boolean) 2 := ⟨g_121, g_122, g_123, g_1, g_124, by decide, by decide, by decide +kernel⟩
theorem cw_TR_90 : CwV "TriangleRaster" 90 y_Ed_isIn2 b_Ed_isIn2 3 (some .boolean) 2 := ⟨g_125, g_126, g_127, g_2, g_128, by decide, by decide, by decide +kernel⟩
theorem cw_LW_40 : CwV "TriangleRasterLaw" 40 y_TR_line b_TR_line 19 (some .int) 5 := ⟨g_129, g_130, g_131, g_1, g_132, by decide, by decide, by decide +kernel⟩
theorem cw_TR_96 : CwS "TriangleRaster" 96 y_Ma_abs b_Ma_abs 1 (some .int) 1 := ⟨g_133, g_134, g_4, g_135, by decide, by decide, by decide +kernel⟩
theorem cw_TR_99 : CwS "TriangleRaster" 99 y_In_signum b_In_signum 1 (some .int) 1 := ⟨g_136, g_137, g_5, g_138, by decide, by decide, by decide +kernel⟩
theorem cw_TR_104 : CwV "TriangleRaster" 104 y_TR_set b_TR_set 4 (some .boolean) 3 := ⟨g_139, g_141, gs_TR_set, g_1, g_142, by decide, by decide, by decide +kernel⟩
theorem cw_TR_93 : CwV "TriangleRaster" 93 y_TR_isPixel b_TR_isPixel 3 (some .boolean) 2 := ⟨g_143, g_145, gs_TR_isPixel, g_1, g_146, by decide, by decide, by decide +kernel⟩
theorem cw_LW_45 : CwV "TriangleRasterLaw" 45 y_TR_fill b_TR_fill 6 (some .int) 3 := ⟨g_147, g_148, g_149, g_1, g_150, by decide, by decide, by decide +kernel⟩
theorem cw_TR_111 : CwV "TriangleRaster" 111 y_TR_forget b_TR_forget 2 none 0 := ⟨g_151, g_153, gs_TR_forget, g_1, g_154, by decide, by decide, by decide +kernel⟩
theorem cw_TR_114 : CwV "TriangleRaster" 114 y_TR_spread b_TR_spread 7 (some .int) 1 := ⟨g_155, g_157, gs_TR_spread, g_1, g_158, by decide, by decide, by decide +kernel⟩
theorem cw_TR_107 : CwV "TriangleRaster" 107 y_TR_push b_TR_push 4 (some .int) 3 := ⟨g_159, g_161, gs_TR_push, g_1, g_162, by decide, by decide, by decide +kernel⟩
theorem cw_LW_50 : CwV "TriangleRasterLaw" 50 y_TR_pixel b_TR_pixel 3 (some .int) 2 := ⟨g_163, g_164, g_165, g_1, g_166, by decide, by decide, by decide +kernel⟩
theorem cw_LW_55 : CwV "TriangleRasterLaw" 55 y_TR_depthAt b_TR_depthAt 3 (some .int) 2 := ⟨g_167, g_168, g_169, g_1, g_170, by decide, by decide, by decide +kernel⟩
theorem cw_LW_59 : CwV "TriangleRasterLaw" 59 y_TR_count b_TR_count 4 (some .int) 1 := ⟨g_171, g_172, g_173, g_1, g_174, by decide, by decide, by decide +kernel⟩
theorem cw_LW_63 : CwV "TriangleRasterLaw" 63 y_TR_pieces b_TR_pieces 4 (some .int) 1 := ⟨g_175, g_176, g_177, g_1, g_178, by decide, by decide, by decide +kernel⟩
theorem cw_LW_9 : CwS "TriangleRasterLaw" 9 y_LW_cell b_LW_cell 2 (some .int) 2 := ⟨g_179, g_180, g_0, g_181, by decide, by decide, by decide +kernel⟩
theorem cw_LW_25 : CwV "TriangleRasterLaw" 25 y_TM_clear b_TM_clear 4 (some .boolean) 2 := ⟨g_213, g_214, g_215, g_3, g_216, by decide, by decide, by decide +kernel⟩
theorem cw_LW_30 : CwV "TriangleRasterLaw" 30 y_TM_vertex b_TM_vertex 5 (some .boolean) 4 := ⟨g_218, g_219, g_220, g_3, g_221, by decide, by decide, by decide +kernel⟩
theorem cw_TM_37 : CwS "TriangleRasterModel" 37 y_TM_isFar b_TM_isFar 1 (some .boolean) 1 := ⟨g_222, g_223, g_3, g_224, by decide, by decide, by decide +kernel⟩
theorem cw_LW_35 : CwV "TriangleRasterLaw" 35 y_TM_triangle b_TM_triangle 5 (some .int) 1 := ⟨g_226, g_227, g_228, g_3, g_229, by decide, by decide, by decide +kernel⟩
theorem cw_TM_62 : CwV "TriangleRasterModel" 62 y_TM_isCovered b_TM_isCovered 9 (some .boolean) 2 := ⟨g_230, g_232, gs_TM_isCovered, g_3, g_233, by decide, by decide, by decide +kernel⟩
theorem cw_TM_54 : CwV "TriangleRasterModel" 54 y_TM_area b_TM_area 1 (some .long) 0 := ⟨g_236, g_238, gs_TM_area, g_3, g_239, by decide, by decide, by decide +kernel⟩
theorem cw_TM_42 : CwV "TriangleRasterModel" 42 y_TM_edge b_TM_edge 7 (some .long) 4 := ⟨g_240, g_242, gs_TM_edge, g_3, g_243, by decide, by decide, by decide +kernel⟩
theorem cw_TM_58 : CwV "TriangleRasterModel" 58 y_TM_isInside b_TM_isInside 9 (some .boolean) 4 := ⟨g_244, g_246, gs_TM_isInside, g_3, g_247, by decide, by decide, by decide +kernel⟩
theorem cw_TM_46 : CwV "TriangleRasterModel" 46 y_TM_isTopOrLeft b_TM_isTopOrLeft 3 (some .boolean) 2 := ⟨g_248, g_250, gs_TM_isTopOrLeft, g_3, g_251, by decide, by decide, by decide +kernel⟩
theorem cw_TM_65 : CwV "TriangleRasterModel" 65 y_TM_depthOf b_TM_depthOf 9 (some .int) 2 := ⟨g_252, g_254, gs_TM_depthOf, g_3, g_255, by decide, by decide, by decide +kernel⟩
theorem cw_LW_39 : CwV "TriangleRasterLaw" 39 y_TM_covers b_TM_covers 4 (some .boolean) 2 := ⟨g_256, g_257, g_258, g_3, g_259, by decide, by decide, by decide +kernel⟩
theorem cw_LW_44 : CwV "TriangleRasterLaw" 44 y_TM_line b_TM_line 16 (some .int) 5 := ⟨g_260, g_261, g_262, g_3, g_263, by decide, by decide, by decide +kernel⟩
theorem cw_TM_71 : CwS "TriangleRasterModel" 71 y_TM_sign b_TM_sign 1 (some .int) 1 := ⟨g_265, g_266, g_3, g_267, by decide, by decide, by decide +kernel⟩
theorem cw_TM_75 : CwV "TriangleRasterModel" 75 y_TM_isPixel b_TM_isPixel 3 (some .boolean) 2 := ⟨g_268, g_270, gs_TM_isPixel, g_3, g_271, by decide, by decide, by decide +kernel⟩
theorem cw_LW_49 : CwV "TriangleRasterLaw" 49 y_TM_fill b_TM_fill 6 (some .int) 3 := ⟨g_272, g_273, g_274, g_3, g_275, by decide, by decide, by decide +kernel⟩
theorem cw_TM_78 : CwV "TriangleRasterModel" 78 y_TM_unmark b_TM_unmark 2 none 0 := ⟨g_276, g_278, gs_TM_unmark, g_3, g_279, by decide, by decide, by decide +kernel⟩
theorem cw_TM_81 : CwV "TriangleRasterModel" 81 y_TM_mark b_TM_mark 10 (some .int) 2 := ⟨g_280, g_282, gs_TM_mark, g_3, g_283, by decide, by decide, by decide +kernel⟩
theorem cw_LW_66 : CwV "TriangleRasterLaw" 66 y_TM_pieces b_TM_pieces 5 (some .int) 1 := ⟨g_284, g_285, g_286, g_3, g_287, by decide, by decide, by decide +kernel⟩
theorem cw_LW_54 : CwV "TriangleRasterLaw" 54 y_TM_pixel b_TM_pixel 3 (some .int) 2 := ⟨g_288, g_289, g_290, g_3, g_291, by decide, by decide, by decide +kernel⟩
theorem cw_LW_58 : CwV "TriangleRasterLaw" 58 y_TM_depthAt b_TM_depthAt 3 (some .int) 2 := ⟨g_292, g_293, g_294, g_3, g_295, by decide, by decide, by decide +kernel⟩
theorem cw_LW_62 : CwV "TriangleRasterLaw" 62 y_TM_count b_TM_count 5 (some .int) 1 := ⟨g_296, g_297, g_298, g_3, g_299, by decide, by decide, by decide +kernel⟩
abbrev rm_Ed_init : Room := { frames := 1, cells := 0, slots := 0, locals := 20 }
abbrev rm_TR_clear : Room := { frames := 0, cells := 0, slots := 0, locals := 0 }
abbrev rm_TR_vertex : Room := { frames := 1, cells := 0, slots := 0, locals := 20 }
abbrev rm_TR_isFar : Room := { frames := 0, cells := 0, slots := 0, locals := 0 }
abbrev rm_TR_triangle : Room := { frames := 2, cells := 0, slots := 0, locals := 53 }
abbrev rm_TR_turn : Room := { frames := 1, cells := 0, slots := 0, locals := 28 }
abbrev rm_Ed_set : Room := { frames := 0, cells := 0, slots := 0, locals := 0 }
abbrev rm_Ma_absL : Room := { frames := 0, cells := 0, slots := 0, locals := 0 }
abbrev rm_Ed_toRow : Room := { frames := 0, cells := 0, slots := 0, locals := 0 }
abbrev rm_Ed_isIn : Room := { frames := 0, cells := 0, slots := 0, locals := 0 }
abbrev rm_TR_write : Room := { frames := 0, cells := 0, slots := 0, locals := 0 }
abbrev rm_Ed_toRight : Room := { frames := 0, cells := 0, slots := 0, locals := 0 }
abbrev rm_TR_covers : Room := { frames := 2, cells := 0, slots := 0, locals := 53 }
abbrev rm_Ed_isIn2 : Room := { frames := 0, cells := 0, slots := 0, locals := 0 }
abbrev rm_TR_line : Room := { frames := 2, cells := 0, slots := 0, locals := 45 }
abbrev rm_Ma_abs : Room := { frames := 0, cells := 0, slots := 0, locals := 0 }
abbrev rm_In_signum : Room := { frames := 0, cells := 0, slots := 0, locals := 0 }
abbrev rm_TR_set : Room := { frames := 1, cells := 0, slots := 0, locals := 22 }
abbrev rm_TR_isPixel : Room := { frames := 0, cells := 0, slots := 0, locals := 0 }
abbrev rm_TR_fill : Room := { frames := 2, cells := 0, slots := 0, locals := 49 }
abbrev rm_TR_forget : Room := { frames := 0, cells := 0, slots := 0, locals := 0 }
abbrev rm_TR_spread : Room := { frames := 1, cells := 0, slots := 0, locals := 23 }
abbrev rm_TR_push : Room := { frames := 0, cells := 0, slots := 0, locals := 0 }
abbrev rm_TR_pixel : Room := { frames := 1, cells := 0, slots := 0, locals := 22 }
abbrev rm_TR_depthAt : Room := { frames := 1, cells := 0, slots := 0, locals := 22 }
abbrev rm_TR_count : Room := { frames := 0, cells := 0, slots := 0, locals := 0 }
abbrev rm_TR_pieces : Room := { frames := 2, cells := 0, slots := 0, locals := 49 }
abbrev rm_LW_cell : Room := { frames := 0, cells := 0, slots := 0, locals := 0 }
abbrev rm_TM_clear : Room := { frames := 0, cells := 0, slots := 0, locals := 0 }
abbrev rm_TM_vertex : Room := { frames := 1, cells := 0, slots := 0, locals := 20 }
abbrev rm_TM_isFar : Room := { frames := 0, cells := 0, slots := 0, locals := 0 }
abbrev rm_TM_triangle : Room := { frames := 3, cells := 0, slots := 0, locals := 82 }
abbrev rm_TM_isCovered : Room := { frames := 2, cells := 0, slots := 0, locals := 54 }
abbrev rm_TM_area : Room := { frames := 1, cells := 0, slots := 0, locals := 26 }
abbrev rm_TM_edge : Room := { frames := 0, cells := 0, slots := 0, locals := 0 }
abbrev rm_TM_isInside : Room := { frames := 1, cells := 0, slots := 0, locals := 26 }
abbrev rm_TM_isTopOrLeft : Room := { frames := 0, cells := 0, slots := 0, locals := 0 }
abbrev rm_TM_depthOf : Room := { frames := 2, cells := 0, slots := 0, locals := 46 }
abbrev rm_TM_covers : Room := { frames := 3, cells := 0, slots := 0, locals := 82 }
abbrev rm_TM_line : Room := { frames := 1, cells := 0, slots := 0, locals := 22 }
abbrev rm_TM_sign : Room := { frames := 0, cells := 0, slots := 0, locals := 0 }
abbrev rm_TM_isPixel : Room := { frames := 0, cells := 0, slots := 0, locals := 0 }
abbrev rm_TM_fill : Room := { frames := 1, cells := 0, slots := 0, locals := 29 }
abbrev rm_TM_unmark : Room := { frames := 0, cells := 0, slots := 0, locals := 0 }
abbrev rm_TM_mark : Room := { frames := 0, cells := 0, slots := 0, locals := 0 }
abbrev rm_TM_pieces : Room := { frames := 1, cells := 0, slots := 0, locals := 29 }
abbrev rm_TM_pixel : Room := { frames := 1, cells := 0, slots := 0, locals := 22 }
abbrev rm_TM_depthAt : Room := { frames := 1, cells := 0, slots := 0, locals := 22 }
abbrev rm_TM_count : Room := { frames := 0, cells := 0, slots := 0, locals := 0 }
theorem nle32 {x y : Int32} (h : ¬ x ≤ y) : y < x := Int32.not_le.mp h
theorem nlt32 {x y : Int32} (h : ¬ x < y) : y ≤ x := Int32.not_lt.mp h
theorem tlt32 {x y : Int32} (h : x ≤ y) : ¬ y < x := Int32.not_lt.mpr h
theorem tle32 {x y : Int32} (h : x < y) : ¬ y ≤ x := Int32.not_le.mpr h
def farP (v : Int32) : Prop := v < -16384 ∨ 16384 < v
/-- a truth as the machine has it -/
def bI (p : Prop) (r : Int32) : Prop := (r = nI 1 ∧ p) ∨ (r = nI 0 ∧ ¬ p)
def sgn (v : Int32) : Int32 := if v < 0 then -1 else if 0 < v then 1 else 0
/-- a pixel, by its numbers -/
def isPx (w h : Nat) (x y : Int32) : Prop := ∃ i j : Nat, i < w ∧ j < h ∧ x = nI i ∧ y = nI j
theorem isPx_of {w h : Nat} {x y : Int32} (hw : w ≤ 24) (hh : h ≤ 24) (h1 : ¬ x < 0) (h2 : ¬ nI w ≤ x) (h3 : ¬ y < 0) (h4 : ¬ nI h ≤ y) : isPx w h x y := by
  obtain ⟨i, hi, rfl⟩ := nI_of h1
  obtain ⟨j, hj, rfl⟩ := nI_of h3
  refine ⟨i, j, ?_, ?_, rfl, rfl⟩
  · rw [nI_leI (by omega) hi] at h2; omega
  · rw [nI_leI (by omega) hj] at h4; omega
theorem isPx_not1 {w h : Nat} {x y : Int32} (hw : w ≤ 24) (h1 : x < 0 ∨ nI w ≤ x) : ¬ isPx w h x y := by
  rintro ⟨i, j, hi, hj, rfl, rfl⟩
  rcases h1 with h1 | h1
  · exact nI_pos (by omega) h1
  · rw [nI_leI (by omega) (by omega)] at h1; omega
theorem isPx_not2 {w h : Nat} {x y : Int32} (hw : h ≤ 24) (h1 : y < 0 ∨ nI h ≤ y) : ¬ isPx w h x y := by
  rintro ⟨i, j, hi, hj, rfl, rfl⟩
  rcases h1 with h1 | h1
  · exact nI_pos (by omega) h1
  · rw [nI_leI (by omega) (by omega)] at h1; omega
theorem isPx_inj {w h i j : Nat} {x y : Int32} (hw : w ≤ 24) (hh : h ≤ 24) (hx : x = nI i) (hy : y = nI j) (hi : i < 2 ^ 31) (hj : j < 2 ^ 31) (h9 : isPx w h x y) : i < w ∧ j < h := by
  obtain ⟨a, b, ha, hb, e1, e2⟩ := h9
  subst hx; subst hy
  rw [nI_eq (by omega) (by omega)] at e1 e2
  omega
set_option maxHeartbeats 4000000 in
set_option maxRecDepth 100000 in
theorem c_TR_isFar (l : Launch) (D : va_G) (ta : Nat → ClassId) (v : Int32) : Cti l y_TR_isFar b_TR_isFar 1 .boolean rm_TR_isFar D ta [.int (v)] [] (fun _ : Unit => []) (fun r _ => bI (farP v) r) := by
  refine start_i rfl (Nat.le_of_ble_eq_true rfl) (fun G C hret => ?_)
  show G 0 [(0, .int (v))] [] []
  refine rx_iload_n C 0 rfl d_TR_isFar_0 ?_
  refine rx_sipush C (-16384) (by decide) d_TR_isFar_1 ?_
  refine rx_icmp_lt C d_TR_isFar_4 (fun c4 => ?_) (fun c4 => ?_)
  · skip
    refine rx_iconst C (nI 1) (by decide) d_TR_isFar_14 ?_
    refine rx_goto C d_TR_isFar_15 ?_
    exact hret _ _ _ _ () d_TR_isFar_19 (rfl) (Or.inl ⟨rfl, Or.inl c4⟩)
  · skip
    refine rx_iload_n C 0 rfl d_TR_isFar_7 ?_
    refine rx_sipush C (nI 16384) (by decide) d_TR_isFar_8 ?_
    refine rx_icmp_le C d_TR_isFar_11 (fun c11 => ?_) (fun c11 => ?_)
    · skip
      refine rx_iconst C (nI 0) (by decide) d_TR_isFar_18 ?_
      exact hret _ _ _ _ () d_TR_isFar_19 (rfl) (Or.inr ⟨rfl, not_or.mpr ⟨c4, tlt32 c11⟩⟩)
    · skip
      refine rx_iconst C (nI 1) (by decide) d_TR_isFar_14 ?_
      refine rx_goto C d_TR_isFar_15 ?_
      exact hret _ _ _ _ () d_TR_isFar_19 (rfl) (Or.inl ⟨rfl, Or.inr (nle32 c11)⟩)
set_option maxHeartbeats 4000000 in
set_option maxRecDepth 100000 in
theorem c_TR_isPixel (l : Launch) (D : va_G) (ta : Nat → ClassId) (w h : Nat) (a : Nat → Nat) (x y : Int32) (hw : w ≤ 24) (hh : h ≤ 24) : Cti l y_TR_isPixel b_TR_isPixel 3 .boolean rm_TR_isPixel D ta [.ref (a 0), .int (x), .int (y)] [(a 0, oTR w h a)] (fun _ : Unit => [(a 0, oTR w h a)]) (fun r _ => bI (isPx w h x y) r) := by
  refine start_i rfl (Nat.le_of_ble_eq_true rfl) (fun G C hret => ?_)
  show G 0 [(0, .ref (a 0)), (1, .int (x)), (2, .int (y))] [] [(a 0, oTR w h a)]
  refine rx_iload_n C 1 rfl d_TR_isPixel_0 ?_
  refine rx_if_lt C d_TR_isPixel_1 (fun c1 => ?_) (fun c1 => ?_)
  · skip
    refine rx_iconst C (nI 0) (by decide) d_TR_isPixel_28 ?_
    exact hret _ _ _ _ () d_TR_isPixel_29 (rfl) (Or.inr ⟨rfl, isPx_not1 hw (Or.inl c1)⟩)
  · skip
    refine rx_iload_n C 1 rfl d_TR_isPixel_4 ?_
    refine rx_aload_n C 0 rfl d_TR_isPixel_5 ?_
    refine rx_get C 0 0 i_TR rfl rfl (by decide) g_42 rfl rfl d_TR_isPixel_6 ?_
    refine rx_icmp_ge C d_TR_isPixel_9 (fun c9 => ?_) (fun c9 => ?_)
    · skip
      refine rx_iconst C (nI 0) (by decide) d_TR_isPixel_28 ?_
      exact hret _ _ _ _ () d_TR_isPixel_29 (rfl) (Or.inr ⟨rfl, isPx_not1 hw (Or.inr c9)⟩)
    · skip
      refine rx_iload_n C 2 rfl d_TR_isPixel_12 ?_
      refine rx_if_lt C d_TR_isPixel_13 (fun c13 => ?_) (fun c13 => ?_)
      · skip
        refine rx_iconst C (nI 0) (by decide) d_TR_isPixel_28 ?_
        exact hret _ _ _ _ () d_TR_isPixel_29 (rfl) (Or.inr ⟨rfl, isPx_not2 hh (Or.inl c13)⟩)
      · skip
        refine rx_iload_n C 2 rfl d_TR_isPixel_16 ?_
        refine rx_aload_n C 0 rfl d_TR_isPixel_17 ?_
        refine rx_get C 0 1 i_TR rfl rfl (by decide) g_43 rfl rfl d_TR_isPixel_18 ?_
        refine rx_icmp_ge C d_TR_isPixel_21 (fun c21 => ?_) (fun c21 => ?_)
        · skip
          refine rx_iconst C (nI 0) (by decide) d_TR_isPixel_28 ?_
          exact hret _ _ _ _ () d_TR_isPixel_29 (rfl) (Or.inr ⟨rfl, isPx_not2 hh (Or.inr c21)⟩)
        · skip
          refine rx_iconst C (nI 1) (by decide) d_TR_isPixel_24 ?_
          refine rx_goto C d_TR_isPixel_25 ?_
          exact hret _ _ _ _ () d_TR_isPixel_29 (rfl) (Or.inl ⟨rfl, isPx_of hw hh c1 c9 c13 c21⟩)
set_option maxHeartbeats 4000000 in
set_option maxRecDepth 100000 in
theorem c_TM_isFar (l : Launch) (D : va_G) (ta : Nat → ClassId) (v : Int32) : Cti l y_TM_isFar b_TM_isFar 1 .boolean rm_TM_isFar D ta [.int (v)] [] (fun _ : Unit => []) (fun r _ => bI (farP v) r) := by
  refine start_i rfl (Nat.le_of_ble_eq_true rfl) (fun G C hret => ?_)
  show G 0 [(0, .int (v))] [] []
  refine rx_iload_n C 0 rfl d_TM_isFar_0 ?_
  refine rx_sipush C (-16384) (by decide) d_TM_isFar_1 ?_
  refine rx_icmp_lt C d_TM_isFar_4 (fun c4 => ?_) (fun c4 => ?_)
  · skip
    refine rx_iconst C (nI 1) (by decide) d_TM_isFar_14 ?_
    refine rx_goto C d_TM_isFar_15 ?_
    exact hret _ _ _ _ () d_TM_isFar_19 (rfl) (Or.inl ⟨rfl, Or.inl c4⟩)
  · skip
    refine rx_iload_n C 0 rfl d_TM_isFar_7 ?_
    refine rx_sipush C (nI 16384) (by decide) d_TM_isFar_8 ?_
    refine rx_icmp_le C d_TM_isFar_11 (fun c11 => ?_) (fun c11 => ?_)
    · skip
      refine rx_iconst C (nI 0) (by decide) d_TM_isFar_18 ?_
      exact hret _ _ _ _ () d_TM_isFar_19 (rfl) (Or.inr ⟨rfl, not_or.mpr ⟨c4, tlt32 c11⟩⟩)
    · skip
      refine rx_iconst C (nI 1) (by decide) d_TM_isFar_14 ?_
      refine rx_goto C d_TM_isFar_15 ?_
      exact hret _ _ _ _ () d_TM_isFar_19 (rfl) (Or.inl ⟨rfl, Or.inr (nle32 c11)⟩)
set_option maxHeartbeats 4000000 in
set_option maxRecDepth 100000 in
theorem c_TM_isPixel (l : Launch) (D : va_G) (ta : Nat → ClassId) (w h : Nat) (a : Nat → Nat) (x y : Int32) (hw : w ≤ 24) (hh : h ≤ 24) : Cti l y_TM_isPixel b_TM_isPixel 3 .boolean rm_TM_isPixel D ta [.ref (a 0), .int (x), .int (y)] [(a 0, oTM w h a)] (fun _ : Unit => [(a 0, oTM w h a)]) (fun r _ => bI (isPx w h x y) r) := by
  refine start_i rfl (Nat.le_of_ble_eq_true rfl) (fun G C hret => ?_)
  show G 0 [(0, .ref (a 0)), (1, .int (x)), (2, .int (y))] [] [(a 0, oTM w h a)]
  refine rx_iload_n C 1 rfl d_TM_isPixel_0 ?_
  refine rx_if_lt C d_TM_isPixel_1 (fun c1 => ?_) (fun c1 => ?_)
  · skip
    refine rx_iconst C (nI 0) (by decide) d_TM_isPixel_28 ?_
    exact hret _ _ _ _ () d_TM_isPixel_29 (rfl) (Or.inr ⟨rfl, isPx_not1 hw (Or.inl c1)⟩)
  · skip
    refine rx_iload_n C 1 rfl d_TM_isPixel_4 ?_
    refine rx_aload_n C 0 rfl d_TM_isPixel_5 ?_
    refine rx_get C 0 0 i_TM rfl rfl (by decide) g_188 rfl rfl d_TM_isPixel_6 ?_
    refine rx_icmp_ge C d_TM_isPixel_9 (fun c9 => ?_) (fun c9 => ?_)
    · skip
      refine rx_iconst C (nI 0) (by decide) d_TM_isPixel_28 ?_
      exact hret _ _ _ _ () d_TM_isPixel_29 (rfl) (Or.inr ⟨rfl, isPx_not1 hw (Or.inr c9)⟩)
    · skip
      refine rx_iload_n C 2 rfl d_TM_isPixel_12 ?_
      refine rx_if_lt C d_TM_isPixel_13 (fun c13 => ?_) (fun c13 => ?_)
      · skip
        refine rx_iconst C (nI 0) (by decide) d_TM_isPixel_28 ?_
        exact hret _ _ _ _ () d_TM_isPixel_29 (rfl) (Or.inr ⟨rfl, isPx_not2 hh (Or.inl c13)⟩)
      · skip
        refine rx_iload_n C 2 rfl d_TM_isPixel_16 ?_
        refine rx_aload_n C 0 rfl d_TM_isPixel_17 ?_
        refine rx_get C 0 1 i_TM rfl rfl (by decide) g_189 rfl rfl d_TM_isPixel_18 ?_
        refine rx_icmp_ge C d_TM_isPixel_21 (fun c21 => ?_) (fun c21 => ?_)
        · skip
          refine rx_iconst C (nI 0) (by decide) d_TM_isPixel_28 ?_
          exact hret _ _ _ _ () d_TM_isPixel_29 (rfl) (Or.inr ⟨rfl, isPx_not2 hh (Or.inr c21)⟩)
        · skip
          refine rx_iconst C (nI 1) (by decide) d_TM_isPixel_24 ?_
          refine rx_goto C d_TM_isPixel_25 ?_
          exact hret _ _ _ _ () d_TM_isPixel_29 (rfl) (Or.inl ⟨rfl, isPx_of hw hh c1 c9 c13 c21⟩)
theorem rx_mabs {l : Launch} {cc : ByteArray} {nL : Nat} {own : String} {R : Room} {D : va_G} {ta : Nat → ClassId} {G : GT} {pc pc' idx : Nat} {lv : List (Nat × Value)} {st : List Value} {ws : va_W} (C : CX l cc nL own R D ta G) {x : Int32} (hw : Cond.methodLink own idx y_Ma_abs ∈ gw) (hR : 1 ≤ R.frames) (hl0 : (st.map fun v => v.category).sum + 13 ≤ R.locals) (hd : Dc cc pc (.invokestatic idx) 3 pc') (k : G pc' lv (.int (if 0 ≤ x then x else 0 - x) :: st) ws) : G pc lv (.int x :: st) ws := by
  obtain ⟨p, e, s, m, args, below, meth, c, A, H0, Q, ck, cs, hx, hb, hml, ho, hts, hK, hck, hcs, rfl⟩ := C
  obtain ⟨hd, rfl⟩ := hd
  exact fun ls H locs hl hP hD hS => va_mabs hx hb (hml.trans hl.1.symm) ho (hts _ hw) (hts _ g_134) (hts _ g_4) (hts _ g_135) hR hl0 hck hcs hd (k ls H locs hl hP hD hS)
theorem rx_mabsL {l : Launch} {cc : ByteArray} {nL : Nat} {own : String} {R : Room} {D : va_G} {ta : Nat → ClassId} {G : GT} {pc pc' idx : Nat} {lv : List (Nat × Value)} {st : List Value} {ws : va_W} (C : CX l cc nL own R D ta G) {x : Int64} (hw : Cond.methodLink own idx y_Ma_absL ∈ gw) (hR : 1 ≤ R.frames) (hl0 : (st.map fun v => v.category).sum + 13 ≤ R.locals) (hd : Dc cc pc (.invokestatic idx) 3 pc') (k : G pc' lv (.long (if 0 < x then x else -x) :: st) ws) : G pc lv (.long x :: st) ws := by
  obtain ⟨p, e, s, m, args, below, meth, c, A, H0, Q, ck, cs, hx, hb, hml, ho, hts, hK, hck, hcs, rfl⟩ := C
  obtain ⟨hd, rfl⟩ := hd
  exact fun ls H locs hl hP hD hS => va_mabs_long hx hb (hml.trans hl.1.symm) ho (hts _ hw) (hts _ g_103) (hts _ g_4) (hts _ g_104) hR hl0 hck hcs hd (k ls H locs hl hP hD hS)
set_option maxHeartbeats 4000000 in
set_option maxRecDepth 100000 in
theorem c_In_signum (l : Launch) (D : va_G) (ta : Nat → ClassId) (v : Int32) : Cti l y_In_signum b_In_signum 1 .int rm_In_signum D ta [.int (v)] [] (fun _ : Unit => []) (fun r _ => r = (v >>> (nI 31 &&& 31)) ||| ((-v).toUInt32 >>> ((nI 31).toUInt32 &&& Int32.toUInt32 31)).toInt32) := by
  refine start_i rfl (Nat.le_of_ble_eq_true rfl) (fun G C hret => ?_)
  show G 0 [(0, .int (v))] [] []
  refine rx_iload_n C 0 rfl d_In_signum_0 ?_
  refine rx_bipush C (nI 31) (by decide) d_In_signum_1 ?_
  refine rx_ishr C d_In_signum_3 ?_
  refine rx_iload_n C 0 rfl d_In_signum_4 ?_
  refine rx_ineg C d_In_signum_5 ?_
  refine rx_bipush C (nI 31) (by decide) d_In_signum_6 ?_
  refine rx_iushr C d_In_signum_8 ?_
  refine rx_ior C d_In_signum_9 ?_
  exact hret _ _ _ _ () d_In_signum_10 (rfl) (rfl)
set_option maxHeartbeats 4000000 in
set_option maxRecDepth 100000 in
theorem c_TM_sign (l : Launch) (D : va_G) (ta : Nat → ClassId) (v : Int32) : Cti l y_TM_sign b_TM_sign 1 .int rm_TM_sign D ta [.int (v)] [] (fun _ : Unit => []) (fun r _ => r = sgn v) := by
  refine start_i rfl (Nat.le_of_ble_eq_true rfl) (fun G C hret => ?_)
  show G 0 [(0, .int (v))] [] []
  refine rx_iload_n C 0 rfl d_TM_sign_0 ?_
  refine rx_if_ge C d_TM_sign_1 (fun c1 => ?_) (fun c1 => ?_)
  · skip
    refine rx_iload_n C 0 rfl d_TM_sign_8 ?_
    refine rx_if_le C d_TM_sign_9 (fun c9 => ?_) (fun c9 => ?_)
    · skip
      refine rx_iconst C (nI 0) (by decide) d_TM_sign_16 ?_
      exact hret _ _ _ _ () d_TM_sign_17 (rfl) (by unfold sgn; rw [if_neg (tlt32 c1), if_neg (tlt32 c9)]; rfl)
    · skip
      refine rx_iconst C (nI 1) (by decide) d_TM_sign_12 ?_
      refine rx_goto C d_TM_sign_13 ?_
      exact hret _ _ _ _ () d_TM_sign_17 (rfl) (by unfold sgn; rw [if_neg (tlt32 c1), if_pos (nle32 c9)]; rfl)
  · skip
    refine rx_iconst C (-1) (by decide) d_TM_sign_4 ?_
    refine rx_goto C d_TM_sign_5 ?_
    exact hret _ _ _ _ () d_TM_sign_17 (rfl) (by unfold sgn; rw [if_pos (nle32 c1)])
set_option maxHeartbeats 4000000 in
set_option maxRecDepth 100000 in
theorem c_Ed_init (l : Launch) (D : va_G) (ta : Nat → ClassId) (e : Nat) (now rt dn bg : Int64) (ls : Int32) : Ctv l y_Ed_init b_Ed_init 1 rm_Ed_init D ta [.ref (e)] [(e, oEd (now) (rt) (dn) (bg) (ls))] (fun _ : Unit => [(e, oEd (now) (rt) (dn) (bg) (ls))]) (fun _ => True) := by
  refine start_v rfl (Nat.le_of_ble_eq_true rfl) (fun G C hret => ?_)
  show G 0 [(0, .ref (e))] [] [(e, oEd (now) (rt) (dn) (bg) (ls))]
  refine rx_aload_n C 0 rfl d_Ed_init_0 ?_
  refine rx_objInit C g_20 (by decide) (Nat.le_of_ble_eq_true rfl) d_Ed_init_1 ?_
  exact hret _ _ _ () d_Ed_init_4 (trivial)
def lsE (ax ay bx by_ : Int32) : Int32 := if (by_ - ay).toInt64 < 0 ∨ ((by_ - ay).toInt64 = 0 ∧ 0 < (bx - ax).toInt64) then 0 else 1
def bgE (ax ay bx by_ : Int32) : Int64 := (bx - ax).toInt64 * (8 - ay).toInt64 - (by_ - ay).toInt64 * (8 - ax).toInt64
set_option maxHeartbeats 4000000 in
set_option maxRecDepth 100000 in
theorem c_Ed_set (l : Launch) (D : va_G) (ta : Nat → ClassId) (e : Nat) (now rt dn bg : Int64) (ls : Int32) (ax ay bx by_ : Int32) : Ctv l y_Ed_set b_Ed_set 9 rm_Ed_set D ta [.ref (e), .int (ax), .int (ay), .int (bx), .int (by_)] [(e, oEd (now) (rt) (dn) (bg) (ls))] (fun _ : Unit => [(e, oEd (now) (-((by_ - ay).toInt64) * 16) ((bx - ax).toInt64 * 16) (bgE ax ay bx by_) (lsE ax ay bx by_))]) (fun _ => True) := by
  refine start_v rfl (Nat.le_of_ble_eq_true rfl) (fun G C hret => ?_)
  show G 0 [(0, .ref (e)), (1, .int (ax)), (2, .int (ay)), (3, .int (bx)), (4, .int (by_))] [] [(e, oEd (now) (rt) (dn) (bg) (ls))]
  refine rx_iload_n C 3 rfl d_Ed_set_0 ?_
  refine rx_iload_n C 1 rfl d_Ed_set_1 ?_
  refine rx_isub C d_Ed_set_2 ?_
  refine rx_i2l C d_Ed_set_3 ?_
  refine rx_lstore C (Nat.le_of_ble_eq_true rfl) [1, 2, 3, 4, 5, 0] (lv' := [(0, .ref (e)), (1, .int (ax)), (2, .int (ay)), (3, .int (bx)), (4, .int (by_)), (5, .long ((bx - ax).toInt64))]) rfl d_Ed_set_4 ?_
  refine rx_iload C 4 rfl d_Ed_set_6 ?_
  refine rx_iload_n C 2 rfl d_Ed_set_8 ?_
  refine rx_isub C d_Ed_set_9 ?_
  refine rx_i2l C d_Ed_set_10 ?_
  refine rx_lstore C (Nat.le_of_ble_eq_true rfl) [1, 2, 3, 4, 5, 6, 0] (lv' := [(0, .ref (e)), (1, .int (ax)), (2, .int (ay)), (3, .int (bx)), (4, .int (by_)), (5, .long ((bx - ax).toInt64)), (7, .long ((by_ - ay).toInt64))]) rfl d_Ed_set_11 ?_
  refine rx_aload_n C 0 rfl d_Ed_set_13 ?_
  refine rx_lload C 5 rfl d_Ed_set_14 ?_
  refine rx_bipush C (nI 8) (by decide) d_Ed_set_16 ?_
  refine rx_iload_n C 2 rfl d_Ed_set_18 ?_
  refine rx_isub C d_Ed_set_19 ?_
  refine rx_i2l C d_Ed_set_20 ?_
  refine rx_lmul C d_Ed_set_21 ?_
  refine rx_lload C 6 rfl d_Ed_set_22 ?_
  refine rx_bipush C (nI 8) (by decide) d_Ed_set_24 ?_
  refine rx_iload_n C 1 rfl d_Ed_set_26 ?_
  refine rx_isub C d_Ed_set_27 ?_
  refine rx_i2l C d_Ed_set_28 ?_
  refine rx_lmul C d_Ed_set_29 ?_
  refine rx_lsub C d_Ed_set_30 ?_
  refine rx_put C 0 3 i_Ed t_Ed t_Ed_ok n_Ed rfl rfl (by decide) g_25 rfl rfl (rfl) (rfl) (Nat.le_of_ble_eq_true rfl) (ws' := [(e, oEd (now) (rt) (dn) ((((bx - ax).toInt64) * (((nI (8)) - ay).toInt64)) - (((by_ - ay).toInt64) * (((nI (8)) - ax).toInt64))) (ls))]) rfl d_Ed_set_31 ?_
  refine rx_aload_n C 0 rfl d_Ed_set_34 ?_
  refine rx_lload C 6 rfl d_Ed_set_35 ?_
  refine rx_lneg C d_Ed_set_37 ?_
  refine rx_ldc2 C g_101 d_Ed_set_38 ?_
  refine rx_lmul C d_Ed_set_41 ?_
  refine rx_put C 0 1 i_Ed t_Ed t_Ed_ok n_Ed rfl rfl (by decide) g_23 rfl rfl (rfl) (rfl) (Nat.le_of_ble_eq_true rfl) (ws' := [(e, oEd (now) ((-((by_ - ay).toInt64)) * 16) (dn) ((((bx - ax).toInt64) * (((nI (8)) - ay).toInt64)) - (((by_ - ay).toInt64) * (((nI (8)) - ax).toInt64))) (ls))]) rfl d_Ed_set_42 ?_
  refine rx_aload_n C 0 rfl d_Ed_set_45 ?_
  refine rx_lload C 5 rfl d_Ed_set_46 ?_
  refine rx_ldc2 C g_101 d_Ed_set_48 ?_
  refine rx_lmul C d_Ed_set_51 ?_
  refine rx_put C 0 2 i_Ed t_Ed t_Ed_ok n_Ed rfl rfl (by decide) g_24 rfl rfl (rfl) (rfl) (Nat.le_of_ble_eq_true rfl) (ws' := [(e, oEd (now) ((-((by_ - ay).toInt64)) * 16) (((bx - ax).toInt64) * 16) ((((bx - ax).toInt64) * (((nI (8)) - ay).toInt64)) - (((by_ - ay).toInt64) * (((nI (8)) - ax).toInt64))) (ls))]) rfl d_Ed_set_52 ?_
  refine rx_aload_n C 0 rfl d_Ed_set_55 ?_
  refine rx_lload C 6 rfl d_Ed_set_56 ?_
  refine rx_lconst C 0 (by decide) d_Ed_set_58 ?_
  refine rx_lcmp_lt C d_Ed_set_59 d_Ed_set_60 (fun c59 => ?_) (fun c59 => ?_)
  · skip
    have hls : lsE ax ay bx by_ = 0 := if_pos (Or.inl c59)
    refine rx_iconst C (nI 0) (by decide) d_Ed_set_77 ?_
    refine rx_goto C d_Ed_set_78 ?_
    refine rx_put C 0 4 i_Ed t_Ed t_Ed_ok n_Ed rfl rfl (by decide) g_26 rfl rfl (rfl) (rfl) (Nat.le_of_ble_eq_true rfl) (ws' := [(e, oEd (now) ((-((by_ - ay).toInt64)) * 16) (((bx - ax).toInt64) * 16) ((((bx - ax).toInt64) * (((nI (8)) - ay).toInt64)) - (((by_ - ay).toInt64) * (((nI (8)) - ax).toInt64))) (nI (0)))]) rfl d_Ed_set_82 ?_
    refine rx_ws (ws' := [(e, oEd (now) (-((by_ - ay).toInt64) * 16) ((bx - ax).toInt64 * 16) (bgE ax ay bx by_) (lsE ax ay bx by_))]) ?_ (by rw [hls]; rfl)
    exact hret _ _ _ () d_Ed_set_85 (trivial)
  · skip
    refine rx_lload C 6 rfl d_Ed_set_63 ?_
    refine rx_lconst C 0 (by decide) d_Ed_set_65 ?_
    refine rx_lcmp_ne C d_Ed_set_66 d_Ed_set_67 (fun c66 => ?_) (fun c66 => ?_)
    · skip
      have hls : lsE ax ay bx by_ = 1 := if_neg (not_or.mpr ⟨c59, fun q => c66 q.1⟩)
      refine rx_iconst C (nI 1) (by decide) d_Ed_set_81 ?_
      refine rx_put C 0 4 i_Ed t_Ed t_Ed_ok n_Ed rfl rfl (by decide) g_26 rfl rfl (rfl) (rfl) (Nat.le_of_ble_eq_true rfl) (ws' := [(e, oEd (now) ((-((by_ - ay).toInt64)) * 16) (((bx - ax).toInt64) * 16) ((((bx - ax).toInt64) * (((nI (8)) - ay).toInt64)) - (((by_ - ay).toInt64) * (((nI (8)) - ax).toInt64))) (nI (1)))]) rfl d_Ed_set_82 ?_
      refine rx_ws (ws' := [(e, oEd (now) (-((by_ - ay).toInt64) * 16) ((bx - ax).toInt64 * 16) (bgE ax ay bx by_) (lsE ax ay bx by_))]) ?_ (by rw [hls]; rfl)
      exact hret _ _ _ () d_Ed_set_85 (trivial)
    · skip
      refine rx_lload C 5 rfl d_Ed_set_70 ?_
      refine rx_lconst C 0 (by decide) d_Ed_set_72 ?_
      refine rx_lcmp_le C d_Ed_set_73 d_Ed_set_74 (fun c73 => ?_) (fun c73 => ?_)
      · skip
        have hls : lsE ax ay bx by_ = 1 := if_neg (not_or.mpr ⟨c59, fun q => Int64.not_lt.mpr c73 q.2⟩)
        refine rx_iconst C (nI 1) (by decide) d_Ed_set_81 ?_
        refine rx_put C 0 4 i_Ed t_Ed t_Ed_ok n_Ed rfl rfl (by decide) g_26 rfl rfl (rfl) (rfl) (Nat.le_of_ble_eq_true rfl) (ws' := [(e, oEd (now) ((-((by_ - ay).toInt64)) * 16) (((bx - ax).toInt64) * 16) ((((bx - ax).toInt64) * (((nI (8)) - ay).toInt64)) - (((by_ - ay).toInt64) * (((nI (8)) - ax).toInt64))) (nI (1)))]) rfl d_Ed_set_82 ?_
        refine rx_ws (ws' := [(e, oEd (now) (-((by_ - ay).toInt64) * 16) ((bx - ax).toInt64 * 16) (bgE ax ay bx by_) (lsE ax ay bx by_))]) ?_ (by rw [hls]; rfl)
        exact hret _ _ _ () d_Ed_set_85 (trivial)
      · skip
        have hls : lsE ax ay bx by_ = 0 := if_pos (Or.inr ⟨c66, Int64.not_le.mp c73⟩)
        refine rx_iconst C (nI 0) (by decide) d_Ed_set_77 ?_
        refine rx_goto C d_Ed_set_78 ?_
        refine rx_put C 0 4 i_Ed t_Ed t_Ed_ok n_Ed rfl rfl (by decide) g_26 rfl rfl (rfl) (rfl) (Nat.le_of_ble_eq_true rfl) (ws' := [(e, oEd (now) ((-((by_ - ay).toInt64)) * 16) (((bx - ax).toInt64) * 16) ((((bx - ax).toInt64) * (((nI (8)) - ay).toInt64)) - (((by_ - ay).toInt64) * (((nI (8)) - ax).toInt64))) (nI (0)))]) rfl d_Ed_set_82 ?_
        refine rx_ws (ws' := [(e, oEd (now) (-((by_ - ay).toInt64) * 16) ((bx - ax).toInt64 * 16) (bgE ax ay bx by_) (lsE ax ay bx by_))]) ?_ (by rw [hls]; rfl)
        exact hret _ _ _ () d_Ed_set_85 (trivial)
set_option maxHeartbeats 4000000 in
set_option maxRecDepth 100000 in
theorem c_Ed_toRow (l : Launch) (D : va_G) (ta : Nat → ClassId) (e : Nat) (now rt dn bg : Int64) (ls : Int32) (row : Int32) : Ctv l y_Ed_toRow b_Ed_toRow 2 rm_Ed_toRow D ta [.ref (e), .int (row)] [(e, oEd (now) (rt) (dn) (bg) (ls))] (fun _ : Unit => [(e, oEd (bg + dn * row.toInt64) (rt) (dn) (bg) (ls))]) (fun _ => True) := by
  refine start_v rfl (Nat.le_of_ble_eq_true rfl) (fun G C hret => ?_)
  show G 0 [(0, .ref (e)), (1, .int (row))] [] [(e, oEd (now) (rt) (dn) (bg) (ls))]
  refine rx_aload_n C 0 rfl d_Ed_toRow_0 ?_
  refine rx_aload_n C 0 rfl d_Ed_toRow_1 ?_
  refine rx_get C 0 3 i_Ed rfl rfl (by decide) g_25 rfl rfl d_Ed_toRow_2 ?_
  refine rx_aload_n C 0 rfl d_Ed_toRow_5 ?_
  refine rx_get C 0 2 i_Ed rfl rfl (by decide) g_24 rfl rfl d_Ed_toRow_6 ?_
  refine rx_iload_n C 1 rfl d_Ed_toRow_9 ?_
  refine rx_i2l C d_Ed_toRow_10 ?_
  refine rx_lmul C d_Ed_toRow_11 ?_
  refine rx_ladd C d_Ed_toRow_12 ?_
  refine rx_put C 0 0 i_Ed t_Ed t_Ed_ok n_Ed rfl rfl (by decide) g_21 rfl rfl (rfl) (rfl) (Nat.le_of_ble_eq_true rfl) (ws' := [(e, oEd (bg + (dn * row.toInt64)) (rt) (dn) (bg) (ls))]) rfl d_Ed_toRow_13 ?_
  exact hret _ _ _ () d_Ed_toRow_16 (trivial)
set_option maxHeartbeats 4000000 in
set_option maxRecDepth 100000 in
theorem c_Ed_toRight (l : Launch) (D : va_G) (ta : Nat → ClassId) (e : Nat) (now rt dn bg : Int64) (ls : Int32) : Ctv l y_Ed_toRight b_Ed_toRight 1 rm_Ed_toRight D ta [.ref (e)] [(e, oEd (now) (rt) (dn) (bg) (ls))] (fun _ : Unit => [(e, oEd (now + rt) (rt) (dn) (bg) (ls))]) (fun _ => True) := by
  refine start_v rfl (Nat.le_of_ble_eq_true rfl) (fun G C hret => ?_)
  show G 0 [(0, .ref (e))] [] [(e, oEd (now) (rt) (dn) (bg) (ls))]
  refine rx_aload_n C 0 rfl d_Ed_toRight_0 ?_
  refine rx_dup C rfl d_Ed_toRight_1 ?_
  refine rx_get C 0 0 i_Ed rfl rfl (by decide) g_21 rfl rfl d_Ed_toRight_2 ?_
  refine rx_aload_n C 0 rfl d_Ed_toRight_5 ?_
  refine rx_get C 0 1 i_Ed rfl rfl (by decide) g_23 rfl rfl d_Ed_toRight_6 ?_
  refine rx_ladd C d_Ed_toRight_9 ?_
  refine rx_put C 0 0 i_Ed t_Ed t_Ed_ok n_Ed rfl rfl (by decide) g_21 rfl rfl (rfl) (rfl) (Nat.le_of_ble_eq_true rfl) (ws' := [(e, oEd (now + rt) (rt) (dn) (bg) (ls))]) rfl d_Ed_toRight_10 ?_
  exact hret _ _ _ () d_Ed_toRight_13 (trivial)
set_option maxHeartbeats 4000000 in
set_option maxRecDepth 100000 in
theorem c_Ed_isIn (l : Launch) (D : va_G) (ta : Nat → ClassId) (e : Nat) (now rt dn bg : Int64) (ls : Int32) : Cti l y_Ed_isIn b_Ed_isIn 1 .boolean rm_Ed_isIn D ta [.ref (e)] [(e, oEd (now) (rt) (dn) (bg) (ls))] (fun _ : Unit => [(e, oEd (now) (rt) (dn) (bg) (ls))]) (fun r _ => bI (ls.toInt64 ≤ now) r) := by
  refine start_i rfl (Nat.le_of_ble_eq_true rfl) (fun G C hret => ?_)
  show G 0 [(0, .ref (e))] [] [(e, oEd (now) (rt) (dn) (bg) (ls))]
  refine rx_aload_n C 0 rfl d_Ed_isIn_0 ?_
  refine rx_get C 0 0 i_Ed rfl rfl (by decide) g_21 rfl rfl d_Ed_isIn_1 ?_
  refine rx_aload_n C 0 rfl d_Ed_isIn_4 ?_
  refine rx_get C 0 4 i_Ed rfl rfl (by decide) g_26 rfl rfl d_Ed_isIn_5 ?_
  refine rx_i2l C d_Ed_isIn_8 ?_
  refine rx_lcmp_lt C d_Ed_isIn_9 d_Ed_isIn_10 (fun c9 => ?_) (fun c9 => ?_)
  · skip
    refine rx_iconst C (nI 0) (by decide) d_Ed_isIn_17 ?_
    exact hret _ _ _ _ () d_Ed_isIn_18 (rfl) (Or.inr ⟨rfl, Int64.not_le.mpr c9⟩)
  · skip
    refine rx_iconst C (nI 1) (by decide) d_Ed_isIn_13 ?_
    refine rx_goto C d_Ed_isIn_14 ?_
    exact hret _ _ _ _ () d_Ed_isIn_18 (rfl) (Or.inl ⟨rfl, Int64.not_lt.mp c9⟩)
set_option maxHeartbeats 4000000 in
set_option maxRecDepth 100000 in
theorem c_Ed_isIn2 (l : Launch) (D : va_G) (ta : Nat → ClassId) (e : Nat) (now rt dn bg : Int64) (ls : Int32) (x y : Int32) : Cti l y_Ed_isIn2 b_Ed_isIn2 3 .boolean rm_Ed_isIn2 D ta [.ref (e), .int (x), .int (y)] [(e, oEd (now) (rt) (dn) (bg) (ls))] (fun _ : Unit => [(e, oEd (now) (rt) (dn) (bg) (ls))]) (fun r _ => bI (ls.toInt64 ≤ bg + rt * x.toInt64 + dn * y.toInt64) r) := by
  refine start_i rfl (Nat.le_of_ble_eq_true rfl) (fun G C hret => ?_)
  show G 0 [(0, .ref (e)), (1, .int (x)), (2, .int (y))] [] [(e, oEd (now) (rt) (dn) (bg) (ls))]
  refine rx_aload_n C 0 rfl d_Ed_isIn2_0 ?_
  refine rx_get C 0 3 i_Ed rfl rfl (by decide) g_25 rfl rfl d_Ed_isIn2_1 ?_
  refine rx_aload_n C 0 rfl d_Ed_isIn2_4 ?_
  refine rx_get C 0 1 i_Ed rfl rfl (by decide) g_23 rfl rfl d_Ed_isIn2_5 ?_
  refine rx_iload_n C 1 rfl d_Ed_isIn2_8 ?_
  refine rx_i2l C d_Ed_isIn2_9 ?_
  refine rx_lmul C d_Ed_isIn2_10 ?_
  refine rx_ladd C d_Ed_isIn2_11 ?_
  refine rx_aload_n C 0 rfl d_Ed_isIn2_12 ?_
  refine rx_get C 0 2 i_Ed rfl rfl (by decide) g_24 rfl rfl d_Ed_isIn2_13 ?_
  refine rx_iload_n C 2 rfl d_Ed_isIn2_16 ?_
  refine rx_i2l C d_Ed_isIn2_17 ?_
  refine rx_lmul C d_Ed_isIn2_18 ?_
  refine rx_ladd C d_Ed_isIn2_19 ?_
  refine rx_aload_n C 0 rfl d_Ed_isIn2_20 ?_
  refine rx_get C 0 4 i_Ed rfl rfl (by decide) g_26 rfl rfl d_Ed_isIn2_21 ?_
  refine rx_i2l C d_Ed_isIn2_24 ?_
  refine rx_lcmp_lt C d_Ed_isIn2_25 d_Ed_isIn2_26 (fun c25 => ?_) (fun c25 => ?_)
  · skip
    refine rx_iconst C (nI 0) (by decide) d_Ed_isIn2_33 ?_
    exact hret _ _ _ _ () d_Ed_isIn2_34 (rfl) (Or.inr ⟨rfl, Int64.not_le.mpr c25⟩)
  · skip
    refine rx_iconst C (nI 1) (by decide) d_Ed_isIn2_29 ?_
    refine rx_goto C d_Ed_isIn2_30 ?_
    exact hret _ _ _ _ () d_Ed_isIn2_34 (rfl) (Or.inl ⟨rfl, Int64.not_lt.mp c25⟩)
end
section
/-! ===== plain words ===== -/
/-- how many places below n have P -/
def ct (P : Nat → Prop) [DecidablePred P] : Nat → Nat
  | 0 => 0
  | n + 1 => ct P n + if P n then 1 else 0
theorem ct_y {P : Nat → Prop} [DecidablePred P] {n : Nat} (h : P n) : ct P (n + 1) = ct P n + 1 := by show _ + _ = _; rw [if_pos h]
theorem ct_n {P : Nat → Prop} [DecidablePred P] {n : Nat} (h : ¬ P n) : ct P (n + 1) = ct P n + 0 := by show _ + _ = _; rw [if_neg h]
/-- the model's place of pixel k -/
def mx (w k : Nat) : Nat := 24 * (k / w) + k % w
theorem mx_eq {w x : Nat} (y : Nat) (h : x < w) : mx w (w * y + x) = 24 * y + x := by
  unfold mx
  rw [Nat.mul_add_div (by omega), Nat.mul_add_mod, Nat.div_eq_of_lt h, Nat.mod_eq_of_lt h, Nat.add_zero]
theorem px_lt {w h x y : Nat} (hx : x < w) (hy : y < h) : w * y + x < w * h := by
  have : w * (y + 1) ≤ w * h := Nat.mul_le_mul_left w hy
  rw [Nat.mul_succ] at this
  omega
def vOk (k x y z : Int32) : Prop := ¬ k < 0 ∧ ¬ 2 < k ∧ ¬ farP x ∧ ¬ farP y ∧ ¬ z < 0 ∧ ¬ 32768 < z
def EZ (X Y : Nat → Int32) (i j : Nat) (px py : Int64) : Int64 := (X j - X i).toInt64 * (py - (Y i).toInt64) - (Y j - Y i).toInt64 * (px - (X i).toInt64)
def AZ (X Y : Nat → Int32) : Int64 := EZ X Y 0 1 (X 2).toInt64 (Y 2).toInt64
def TL (X Y : Nat → Int32) (i j : Nat) : Prop := (Y i = Y j ∧ X i < X j) ∨ Y j < Y i
def INS (X Y : Nat → Int32) (i j : Nat) (px py : Int64) : Prop := 0 < EZ X Y i j px py ∨ (EZ X Y i j px py = 0 ∧ TL X Y i j)
def CV (X Y : Nat → Int32) (px py : Int64) : Prop := (0 < AZ X Y ∧ INS X Y 0 1 px py ∧ INS X Y 1 2 px py ∧ INS X Y 2 0 px py) ∨ (¬ 0 < AZ X Y ∧ AZ X Y < 0 ∧ INS X Y 0 2 px py ∧ INS X Y 2 1 px py ∧ INS X Y 1 0 px py)
def DP (X Y Z : Nat → Int32) (px py : Int64) : Int64 := (EZ X Y 1 2 px py * (Z 0).toInt64 + EZ X Y 2 0 px py * (Z 1).toInt64 + EZ X Y 0 1 px py * (Z 2).toInt64) / AZ X Y
theorem char_id {z : Int32} (h1 : ¬ z < 0) (h2 : ¬ 65535 < z) : (z.toUInt32 % 65536).toInt32 = z := by
  obtain ⟨j, hj, rfl⟩ := nI_of2 (M := 65535) (n := 65535) (by decide) h1 (nlt32 h2)
  rw [pk_char, pk_tn (by omega), Nat.mod_eq_of_lt (by omega)]
set_option maxHeartbeats 4000000 in
set_option maxRecDepth 100000 in
theorem c_TR_clear (l : Launch) (D : va_G) (ta : Nat → ClassId) (w h : Nat) (a : Nat → Nat) (col dep : Nat → Int32) (v z : Int32) (hw : w ≤ 24) (hh : h ≤ 24) : Cti l y_TR_clear b_TR_clear 4 .boolean rm_TR_clear D ta [.ref (a 0), .int (v), .int (z)] [(a 0, oTR w h a), (a 2, cI ta 576 (col)), (a 3, cC ta 576 (dep))] (fun u : (Nat → Int32) × (Nat → Int32) => [(a 0, oTR w h a), (a 2, cI ta 576 (u.1)), (a 3, cC ta 576 (u.2))]) (fun r u => (r = nI 0 ∧ (z < 0 ∨ 65535 < z) ∧ u = (col, dep)) ∨ (r = nI 1 ∧ ¬ (z < 0 ∨ 65535 < z) ∧ ∀ j : Nat, j < w * h → u.1 j = v ∧ u.2 j = z)) := by
  have hwh : w * h ≤ 576 := Nat.mul_le_mul hw hh
  refine start_i rfl (Nat.le_of_ble_eq_true rfl) (fun G C hret => ?_)
  show G 0 [(0, .ref (a 0)), (1, .int (v)), (2, .int (z))] [] [(a 0, oTR w h a), (a 2, cI ta 576 (col)), (a 3, cC ta 576 (dep))]
  refine rx_iload_n C 2 rfl d_TR_clear_0 ?_
  refine rx_if_lt C d_TR_clear_1 (fun c1 => ?_) (fun c1 => ?_)
  · skip
    refine rx_iconst C (nI 0) (by decide) d_TR_clear_10 ?_
    exact hret _ _ _ _ (col, dep) d_TR_clear_11 (rfl) (Or.inl ⟨rfl, Or.inl c1, rfl⟩)
  · skip
    refine rx_iload_n C 2 rfl d_TR_clear_4 ?_
    refine rx_ldc C g_80 d_TR_clear_5 ?_
    refine rx_icmp_le C d_TR_clear_7 (fun c7 => ?_) (fun c7 => ?_)
    · skip
      refine rx_iconst C (nI 0) (by decide) d_TR_clear_12 ?_
      refine rx_istore_n C (Nat.le_of_ble_eq_true rfl) [1, 2, 3, 0] (lv' := [(0, .ref (a 0)), (1, .int (v)), (2, .int (z)), (3, .int (nI (0)))]) rfl d_TR_clear_13 ?_
      have loop : ∀ (n : Nat) (k : Nat) (col dep : Nat → Int32), w * h - k < n → (k ≤ w * h) → (∀ j : Nat, j < k → col j = v ∧ dep j = z) → G 14 [(0, .ref (a 0)), (1, .int (v)), (2, .int (z)), (3, .int (nI (k)))] [] [(a 0, oTR w h a), (a 2, cI ta 576 (col)), (a 3, cC ta 576 (dep))] := by
        intro n
        induction n with
        | zero => intro k col dep hm; exact absurd hm (Nat.not_lt_zero _)
        | succ n ih =>
          intro k col dep hm hk hI
          refine rx_iload_n C 3 rfl d_TR_clear_14 ?_
          refine rx_aload_n C 0 rfl d_TR_clear_15 ?_
          refine rx_get C 0 0 i_TR rfl rfl (by decide) g_42 rfl rfl d_TR_clear_16 ?_
          refine rx_aload_n C 0 rfl d_TR_clear_19 ?_
          refine rx_get C 0 1 i_TR rfl rfl (by decide) g_43 rfl rfl d_TR_clear_20 ?_
          refine rx_imulN C d_TR_clear_23 ?_
          refine rx_icmp_geN C (by omega) (by omega) d_TR_clear_24 (fun c24 => ?_) (fun c24 => ?_)
          · skip
            refine rx_iconst C (nI 1) (by decide) d_TR_clear_48 ?_
            exact hret _ _ _ _ (col, dep) d_TR_clear_49 (rfl) (Or.inr ⟨rfl, not_or.mpr ⟨c1, tlt32 c7⟩, fun j hj => hI j (by omega)⟩)
          · skip
            refine rx_aload_n C 0 rfl d_TR_clear_27 ?_
            refine rx_get C 0 2 i_TR rfl rfl (by decide) g_44 rfl rfl d_TR_clear_28 ?_
            refine rx_iload_n C 3 rfl d_TR_clear_31 ?_
            refine rx_iload_n C 1 rfl d_TR_clear_32 ?_
            refine rx_iast C 1 rfl (by decide) (k) (rfl) (by omega) (ws' := [(a 0, oTR w h a), (a 2, cI ta 576 (upd col k v)), (a 3, cC ta 576 (dep))]) rfl d_TR_clear_33 ?_
            refine rx_aload_n C 0 rfl d_TR_clear_34 ?_
            refine rx_get C 0 3 i_TR rfl rfl (by decide) g_45 rfl rfl d_TR_clear_35 ?_
            refine rx_iload_n C 3 rfl d_TR_clear_38 ?_
            refine rx_iload_n C 2 rfl d_TR_clear_39 ?_
            refine rx_i2c C d_TR_clear_40 ?_
            refine rx_cast C 2 rfl (by decide) (pk_vc _) (k) (rfl) (by omega) (ws' := [(a 0, oTR w h a), (a 2, cI ta 576 (upd col k v)), (a 3, cC ta 576 (upd dep k ((z.toUInt32 % 65536).toInt32)))]) rfl d_TR_clear_41 ?_
            refine rx_iinc C 3 rfl (nI (k + 1)) (nI_add _ _) (Nat.le_of_ble_eq_true rfl) [1, 2, 3, 0] (lv' := [(0, .ref (a 0)), (1, .int (v)), (2, .int (z)), (3, .int (nI (k + 1)))]) rfl d_TR_clear_42 ?_
            refine rx_goto C d_TR_clear_45 ?_
            refine ih (k + 1) _ _ (by omega) (by omega) (fun j hj => ?_)
            by_cases hjk : j = k
            · subst hjk; exact ⟨pk_us, by rw [pk_us]; exact char_id c1 (tlt32 c7)⟩
            · rw [pk_un hjk, pk_un hjk]; exact hI j (by omega)
      exact loop _ 0 col dep (Nat.lt_succ_self _) (Nat.zero_le _) (fun j hj => absurd hj (Nat.not_lt_zero _))
    · skip
      refine rx_iconst C (nI 0) (by decide) d_TR_clear_10 ?_
      exact hret _ _ _ _ (col, dep) d_TR_clear_11 (rfl) (Or.inl ⟨rfl, Or.inr (nle32 c7), rfl⟩)
set_option maxHeartbeats 4000000 in
set_option maxRecDepth 100000 in
theorem c_TM_clear (l : Launch) (D : va_G) (ta : Nat → ClassId) (w h : Nat) (a : Nat → Nat) (col dep : Nat → Int32) (v z : Int32) (hw : w ≤ 24) (hh : h ≤ 24) : Cti l y_TM_clear b_TM_clear 4 .boolean rm_TM_clear D ta [.ref (a 0), .int (v), .int (z)] [(a 0, oTM w h a), (a 2, cI ta 576 (col)), (a 3, cI ta 576 (dep))] (fun u : (Nat → Int32) × (Nat → Int32) => [(a 0, oTM w h a), (a 2, cI ta 576 (u.1)), (a 3, cI ta 576 (u.2))]) (fun r u => (r = nI 0 ∧ (z < 0 ∨ 65535 < z) ∧ u = (col, dep)) ∨ (r = nI 1 ∧ ¬ (z < 0 ∨ 65535 < z) ∧ ∀ j : Nat, j < 576 → u.1 j = v ∧ u.2 j = z)) := by
  have hwh : w * h ≤ 576 := Nat.mul_le_mul hw hh
  refine start_i rfl (Nat.le_of_ble_eq_true rfl) (fun G C hret => ?_)
  show G 0 [(0, .ref (a 0)), (1, .int (v)), (2, .int (z))] [] [(a 0, oTM w h a), (a 2, cI ta 576 (col)), (a 3, cI ta 576 (dep))]
  refine rx_iload_n C 2 rfl d_TM_clear_0 ?_
  refine rx_if_lt C d_TM_clear_1 (fun c1 => ?_) (fun c1 => ?_)
  · skip
    refine rx_iconst C (nI 0) (by decide) d_TM_clear_10 ?_
    exact hret _ _ _ _ (col, dep) d_TM_clear_11 (rfl) (Or.inl ⟨rfl, Or.inl c1, rfl⟩)
  · skip
    refine rx_iload_n C 2 rfl d_TM_clear_4 ?_
    refine rx_ldc C g_217 d_TM_clear_5 ?_
    refine rx_icmp_le C d_TM_clear_7 (fun c7 => ?_) (fun c7 => ?_)
    · skip
      refine rx_iconst C (nI 0) (by decide) d_TM_clear_12 ?_
      refine rx_istore_n C (Nat.le_of_ble_eq_true rfl) [1, 2, 3, 0] (lv' := [(0, .ref (a 0)), (1, .int (v)), (2, .int (z)), (3, .int (nI (0)))]) rfl d_TM_clear_13 ?_
      have loop : ∀ (n : Nat) (k : Nat) (col dep : Nat → Int32), 576 - k < n → (k ≤ 576) → (∀ j : Nat, j < k → col j = v ∧ dep j = z) → G 14 [(0, .ref (a 0)), (1, .int (v)), (2, .int (z)), (3, .int (nI (k)))] [] [(a 0, oTM w h a), (a 2, cI ta 576 (col)), (a 3, cI ta 576 (dep))] := by
        intro n
        induction n with
        | zero => intro k col dep hm; exact absurd hm (Nat.not_lt_zero _)
        | succ n ih =>
          intro k col dep hm hk hI
          refine rx_iload_n C 3 rfl d_TM_clear_14 ?_
          refine rx_sipush C (nI 576) (by decide) d_TM_clear_15 ?_
          refine rx_icmp_geN C (by omega) (by omega) d_TM_clear_18 (fun c18 => ?_) (fun c18 => ?_)
          · skip
            refine rx_iconst C (nI 1) (by decide) d_TM_clear_41 ?_
            exact hret _ _ _ _ (col, dep) d_TM_clear_42 (rfl) (Or.inr ⟨rfl, not_or.mpr ⟨c1, tlt32 c7⟩, fun j hj => hI j (by omega)⟩)
          · skip
            refine rx_aload_n C 0 rfl d_TM_clear_21 ?_
            refine rx_get C 0 2 i_TM rfl rfl (by decide) g_190 rfl rfl d_TM_clear_22 ?_
            refine rx_iload_n C 3 rfl d_TM_clear_25 ?_
            refine rx_iload_n C 1 rfl d_TM_clear_26 ?_
            refine rx_iast C 1 rfl (by decide) (k) (rfl) (by omega) (ws' := [(a 0, oTM w h a), (a 2, cI ta 576 (upd col k v)), (a 3, cI ta 576 (dep))]) rfl d_TM_clear_27 ?_
            refine rx_aload_n C 0 rfl d_TM_clear_28 ?_
            refine rx_get C 0 3 i_TM rfl rfl (by decide) g_191 rfl rfl d_TM_clear_29 ?_
            refine rx_iload_n C 3 rfl d_TM_clear_32 ?_
            refine rx_iload_n C 2 rfl d_TM_clear_33 ?_
            refine rx_iast C 2 rfl (by decide) (k) (rfl) (by omega) (ws' := [(a 0, oTM w h a), (a 2, cI ta 576 (upd col k v)), (a 3, cI ta 576 (upd dep k z))]) rfl d_TM_clear_34 ?_
            refine rx_iinc C 3 rfl (nI (k + 1)) (nI_add _ _) (Nat.le_of_ble_eq_true rfl) [1, 2, 3, 0] (lv' := [(0, .ref (a 0)), (1, .int (v)), (2, .int (z)), (3, .int (nI (k + 1)))]) rfl d_TM_clear_35 ?_
            refine rx_goto C d_TM_clear_38 ?_
            refine ih (k + 1) _ _ (by omega) (by omega) (fun j hj => ?_)
            by_cases hjk : j = k
            · subst hjk; exact ⟨pk_us, pk_us⟩
            · rw [pk_un hjk, pk_un hjk]; exact hI j (by omega)
      exact loop _ 0 col dep (Nat.lt_succ_self _) (Nat.zero_le _) (fun j hj => absurd hj (Nat.not_lt_zero _))
    · skip
      refine rx_iconst C (nI 0) (by decide) d_TM_clear_10 ?_
      exact hret _ _ _ _ (col, dep) d_TM_clear_11 (rfl) (Or.inl ⟨rfl, Or.inr (nle32 c7), rfl⟩)
set_option maxHeartbeats 4000000 in
set_option maxRecDepth 100000 in
theorem c_TR_vertex (l : Launch) (D : va_G) (ta : Nat → ClassId) (w h : Nat) (a : Nat → Nat) (xs ys zs : Nat → Int32) (k x y z : Int32) : Cti l y_TR_vertex b_TR_vertex 5 .boolean rm_TR_vertex D ta [.ref (a 0), .int (k), .int (x), .int (y), .int (z)] [(a 0, oTR w h a), (a 6, cI ta 3 (xs)), (a 7, cI ta 3 (ys)), (a 8, cI ta 3 (zs))] (fun u : (Nat → Int32) × (Nat → Int32) × (Nat → Int32) => [(a 0, oTR w h a), (a 6, cI ta 3 (u.1)), (a 7, cI ta 3 (u.2.1)), (a 8, cI ta 3 (u.2.2))]) (fun r u => (r = nI 0 ∧ ¬ vOk k x y z ∧ u = (xs, ys, zs)) ∨ (r = nI 1 ∧ vOk k x y z ∧ u = (upd xs k.toNatClampNeg x, upd ys k.toNatClampNeg y, upd zs k.toNatClampNeg z))) := by
  refine start_i rfl (Nat.le_of_ble_eq_true rfl) (fun G C hret => ?_)
  show G 0 [(0, .ref (a 0)), (1, .int (k)), (2, .int (x)), (3, .int (y)), (4, .int (z))] [] [(a 0, oTR w h a), (a 6, cI ta 3 (xs)), (a 7, cI ta 3 (ys)), (a 8, cI ta 3 (zs))]
  refine rx_iload_n C 1 rfl d_TR_vertex_0 ?_
  refine rx_if_lt C d_TR_vertex_1 (fun c1 => ?_) (fun c1 => ?_)
  · skip
    refine rx_iconst C (nI 0) (by decide) d_TR_vertex_35 ?_
    exact hret _ _ _ _ (xs, ys, zs) d_TR_vertex_36 (rfl) (Or.inl ⟨rfl, fun q => q.1 c1, rfl⟩)
  · skip
    refine rx_iload_n C 1 rfl d_TR_vertex_4 ?_
    refine rx_iconst C (nI 2) (by decide) d_TR_vertex_5 ?_
    refine rx_icmp_gt C d_TR_vertex_6 (fun c6 => ?_) (fun c6 => ?_)
    · skip
      refine rx_iconst C (nI 0) (by decide) d_TR_vertex_35 ?_
      exact hret _ _ _ _ (xs, ys, zs) d_TR_vertex_36 (rfl) (Or.inl ⟨rfl, fun q => q.2.1 c6, rfl⟩)
    · skip
      refine rx_iload_n C 2 rfl d_TR_vertex_9 ?_
      refine rx_callSi C (c_TR_isFar l D ta x) cw_TR_52 ⟨rfl, rfl, by decide, by decide⟩ rfl [] rfl rfl [] rfl (Nat.le_of_ble_eq_true rfl) (fun _ => rfl) d_TR_vertex_10 (fun r0 u0 h0 => ?_)
      refine rx_ws (ws' := [(a 0, oTR w h a), (a 6, cI ta 3 (xs)), (a 7, cI ta 3 (ys)), (a 8, cI ta 3 (zs))]) ?_ rfl
      rcases h0 with ⟨rfl, p0⟩ | ⟨rfl, p0⟩
      · skip
        show G 13 [(0, .ref (a 0)), (1, .int (k)), (2, .int (x)), (3, .int (y)), (4, .int (z))] [.int (nI (1))] [(a 0, oTR w h a), (a 6, cI ta 3 (xs)), (a 7, cI ta 3 (ys)), (a 8, cI ta 3 (zs))]
        refine rx_if_neN C (by omega) d_TR_vertex_13 (fun c13 => ?_) (fun c13 => by exfalso; omega)
        refine rx_iconst C (nI 0) (by decide) d_TR_vertex_35 ?_
        exact hret _ _ _ _ (xs, ys, zs) d_TR_vertex_36 (rfl) (Or.inl ⟨rfl, fun q => q.2.2.1 p0, rfl⟩)
      · skip
        show G 13 [(0, .ref (a 0)), (1, .int (k)), (2, .int (x)), (3, .int (y)), (4, .int (z))] [.int (nI (0))] [(a 0, oTR w h a), (a 6, cI ta 3 (xs)), (a 7, cI ta 3 (ys)), (a 8, cI ta 3 (zs))]
        refine rx_if_neN C (by omega) d_TR_vertex_13 (fun c13 => by exfalso; omega) (fun c13 => ?_)
        refine rx_iload_n C 3 rfl d_TR_vertex_16 ?_
        refine rx_callSi C (c_TR_isFar l D ta y) cw_TR_52 ⟨rfl, rfl, by decide, by decide⟩ rfl [] rfl rfl [] rfl (Nat.le_of_ble_eq_true rfl) (fun _ => rfl) d_TR_vertex_17 (fun r1 u1 h1 => ?_)
        refine rx_ws (ws' := [(a 0, oTR w h a), (a 6, cI ta 3 (xs)), (a 7, cI ta 3 (ys)), (a 8, cI ta 3 (zs))]) ?_ rfl
        rcases h1 with ⟨rfl, p1⟩ | ⟨rfl, p1⟩
        · skip
          show G 20 [(0, .ref (a 0)), (1, .int (k)), (2, .int (x)), (3, .int (y)), (4, .int (z))] [.int (nI (1))] [(a 0, oTR w h a), (a 6, cI ta 3 (xs)), (a 7, cI ta 3 (ys)), (a 8, cI ta 3 (zs))]
          refine rx_if_neN C (by omega) d_TR_vertex_20 (fun c20 => ?_) (fun c20 => by exfalso; omega)
          refine rx_iconst C (nI 0) (by decide) d_TR_vertex_35 ?_
          exact hret _ _ _ _ (xs, ys, zs) d_TR_vertex_36 (rfl) (Or.inl ⟨rfl, fun q => q.2.2.2.1 p1, rfl⟩)
        · skip
          show G 20 [(0, .ref (a 0)), (1, .int (k)), (2, .int (x)), (3, .int (y)), (4, .int (z))] [.int (nI (0))] [(a 0, oTR w h a), (a 6, cI ta 3 (xs)), (a 7, cI ta 3 (ys)), (a 8, cI ta 3 (zs))]
          refine rx_if_neN C (by omega) d_TR_vertex_20 (fun c20 => by exfalso; omega) (fun c20 => ?_)
          refine rx_iload C 4 rfl d_TR_vertex_23 ?_
          refine rx_if_lt C d_TR_vertex_25 (fun c25 => ?_) (fun c25 => ?_)
          · skip
            refine rx_iconst C (nI 0) (by decide) d_TR_vertex_35 ?_
            exact hret _ _ _ _ (xs, ys, zs) d_TR_vertex_36 (rfl) (Or.inl ⟨rfl, fun q => q.2.2.2.2.1 c25, rfl⟩)
          · skip
            refine rx_iload C 4 rfl d_TR_vertex_28 ?_
            refine rx_ldc C g_88 d_TR_vertex_30 ?_
            refine rx_icmp_le C d_TR_vertex_32 (fun c32 => ?_) (fun c32 => ?_)
            · skip
              obtain ⟨j, hj, rfl⟩ := nI_of2 (M := 2) (n := 2) (by decide) c1 (nlt32 c6)
              refine rx_aload_n C 0 rfl d_TR_vertex_37 ?_
              refine rx_get C 0 6 i_TR rfl rfl (by decide) g_48 rfl rfl d_TR_vertex_38 ?_
              refine rx_iload_n C 1 rfl d_TR_vertex_41 ?_
              refine rx_iload_n C 2 rfl d_TR_vertex_42 ?_
              refine rx_iast C 1 rfl (by decide) (j) (rfl) (by omega) (ws' := [(a 0, oTR w h a), (a 6, cI ta 3 (upd xs j x)), (a 7, cI ta 3 (ys)), (a 8, cI ta 3 (zs))]) rfl d_TR_vertex_43 ?_
              refine rx_aload_n C 0 rfl d_TR_vertex_44 ?_
              refine rx_get C 0 7 i_TR rfl rfl (by decide) g_49 rfl rfl d_TR_vertex_45 ?_
              refine rx_iload_n C 1 rfl d_TR_vertex_48 ?_
              refine rx_iload_n C 3 rfl d_TR_vertex_49 ?_
              refine rx_iast C 2 rfl (by decide) (j) (rfl) (by omega) (ws' := [(a 0, oTR w h a), (a 6, cI ta 3 (upd xs j x)), (a 7, cI ta 3 (upd ys j y)), (a 8, cI ta 3 (zs))]) rfl d_TR_vertex_50 ?_
              refine rx_aload_n C 0 rfl d_TR_vertex_51 ?_
              refine rx_get C 0 8 i_TR rfl rfl (by decide) g_50 rfl rfl d_TR_vertex_52 ?_
              refine rx_iload_n C 1 rfl d_TR_vertex_55 ?_
              refine rx_iload C 4 rfl d_TR_vertex_56 ?_
              refine rx_iast C 3 rfl (by decide) (j) (rfl) (by omega) (ws' := [(a 0, oTR w h a), (a 6, cI ta 3 (upd xs j x)), (a 7, cI ta 3 (upd ys j y)), (a 8, cI ta 3 (upd zs j z))]) rfl d_TR_vertex_58 ?_
              refine rx_iconst C (nI 1) (by decide) d_TR_vertex_59 ?_
              exact hret _ _ _ _ (upd xs j x, upd ys j y, upd zs j z) d_TR_vertex_60 (rfl) (Or.inr ⟨rfl, ⟨c1, c6, p0, p1, c25, tlt32 c32⟩, by rw [nI_clamp (by omega)]⟩)
            · skip
              refine rx_iconst C (nI 0) (by decide) d_TR_vertex_35 ?_
              exact hret _ _ _ _ (xs, ys, zs) d_TR_vertex_36 (rfl) (Or.inl ⟨rfl, fun q => q.2.2.2.2.2 (nle32 c32), rfl⟩)
set_option maxHeartbeats 4000000 in
set_option maxRecDepth 100000 in
theorem c_TM_vertex (l : Launch) (D : va_G) (ta : Nat → ClassId) (w h : Nat) (a : Nat → Nat) (xs ys zs : Nat → Int32) (k x y z : Int32) : Cti l y_TM_vertex b_TM_vertex 5 .boolean rm_TM_vertex D ta [.ref (a 0), .int (k), .int (x), .int (y), .int (z)] [(a 0, oTM w h a), (a 4, cI ta 3 (xs)), (a 5, cI ta 3 (ys)), (a 6, cI ta 3 (zs))] (fun u : (Nat → Int32) × (Nat → Int32) × (Nat → Int32) => [(a 0, oTM w h a), (a 4, cI ta 3 (u.1)), (a 5, cI ta 3 (u.2.1)), (a 6, cI ta 3 (u.2.2))]) (fun r u => (r = nI 0 ∧ ¬ vOk k x y z ∧ u = (xs, ys, zs)) ∨ (r = nI 1 ∧ vOk k x y z ∧ u = (upd xs k.toNatClampNeg x, upd ys k.toNatClampNeg y, upd zs k.toNatClampNeg z))) := by
  refine start_i rfl (Nat.le_of_ble_eq_true rfl) (fun G C hret => ?_)
  show G 0 [(0, .ref (a 0)), (1, .int (k)), (2, .int (x)), (3, .int (y)), (4, .int (z))] [] [(a 0, oTM w h a), (a 4, cI ta 3 (xs)), (a 5, cI ta 3 (ys)), (a 6, cI ta 3 (zs))]
  refine rx_iload_n C 1 rfl d_TM_vertex_0 ?_
  refine rx_if_lt C d_TM_vertex_1 (fun c1 => ?_) (fun c1 => ?_)
  · skip
    refine rx_iconst C (nI 0) (by decide) d_TM_vertex_35 ?_
    exact hret _ _ _ _ (xs, ys, zs) d_TM_vertex_36 (rfl) (Or.inl ⟨rfl, fun q => q.1 c1, rfl⟩)
  · skip
    refine rx_iload_n C 1 rfl d_TM_vertex_4 ?_
    refine rx_iconst C (nI 2) (by decide) d_TM_vertex_5 ?_
    refine rx_icmp_gt C d_TM_vertex_6 (fun c6 => ?_) (fun c6 => ?_)
    · skip
      refine rx_iconst C (nI 0) (by decide) d_TM_vertex_35 ?_
      exact hret _ _ _ _ (xs, ys, zs) d_TM_vertex_36 (rfl) (Or.inl ⟨rfl, fun q => q.2.1 c6, rfl⟩)
    · skip
      refine rx_iload_n C 2 rfl d_TM_vertex_9 ?_
      refine rx_callSi C (c_TM_isFar l D ta x) cw_TM_37 ⟨rfl, rfl, by decide, by decide⟩ rfl [] rfl rfl [] rfl (Nat.le_of_ble_eq_true rfl) (fun _ => rfl) d_TM_vertex_10 (fun r0 u0 h0 => ?_)
      refine rx_ws (ws' := [(a 0, oTM w h a), (a 4, cI ta 3 (xs)), (a 5, cI ta 3 (ys)), (a 6, cI ta 3 (zs))]) ?_ rfl
      rcases h0 with ⟨rfl, p0⟩ | ⟨rfl, p0⟩
      · skip
        show G 13 [(0, .ref (a 0)), (1, .int (k)), (2, .int (x)), (3, .int (y)), (4, .int (z))] [.int (nI (1))] [(a 0, oTM w h a), (a 4, cI ta 3 (xs)), (a 5, cI ta 3 (ys)), (a 6, cI ta 3 (zs))]
        refine rx_if_neN C (by omega) d_TM_vertex_13 (fun c13 => ?_) (fun c13 => by exfalso; omega)
        refine rx_iconst C (nI 0) (by decide) d_TM_vertex_35 ?_
        exact hret _ _ _ _ (xs, ys, zs) d_TM_vertex_36 (rfl) (Or.inl ⟨rfl, fun q => q.2.2.1 p0, rfl⟩)
      · skip
        show G 13 [(0, .ref (a 0)), (1, .int (k)), (2, .int (x)), (3, .int (y)), (4, .int (z))] [.int (nI (0))] [(a 0, oTM w h a), (a 4, cI ta 3 (xs)), (a 5, cI ta 3 (ys)), (a 6, cI ta 3 (zs))]
        refine rx_if_neN C (by omega) d_TM_vertex_13 (fun c13 => by exfalso; omega) (fun c13 => ?_)
        refine rx_iload_n C 3 rfl d_TM_vertex_16 ?_
        refine rx_callSi C (c_TM_isFar l D ta y) cw_TM_37 ⟨rfl, rfl, by decide, by decide⟩ rfl [] rfl rfl [] rfl (Nat.le_of_ble_eq_true rfl) (fun _ => rfl) d_TM_vertex_17 (fun r1 u1 h1 => ?_)
        refine rx_ws (ws' := [(a 0, oTM w h a), (a 4, cI ta 3 (xs)), (a 5, cI ta 3 (ys)), (a 6, cI ta 3 (zs))]) ?_ rfl
        rcases h1 with ⟨rfl, p1⟩ | ⟨rfl, p1⟩
        · skip
          show G 20 [(0, .ref (a 0)), (1, .int (k)), (2, .int (x)), (3, .int (y)), (4, .int (z))] [.int (nI (1))] [(a 0, oTM w h a), (a 4, cI ta 3 (xs)), (a 5, cI ta 3 (ys)), (a 6, cI ta 3 (zs))]
          refine rx_if_neN C (by omega) d_TM_vertex_20 (fun c20 => ?_) (fun c20 => by exfalso; omega)
          refine rx_iconst C (nI 0) (by decide) d_TM_vertex_35 ?_
          exact hret _ _ _ _ (xs, ys, zs) d_TM_vertex_36 (rfl) (Or.inl ⟨rfl, fun q => q.2.2.2.1 p1, rfl⟩)
        · skip
          show G 20 [(0, .ref (a 0)), (1, .int (k)), (2, .int (x)), (3, .int (y)), (4, .int (z))] [.int (nI (0))] [(a 0, oTM w h a), (a 4, cI ta 3 (xs)), (a 5, cI ta 3 (ys)), (a 6, cI ta 3 (zs))]
          refine rx_if_neN C (by omega) d_TM_vertex_20 (fun c20 => by exfalso; omega) (fun c20 => ?_)
          refine rx_iload C 4 rfl d_TM_vertex_23 ?_
          refine rx_if_lt C d_TM_vertex_25 (fun c25 => ?_) (fun c25 => ?_)
          · skip
            refine rx_iconst C (nI 0) (by decide) d_TM_vertex_35 ?_
            exact hret _ _ _ _ (xs, ys, zs) d_TM_vertex_36 (rfl) (Or.inl ⟨rfl, fun q => q.2.2.2.2.1 c25, rfl⟩)
          · skip
            refine rx_iload C 4 rfl d_TM_vertex_28 ?_
            refine rx_ldc C g_225 d_TM_vertex_30 ?_
            refine rx_icmp_le C d_TM_vertex_32 (fun c32 => ?_) (fun c32 => ?_)
            · skip
              obtain ⟨j, hj, rfl⟩ := nI_of2 (M := 2) (n := 2) (by decide) c1 (nlt32 c6)
              refine rx_aload_n C 0 rfl d_TM_vertex_37 ?_
              refine rx_get C 0 4 i_TM rfl rfl (by decide) g_192 rfl rfl d_TM_vertex_38 ?_
              refine rx_iload_n C 1 rfl d_TM_vertex_41 ?_
              refine rx_iload_n C 2 rfl d_TM_vertex_42 ?_
              refine rx_iast C 1 rfl (by decide) (j) (rfl) (by omega) (ws' := [(a 0, oTM w h a), (a 4, cI ta 3 (upd xs j x)), (a 5, cI ta 3 (ys)), (a 6, cI ta 3 (zs))]) rfl d_TM_vertex_43 ?_
              refine rx_aload_n C 0 rfl d_TM_vertex_44 ?_
              refine rx_get C 0 5 i_TM rfl rfl (by decide) g_193 rfl rfl d_TM_vertex_45 ?_
              refine rx_iload_n C 1 rfl d_TM_vertex_48 ?_
              refine rx_iload_n C 3 rfl d_TM_vertex_49 ?_
              refine rx_iast C 2 rfl (by decide) (j) (rfl) (by omega) (ws' := [(a 0, oTM w h a), (a 4, cI ta 3 (upd xs j x)), (a 5, cI ta 3 (upd ys j y)), (a 6, cI ta 3 (zs))]) rfl d_TM_vertex_50 ?_
              refine rx_aload_n C 0 rfl d_TM_vertex_51 ?_
              refine rx_get C 0 6 i_TM rfl rfl (by decide) g_194 rfl rfl d_TM_vertex_52 ?_
              refine rx_iload_n C 1 rfl d_TM_vertex_55 ?_
              refine rx_iload C 4 rfl d_TM_vertex_56 ?_
              refine rx_iast C 3 rfl (by decide) (j) (rfl) (by omega) (ws' := [(a 0, oTM w h a), (a 4, cI ta 3 (upd xs j x)), (a 5, cI ta 3 (upd ys j y)), (a 6, cI ta 3 (upd zs j z))]) rfl d_TM_vertex_58 ?_
              refine rx_iconst C (nI 1) (by decide) d_TM_vertex_59 ?_
              exact hret _ _ _ _ (upd xs j x, upd ys j y, upd zs j z) d_TM_vertex_60 (rfl) (Or.inr ⟨rfl, ⟨c1, c6, p0, p1, c25, tlt32 c32⟩, by rw [nI_clamp (by omega)]⟩)
            · skip
              refine rx_iconst C (nI 0) (by decide) d_TM_vertex_35 ?_
              exact hret _ _ _ _ (xs, ys, zs) d_TM_vertex_36 (rfl) (Or.inl ⟨rfl, fun q => q.2.2.2.2.2 (nle32 c32), rfl⟩)
set_option maxHeartbeats 4000000 in
set_option maxRecDepth 100000 in
theorem c_TR_pixel (l : Launch) (D : va_G) (ta : Nat → ClassId) (w h : Nat) (a : Nat → Nat) (f : Nat → Int32) (x y : Int32) (hw : w ≤ 24) (hh : h ≤ 24) : Cti l y_TR_pixel b_TR_pixel 3 .int rm_TR_pixel D ta [.ref (a 0), .int (x), .int (y)] [(a 0, oTR w h a), (a 2, cI ta 576 (f))] (fun _ : Unit => [(a 0, oTR w h a), (a 2, cI ta 576 (f))]) (fun r _ => (∃ i j : Nat, i < w ∧ j < h ∧ x = nI i ∧ y = nI j ∧ r = f (w * j + i)) ∨ (¬ isPx w h x y ∧ r = -1)) := by
  have hwh : w * h ≤ 576 := Nat.mul_le_mul hw hh
  refine start_i rfl (Nat.le_of_ble_eq_true rfl) (fun G C hret => ?_)
  show G 0 [(0, .ref (a 0)), (1, .int (x)), (2, .int (y))] [] [(a 0, oTR w h a), (a 2, cI ta 576 (f))]
  refine rx_aload_n C 0 rfl d_TR_pixel_0 ?_
  refine rx_iload_n C 1 rfl d_TR_pixel_1 ?_
  refine rx_iload_n C 2 rfl d_TR_pixel_2 ?_
  refine rx_callVi C (c_TR_isPixel l D ta w h a x y hw hh) cw_TR_93 ⟨rfl, rfl, by decide, by decide⟩ rfl [0] rfl rfl (q0 := 0) rfl rfl rfl [] rfl (Nat.le_of_ble_eq_true rfl) (fun _ => rfl) d_TR_pixel_3 (fun r0 u0 h0 => ?_)
  refine rx_ws (ws' := [(a 0, oTR w h a), (a 2, cI ta 576 (f))]) ?_ rfl
  rcases h0 with ⟨rfl, i, j, hi, hj, rfl, rfl⟩ | ⟨rfl, p0⟩
  · skip
    show G 6 [(0, .ref (a 0)), (1, .int (nI (i))), (2, .int (nI (j)))] [.int (nI (1))] [(a 0, oTR w h a), (a 2, cI ta 576 (f))]
    have hlt : w * j + i < 576 := Nat.lt_of_lt_of_le (px_lt hi hj) hwh
    refine rx_if_eqN C (by omega) d_TR_pixel_6 (fun c6 => by exfalso; omega) (fun c6 => ?_)
    refine rx_aload_n C 0 rfl d_TR_pixel_9 ?_
    refine rx_get C 0 2 i_TR rfl rfl (by decide) g_44 rfl rfl d_TR_pixel_10 ?_
    refine rx_aload_n C 0 rfl d_TR_pixel_13 ?_
    refine rx_get C 0 0 i_TR rfl rfl (by decide) g_42 rfl rfl d_TR_pixel_14 ?_
    refine rx_iload_n C 2 rfl d_TR_pixel_17 ?_
    refine rx_imulN C d_TR_pixel_18 ?_
    refine rx_iload_n C 1 rfl d_TR_pixel_19 ?_
    refine rx_iaddN C d_TR_pixel_20 ?_
    refine rx_iald C 1 rfl (by decide) ((w * j) + i) (rfl) (by omega) d_TR_pixel_21 ?_
    refine rx_goto C d_TR_pixel_22 ?_
    exact hret _ _ _ _ () d_TR_pixel_26 (rfl) (Or.inl ⟨i, j, hi, hj, rfl, rfl, rfl⟩)
  · skip
    show G 6 [(0, .ref (a 0)), (1, .int (x)), (2, .int (y))] [.int (nI (0))] [(a 0, oTR w h a), (a 2, cI ta 576 (f))]
    refine rx_if_eqN C (by omega) d_TR_pixel_6 (fun c6 => ?_) (fun c6 => by exfalso; omega)
    refine rx_iconst C (-1) (by decide) d_TR_pixel_25 ?_
    exact hret _ _ _ _ () d_TR_pixel_26 (rfl) (Or.inr ⟨p0, rfl⟩)
set_option maxHeartbeats 4000000 in
set_option maxRecDepth 100000 in
theorem c_TR_depthAt (l : Launch) (D : va_G) (ta : Nat → ClassId) (w h : Nat) (a : Nat → Nat) (f : Nat → Int32) (x y : Int32) (hw : w ≤ 24) (hh : h ≤ 24) : Cti l y_TR_depthAt b_TR_depthAt 3 .int rm_TR_depthAt D ta [.ref (a 0), .int (x), .int (y)] [(a 0, oTR w h a), (a 3, cC ta 576 (f))] (fun _ : Unit => [(a 0, oTR w h a), (a 3, cC ta 576 (f))]) (fun r _ => (∃ i j : Nat, i < w ∧ j < h ∧ x = nI i ∧ y = nI j ∧ r = f (w * j + i)) ∨ (¬ isPx w h x y ∧ r = -1)) := by
  have hwh : w * h ≤ 576 := Nat.mul_le_mul hw hh
  refine start_i rfl (Nat.le_of_ble_eq_true rfl) (fun G C hret => ?_)
  show G 0 [(0, .ref (a 0)), (1, .int (x)), (2, .int (y))] [] [(a 0, oTR w h a), (a 3, cC ta 576 (f))]
  refine rx_aload_n C 0 rfl d_TR_depthAt_0 ?_
  refine rx_iload_n C 1 rfl d_TR_depthAt_1 ?_
  refine rx_iload_n C 2 rfl d_TR_depthAt_2 ?_
  refine rx_callVi C (c_TR_isPixel l D ta w h a x y hw hh) cw_TR_93 ⟨rfl, rfl, by decide, by decide⟩ rfl [0] rfl rfl (q0 := 0) rfl rfl rfl [] rfl (Nat.le_of_ble_eq_true rfl) (fun _ => rfl) d_TR_depthAt_3 (fun r0 u0 h0 => ?_)
  refine rx_ws (ws' := [(a 0, oTR w h a), (a 3, cC ta 576 (f))]) ?_ rfl
  rcases h0 with ⟨rfl, i, j, hi, hj, rfl, rfl⟩ | ⟨rfl, p0⟩
  · skip
    show G 6 [(0, .ref (a 0)), (1, .int (nI (i))), (2, .int (nI (j)))] [.int (nI (1))] [(a 0, oTR w h a), (a 3, cC ta 576 (f))]
    have hlt : w * j + i < 576 := Nat.lt_of_lt_of_le (px_lt hi hj) hwh
    refine rx_if_eqN C (by omega) d_TR_depthAt_6 (fun c6 => by exfalso; omega) (fun c6 => ?_)
    refine rx_aload_n C 0 rfl d_TR_depthAt_9 ?_
    refine rx_get C 0 3 i_TR rfl rfl (by decide) g_45 rfl rfl d_TR_depthAt_10 ?_
    refine rx_aload_n C 0 rfl d_TR_depthAt_13 ?_
    refine rx_get C 0 0 i_TR rfl rfl (by decide) g_42 rfl rfl d_TR_depthAt_14 ?_
    refine rx_iload_n C 2 rfl d_TR_depthAt_17 ?_
    refine rx_imulN C d_TR_depthAt_18 ?_
    refine rx_iload_n C 1 rfl d_TR_depthAt_19 ?_
    refine rx_iaddN C d_TR_depthAt_20 ?_
    refine rx_cald C 1 rfl (by decide) ((w * j) + i) (rfl) (by omega) d_TR_depthAt_21 ?_
    refine rx_goto C d_TR_depthAt_22 ?_
    exact hret _ _ _ _ () d_TR_depthAt_26 (rfl) (Or.inl ⟨i, j, hi, hj, rfl, rfl, rfl⟩)
  · skip
    show G 6 [(0, .ref (a 0)), (1, .int (x)), (2, .int (y))] [.int (nI (0))] [(a 0, oTR w h a), (a 3, cC ta 576 (f))]
    refine rx_if_eqN C (by omega) d_TR_depthAt_6 (fun c6 => ?_) (fun c6 => by exfalso; omega)
    refine rx_iconst C (-1) (by decide) d_TR_depthAt_25 ?_
    exact hret _ _ _ _ () d_TR_depthAt_26 (rfl) (Or.inr ⟨p0, rfl⟩)
set_option maxHeartbeats 4000000 in
set_option maxRecDepth 100000 in
theorem c_TM_pixel (l : Launch) (D : va_G) (ta : Nat → ClassId) (w h : Nat) (a : Nat → Nat) (f : Nat → Int32) (x y : Int32) (hw : w ≤ 24) (hh : h ≤ 24) : Cti l y_TM_pixel b_TM_pixel 3 .int rm_TM_pixel D ta [.ref (a 0), .int (x), .int (y)] [(a 0, oTM w h a), (a 2, cI ta 576 (f))] (fun _ : Unit => [(a 0, oTM w h a), (a 2, cI ta 576 (f))]) (fun r _ => (∃ i j : Nat, i < w ∧ j < h ∧ x = nI i ∧ y = nI j ∧ r = f (24 * j + i)) ∨ (¬ isPx w h x y ∧ r = -1)) := by
  have hwh : w * h ≤ 576 := Nat.mul_le_mul hw hh
  refine start_i rfl (Nat.le_of_ble_eq_true rfl) (fun G C hret => ?_)
  show G 0 [(0, .ref (a 0)), (1, .int (x)), (2, .int (y))] [] [(a 0, oTM w h a), (a 2, cI ta 576 (f))]
  refine rx_aload_n C 0 rfl d_TM_pixel_0 ?_
  refine rx_iload_n C 1 rfl d_TM_pixel_1 ?_
  refine rx_iload_n C 2 rfl d_TM_pixel_2 ?_
  refine rx_callVi C (c_TM_isPixel l D ta w h a x y hw hh) cw_TM_75 ⟨rfl, rfl, by decide, by decide⟩ rfl [0] rfl rfl (q0 := 0) rfl rfl rfl [] rfl (Nat.le_of_ble_eq_true rfl) (fun _ => rfl) d_TM_pixel_3 (fun r0 u0 h0 => ?_)
  refine rx_ws (ws' := [(a 0, oTM w h a), (a 2, cI ta 576 (f))]) ?_ rfl
  rcases h0 with ⟨rfl, i, j, hi, hj, rfl, rfl⟩ | ⟨rfl, p0⟩
  · skip
    show G 6 [(0, .ref (a 0)), (1, .int (nI (i))), (2, .int (nI (j)))] [.int (nI (1))] [(a 0, oTM w h a), (a 2, cI ta 576 (f))]
    refine rx_if_eqN C (by omega) d_TM_pixel_6 (fun c6 => by exfalso; omega) (fun c6 => ?_)
    refine rx_aload_n C 0 rfl d_TM_pixel_9 ?_
    refine rx_get C 0 2 i_TM rfl rfl (by decide) g_190 rfl rfl d_TM_pixel_10 ?_
    refine rx_bipush C (nI 24) (by decide) d_TM_pixel_13 ?_
    refine rx_iload_n C 2 rfl d_TM_pixel_15 ?_
    refine rx_imulN C d_TM_pixel_16 ?_
    refine rx_iload_n C 1 rfl d_TM_pixel_17 ?_
    refine rx_iaddN C d_TM_pixel_18 ?_
    refine rx_iald C 1 rfl (by decide) ((24 * j) + i) (rfl) (by omega) d_TM_pixel_19 ?_
    refine rx_goto C d_TM_pixel_20 ?_
    exact hret _ _ _ _ () d_TM_pixel_24 (rfl) (Or.inl ⟨i, j, hi, hj, rfl, rfl, rfl⟩)
  · skip
    show G 6 [(0, .ref (a 0)), (1, .int (x)), (2, .int (y))] [.int (nI (0))] [(a 0, oTM w h a), (a 2, cI ta 576 (f))]
    refine rx_if_eqN C (by omega) d_TM_pixel_6 (fun c6 => ?_) (fun c6 => by exfalso; omega)
    refine rx_iconst C (-1) (by decide) d_TM_pixel_23 ?_
    exact hret _ _ _ _ () d_TM_pixel_24 (rfl) (Or.inr ⟨p0, rfl⟩)
set_option maxHeartbeats 4000000 in
set_option maxRecDepth 100000 in
theorem c_TM_depthAt (l : Launch) (D : va_G) (ta : Nat → ClassId) (w h : Nat) (a : Nat → Nat) (f : Nat → Int32) (x y : Int32) (hw : w ≤ 24) (hh : h ≤ 24) : Cti l y_TM_depthAt b_TM_depthAt 3 .int rm_TM_depthAt D ta [.ref (a 0), .int (x), .int (y)] [(a 0, oTM w h a), (a 3, cI ta 576 (f))] (fun _ : Unit => [(a 0, oTM w h a), (a 3, cI ta 576 (f))]) (fun r _ => (∃ i j : Nat, i < w ∧ j < h ∧ x = nI i ∧ y = nI j ∧ r = f (24 * j + i)) ∨ (¬ isPx w h x y ∧ r = -1)) := by
  have hwh : w * h ≤ 576 := Nat.mul_le_mul hw hh
  refine start_i rfl (Nat.le_of_ble_eq_true rfl) (fun G C hret => ?_)
  show G 0 [(0, .ref (a 0)), (1, .int (x)), (2, .int (y))] [] [(a 0, oTM w h a), (a 3, cI ta 576 (f))]
  refine rx_aload_n C 0 rfl d_TM_depthAt_0 ?_
  refine rx_iload_n C 1 rfl d_TM_depthAt_1 ?_
  refine rx_iload_n C 2 rfl d_TM_depthAt_2 ?_
  refine rx_callVi C (c_TM_isPixel l D ta w h a x y hw hh) cw_TM_75 ⟨rfl, rfl, by decide, by decide⟩ rfl [0] rfl rfl (q0 := 0) rfl rfl rfl [] rfl (Nat.le_of_ble_eq_true rfl) (fun _ => rfl) d_TM_depthAt_3 (fun r0 u0 h0 => ?_)
  refine rx_ws (ws' := [(a 0, oTM w h a), (a 3, cI ta 576 (f))]) ?_ rfl
  rcases h0 with ⟨rfl, i, j, hi, hj, rfl, rfl⟩ | ⟨rfl, p0⟩
  · skip
    show G 6 [(0, .ref (a 0)), (1, .int (nI (i))), (2, .int (nI (j)))] [.int (nI (1))] [(a 0, oTM w h a), (a 3, cI ta 576 (f))]
    refine rx_if_eqN C (by omega) d_TM_depthAt_6 (fun c6 => by exfalso; omega) (fun c6 => ?_)
    refine rx_aload_n C 0 rfl d_TM_depthAt_9 ?_
    refine rx_get C 0 3 i_TM rfl rfl (by decide) g_191 rfl rfl d_TM_depthAt_10 ?_
    refine rx_bipush C (nI 24) (by decide) d_TM_depthAt_13 ?_
    refine rx_iload_n C 2 rfl d_TM_depthAt_15 ?_
    refine rx_imulN C d_TM_depthAt_16 ?_
    refine rx_iload_n C 1 rfl d_TM_depthAt_17 ?_
    refine rx_iaddN C d_TM_depthAt_18 ?_
    refine rx_iald C 1 rfl (by decide) ((24 * j) + i) (rfl) (by omega) d_TM_depthAt_19 ?_
    refine rx_goto C d_TM_depthAt_20 ?_
    exact hret _ _ _ _ () d_TM_depthAt_24 (rfl) (Or.inl ⟨i, j, hi, hj, rfl, rfl, rfl⟩)
  · skip
    show G 6 [(0, .ref (a 0)), (1, .int (x)), (2, .int (y))] [.int (nI (0))] [(a 0, oTM w h a), (a 3, cI ta 576 (f))]
    refine rx_if_eqN C (by omega) d_TM_depthAt_6 (fun c6 => ?_) (fun c6 => by exfalso; omega)
    refine rx_iconst C (-1) (by decide) d_TM_depthAt_23 ?_
    exact hret _ _ _ _ () d_TM_depthAt_24 (rfl) (Or.inr ⟨p0, rfl⟩)
set_option maxHeartbeats 4000000 in
set_option maxRecDepth 100000 in
theorem c_TR_count (l : Launch) (D : va_G) (ta : Nat → ClassId) (w h : Nat) (a : Nat → Nat) (f : Nat → Int32) (v : Int32) (hw : w ≤ 24) (hh : h ≤ 24) : Cti l y_TR_count b_TR_count 4 .int rm_TR_count D ta [.ref (a 0), .int (v)] [(a 0, oTR w h a), (a 2, cI ta 576 (f))] (fun _ : Unit => [(a 0, oTR w h a), (a 2, cI ta 576 (f))]) (fun r _ => r = nI (ct (fun j => f j = v) (w * h))) := by
  have hwh : w * h ≤ 576 := Nat.mul_le_mul hw hh
  refine start_i rfl (Nat.le_of_ble_eq_true rfl) (fun G C hret => ?_)
  show G 0 [(0, .ref (a 0)), (1, .int (v))] [] [(a 0, oTR w h a), (a 2, cI ta 576 (f))]
  refine rx_iconst C (nI 0) (by decide) d_TR_count_0 ?_
  refine rx_istore_n C (Nat.le_of_ble_eq_true rfl) [1, 2, 0] (lv' := [(0, .ref (a 0)), (1, .int (v)), (2, .int (nI (0)))]) rfl d_TR_count_1 ?_
  refine rx_iconst C (nI 0) (by decide) d_TR_count_2 ?_
  refine rx_istore_n C (Nat.le_of_ble_eq_true rfl) [1, 2, 3, 0] (lv' := [(0, .ref (a 0)), (1, .int (v)), (2, .int (nI (0))), (3, .int (nI (0)))]) rfl d_TR_count_3 ?_
  have loop : ∀ (n : Nat) (k : Nat), w * h - k < n → (k ≤ w * h) → G 4 [(0, .ref (a 0)), (1, .int (v)), (2, .int (nI (ct (fun j => f j = v) k))), (3, .int (nI (k)))] [] [(a 0, oTR w h a), (a 2, cI ta 576 (f))] := by
    intro n
    induction n with
    | zero => intro k hm; exact absurd hm (Nat.not_lt_zero _)
    | succ n ih =>
      intro k hm hk
      refine rx_iload_n C 3 rfl d_TR_count_4 ?_
      refine rx_aload_n C 0 rfl d_TR_count_5 ?_
      refine rx_get C 0 0 i_TR rfl rfl (by decide) g_42 rfl rfl d_TR_count_6 ?_
      refine rx_aload_n C 0 rfl d_TR_count_9 ?_
      refine rx_get C 0 1 i_TR rfl rfl (by decide) g_43 rfl rfl d_TR_count_10 ?_
      refine rx_imulN C d_TR_count_13 ?_
      refine rx_icmp_geN C (by omega) (by omega) d_TR_count_14 (fun c14 => ?_) (fun c14 => ?_)
      · skip
        refine rx_iload_n C 2 rfl d_TR_count_41 ?_
        rw [show k = w * h by omega]
        exact hret _ _ _ _ () d_TR_count_42 (rfl) (rfl)
      · skip
        refine rx_iload_n C 2 rfl d_TR_count_17 ?_
        refine rx_aload_n C 0 rfl d_TR_count_18 ?_
        refine rx_get C 0 2 i_TR rfl rfl (by decide) g_44 rfl rfl d_TR_count_19 ?_
        refine rx_iload_n C 3 rfl d_TR_count_22 ?_
        refine rx_iald C 1 rfl (by decide) (k) (rfl) (by omega) d_TR_count_23 ?_
        refine rx_iload_n C 1 rfl d_TR_count_24 ?_
        refine rx_icmp_ne C d_TR_count_25 (fun c25 => ?_) (fun c25 => ?_)
        · skip
          refine rx_iconst C (nI 0) (by decide) d_TR_count_32 ?_
          refine rx_iaddN C d_TR_count_33 ?_
          refine rx_istore_n C (Nat.le_of_ble_eq_true rfl) [1, 2, 0, 3] (lv' := [(0, .ref (a 0)), (1, .int (v)), (2, .int (nI ((ct (fun j => f j = v) k) + 0))), (3, .int (nI (k)))]) rfl d_TR_count_34 ?_
          refine rx_iinc C 3 rfl (nI (k + 1)) (nI_add _ _) (Nat.le_of_ble_eq_true rfl) [1, 2, 3, 0] (lv' := [(0, .ref (a 0)), (1, .int (v)), (2, .int (nI ((ct (fun j => f j = v) k) + 0))), (3, .int (nI (k + 1)))]) rfl d_TR_count_35 ?_
          refine rx_goto C d_TR_count_38 ?_
          have e : ct (fun j => f j = v) (k + 1) = ct (fun j => f j = v) k + 0 := ct_n c25
          rw [← e]
          exact ih (k + 1) (by omega) (by omega)
        · skip
          refine rx_iconst C (nI 1) (by decide) d_TR_count_28 ?_
          refine rx_goto C d_TR_count_29 ?_
          refine rx_iaddN C d_TR_count_33 ?_
          refine rx_istore_n C (Nat.le_of_ble_eq_true rfl) [1, 2, 0, 3] (lv' := [(0, .ref (a 0)), (1, .int (v)), (2, .int (nI ((ct (fun j => f j = v) k) + 1))), (3, .int (nI (k)))]) rfl d_TR_count_34 ?_
          refine rx_iinc C 3 rfl (nI (k + 1)) (nI_add _ _) (Nat.le_of_ble_eq_true rfl) [1, 2, 3, 0] (lv' := [(0, .ref (a 0)), (1, .int (v)), (2, .int (nI ((ct (fun j => f j = v) k) + 1))), (3, .int (nI (k + 1)))]) rfl d_TR_count_35 ?_
          refine rx_goto C d_TR_count_38 ?_
          have e : ct (fun j => f j = v) (k + 1) = ct (fun j => f j = v) k + 1 := ct_y c25
          rw [← e]
          exact ih (k + 1) (by omega) (by omega)
  exact loop _ 0 (Nat.lt_succ_self _) (Nat.zero_le _)
set_option maxHeartbeats 4000000 in
set_option maxRecDepth 100000 in
theorem c_TM_count (l : Launch) (D : va_G) (ta : Nat → ClassId) (w h : Nat) (a : Nat → Nat) (f : Nat → Int32) (v : Int32) (hw : w ≤ 24) (hh : h ≤ 24) : Cti l y_TM_count b_TM_count 5 .int rm_TM_count D ta [.ref (a 0), .int (v)] [(a 0, oTM w h a), (a 2, cI ta 576 (f))] (fun _ : Unit => [(a 0, oTM w h a), (a 2, cI ta 576 (f))]) (fun r _ => r = nI (ct (fun k => f (mx w k) = v) (w * h))) := by
  have hwh : w * h ≤ 576 := Nat.mul_le_mul hw hh
  refine start_i rfl (Nat.le_of_ble_eq_true rfl) (fun G C hret => ?_)
  show G 0 [(0, .ref (a 0)), (1, .int (v))] [] [(a 0, oTM w h a), (a 2, cI ta 576 (f))]
  refine rx_iconst C (nI 0) (by decide) d_TM_count_0 ?_
  refine rx_istore_n C (Nat.le_of_ble_eq_true rfl) [1, 2, 0] (lv' := [(0, .ref (a 0)), (1, .int (v)), (2, .int (nI (0)))]) rfl d_TM_count_1 ?_
  refine rx_iconst C (nI 0) (by decide) d_TM_count_2 ?_
  refine rx_istore_n C (Nat.le_of_ble_eq_true rfl) [1, 2, 3, 0] (lv' := [(0, .ref (a 0)), (1, .int (v)), (2, .int (nI (0))), (3, .int (nI (0)))]) rfl d_TM_count_3 ?_
  have loop : ∀ (n : Nat) (y : Nat), h - y < n → (y ≤ h) → G 4 [(0, .ref (a 0)), (1, .int (v)), (2, .int (nI (ct (fun k => f (mx w k) = v) (w * y)))), (3, .int (nI (y)))] [] [(a 0, oTM w h a), (a 2, cI ta 576 (f))] := by
    intro n
    induction n with
    | zero => intro y hm; exact absurd hm (Nat.not_lt_zero _)
    | succ n ih =>
      intro y hm hy
      refine rx_iload_n C 3 rfl d_TM_count_4 ?_
      refine rx_aload_n C 0 rfl d_TM_count_5 ?_
      refine rx_get C 0 1 i_TM rfl rfl (by decide) g_189 rfl rfl d_TM_count_6 ?_
      refine rx_icmp_geN C (by omega) (by omega) d_TM_count_9 (fun c9 => ?_) (fun c9 => ?_)
      · skip
        refine rx_iload_n C 2 rfl d_TM_count_60 ?_
        rw [show y = h by omega]
        exact hret _ _ _ _ () d_TM_count_61 (rfl) (rfl)
      · skip
        refine rx_iconst C (nI 0) (by decide) d_TM_count_12 ?_
        refine rx_istore C (Nat.le_of_ble_eq_true rfl) [1, 2, 3, 4, 0] (lv' := [(0, .ref (a 0)), (1, .int (v)), (2, .int (nI (ct (fun k => f (mx w k) = v) (w * y)))), (3, .int (nI (y))), (4, .int (nI (0)))]) rfl d_TM_count_13 ?_
        have loop2 : ∀ (n2 : Nat) (x : Nat), w - x < n2 → (x ≤ w) → G 15 [(0, .ref (a 0)), (1, .int (v)), (2, .int (nI (ct (fun k => f (mx w k) = v) (w * y + x)))), (3, .int (nI (y))), (4, .int (nI (x)))] [] [(a 0, oTM w h a), (a 2, cI ta 576 (f))] := by
          intro n2
          induction n2 with
          | zero => intro x hm; exact absurd hm (Nat.not_lt_zero _)
          | succ n2 ih2 =>
            intro x hm2 hx
            refine rx_iload C 4 rfl d_TM_count_15 ?_
            refine rx_aload_n C 0 rfl d_TM_count_17 ?_
            refine rx_get C 0 0 i_TM rfl rfl (by decide) g_188 rfl rfl d_TM_count_18 ?_
            refine rx_icmp_geN C (by omega) (by omega) d_TM_count_21 (fun c21 => ?_) (fun c21 => ?_)
            · skip
              refine rx_iinc C 3 rfl (nI (y + 1)) (nI_add _ _) (Nat.le_of_ble_eq_true rfl) [1, 2, 3, 0, 4] (lv' := [(0, .ref (a 0)), (1, .int (v)), (2, .int (nI (ct (fun k => f (mx w k) = v) (w * y + x)))), (3, .int (nI (y + 1))), (4, .int (nI (x)))]) rfl d_TM_count_54 ?_
              refine rx_goto C d_TM_count_57 ?_
              rw [show x = w by omega, ← Nat.mul_succ]
              refine rx_lv C [0, 1, 2, 3] rfl ?_
              exact ih (y + 1) (by omega) (by omega)
            · skip
              refine rx_iload_n C 2 rfl d_TM_count_24 ?_
              refine rx_aload_n C 0 rfl d_TM_count_25 ?_
              refine rx_get C 0 2 i_TM rfl rfl (by decide) g_190 rfl rfl d_TM_count_26 ?_
              refine rx_bipush C (nI 24) (by decide) d_TM_count_29 ?_
              refine rx_iload_n C 3 rfl d_TM_count_31 ?_
              refine rx_imulN C d_TM_count_32 ?_
              refine rx_iload C 4 rfl d_TM_count_33 ?_
              refine rx_iaddN C d_TM_count_35 ?_
              refine rx_iald C 1 rfl (by decide) ((24 * y) + x) (rfl) (by omega) d_TM_count_36 ?_
              refine rx_iload_n C 1 rfl d_TM_count_37 ?_
              refine rx_icmp_ne C d_TM_count_38 (fun c38 => ?_) (fun c38 => ?_)
              · skip
                refine rx_iconst C (nI 0) (by decide) d_TM_count_45 ?_
                refine rx_iaddN C d_TM_count_46 ?_
                refine rx_istore_n C (Nat.le_of_ble_eq_true rfl) [1, 2, 0, 3, 4] (lv' := [(0, .ref (a 0)), (1, .int (v)), (2, .int (nI ((ct (fun k => f (mx w k) = v) (w * y + x)) + 0))), (3, .int (nI (y))), (4, .int (nI (x)))]) rfl d_TM_count_47 ?_
                refine rx_iinc C 4 rfl (nI (x + 1)) (nI_add _ _) (Nat.le_of_ble_eq_true rfl) [1, 2, 3, 4, 0] (lv' := [(0, .ref (a 0)), (1, .int (v)), (2, .int (nI ((ct (fun k => f (mx w k) = v) (w * y + x)) + 0))), (3, .int (nI (y))), (4, .int (nI (x + 1)))]) rfl d_TM_count_48 ?_
                refine rx_goto C d_TM_count_51 ?_
                have e : ct (fun k => f (mx w k) = v) (w * y + (x + 1)) = ct (fun k => f (mx w k) = v) (w * y + x) + 0 := ct_n (P := fun k => f (mx w k) = v) (n := w * y + x) (by rw [mx_eq y (by omega)]; exact c38)
                rw [← e]
                exact ih2 (x + 1) (by omega) (by omega)
              · skip
                refine rx_iconst C (nI 1) (by decide) d_TM_count_41 ?_
                refine rx_goto C d_TM_count_42 ?_
                refine rx_iaddN C d_TM_count_46 ?_
                refine rx_istore_n C (Nat.le_of_ble_eq_true rfl) [1, 2, 0, 3, 4] (lv' := [(0, .ref (a 0)), (1, .int (v)), (2, .int (nI ((ct (fun k => f (mx w k) = v) (w * y + x)) + 1))), (3, .int (nI (y))), (4, .int (nI (x)))]) rfl d_TM_count_47 ?_
                refine rx_iinc C 4 rfl (nI (x + 1)) (nI_add _ _) (Nat.le_of_ble_eq_true rfl) [1, 2, 3, 4, 0] (lv' := [(0, .ref (a 0)), (1, .int (v)), (2, .int (nI ((ct (fun k => f (mx w k) = v) (w * y + x)) + 1))), (3, .int (nI (y))), (4, .int (nI (x + 1)))]) rfl d_TM_count_48 ?_
                refine rx_goto C d_TM_count_51 ?_
                have e : ct (fun k => f (mx w k) = v) (w * y + (x + 1)) = ct (fun k => f (mx w k) = v) (w * y + x) + 1 := ct_y (P := fun k => f (mx w k) = v) (n := w * y + x) (by rw [mx_eq y (by omega)]; exact c38)
                rw [← e]
                exact ih2 (x + 1) (by omega) (by omega)
        exact loop2 _ 0 (Nat.lt_succ_self _) (Nat.zero_le _)
  exact loop _ 0 (Nat.lt_succ_self _) (Nat.zero_le _)
end
section
def nearP (x y : Int32) : Prop := ¬ x < -2000 ∧ ¬ 2000 < x ∧ ¬ y < -2000 ∧ ¬ 2000 < y
def RA (X Y : Nat → Int32) : Int64 := (X 1 - X 0).toInt64 * (Y 2 - Y 0).toInt64 - (Y 1 - Y 0).toInt64 * (X 2 - X 0).toInt64
def absA (X Y : Nat → Int32) : Int64 := if 0 < RA X Y then RA X Y else -RA X Y
def inE (X Y : Nat → Int32) (i j : Nat) (x y : Int32) : Prop := (lsE (X i) (Y i) (X j) (Y j)).toInt64 ≤ bgE (X i) (Y i) (X j) (Y j) + -((Y j - Y i).toInt64) * 16 * x.toInt64 + (X j - X i).toInt64 * 16 * y.toInt64
def ordP (X Y : Nat → Int32) (u : Nat × Nat) : Prop := (RA X Y < 0 ∧ u = (2, 1)) ∨ (¬ RA X Y < 0 ∧ u = (1, 2))
theorem short_id {k : Nat} (hk : k < 32768) : (nI k).toInt16.toInt32 = nI k := by
  apply Int32.toInt_inj.mp
  rw [Int16.toInt_toInt32, Int32.toInt_toInt16, nI_toInt (by omega)]
  rw [Int.bmod_eq_of_le] <;> omega
set_option maxHeartbeats 4000000 in
set_option maxRecDepth 100000 in
theorem c_TM_edge (l : Launch) (D : va_G) (ta : Nat → ClassId) (w h : Nat) (a : Nat → Nat) (xs ys : Nat → Int32) (i j : Nat) (hi : i < 3) (hj : j < 3) (px py : Int64) : Ctl l y_TM_edge b_TM_edge 7 rm_TM_edge D ta [.ref (a 0), .int (nI (i)), .int (nI (j)), .long (px), .long (py)] [(a 0, oTM w h a), (a 4, cI ta 3 (xs)), (a 5, cI ta 3 (ys))] (fun _ : Unit => [(a 0, oTM w h a), (a 4, cI ta 3 (xs)), (a 5, cI ta 3 (ys))]) (fun r _ => r = EZ xs ys i j px py) := by
  refine start_l rfl (Nat.le_of_ble_eq_true rfl) (fun G C hret => ?_)
  show G 0 [(0, .ref (a 0)), (1, .int (nI (i))), (2, .int (nI (j))), (3, .long (px)), (5, .long (py))] [] [(a 0, oTM w h a), (a 4, cI ta 3 (xs)), (a 5, cI ta 3 (ys))]
  refine rx_aload_n C 0 rfl d_TM_edge_0 ?_
  refine rx_get C 0 4 i_TM rfl rfl (by decide) g_192 rfl rfl d_TM_edge_1 ?_
  refine rx_iload_n C 2 rfl d_TM_edge_4 ?_
  refine rx_iald C 1 rfl (by decide) (j) (rfl) (by omega) d_TM_edge_5 ?_
  refine rx_aload_n C 0 rfl d_TM_edge_6 ?_
  refine rx_get C 0 4 i_TM rfl rfl (by decide) g_192 rfl rfl d_TM_edge_7 ?_
  refine rx_iload_n C 1 rfl d_TM_edge_10 ?_
  refine rx_iald C 1 rfl (by decide) (i) (rfl) (by omega) d_TM_edge_11 ?_
  refine rx_isub C d_TM_edge_12 ?_
  refine rx_i2l C d_TM_edge_13 ?_
  refine rx_lload C 4 rfl d_TM_edge_14 ?_
  refine rx_aload_n C 0 rfl d_TM_edge_16 ?_
  refine rx_get C 0 5 i_TM rfl rfl (by decide) g_193 rfl rfl d_TM_edge_17 ?_
  refine rx_iload_n C 1 rfl d_TM_edge_20 ?_
  refine rx_iald C 2 rfl (by decide) (i) (rfl) (by omega) d_TM_edge_21 ?_
  refine rx_i2l C d_TM_edge_22 ?_
  refine rx_lsub C d_TM_edge_23 ?_
  refine rx_lmul C d_TM_edge_24 ?_
  refine rx_aload_n C 0 rfl d_TM_edge_25 ?_
  refine rx_get C 0 5 i_TM rfl rfl (by decide) g_193 rfl rfl d_TM_edge_26 ?_
  refine rx_iload_n C 2 rfl d_TM_edge_29 ?_
  refine rx_iald C 2 rfl (by decide) (j) (rfl) (by omega) d_TM_edge_30 ?_
  refine rx_aload_n C 0 rfl d_TM_edge_31 ?_
  refine rx_get C 0 5 i_TM rfl rfl (by decide) g_193 rfl rfl d_TM_edge_32 ?_
  refine rx_iload_n C 1 rfl d_TM_edge_35 ?_
  refine rx_iald C 2 rfl (by decide) (i) (rfl) (by omega) d_TM_edge_36 ?_
  refine rx_isub C d_TM_edge_37 ?_
  refine rx_i2l C d_TM_edge_38 ?_
  refine rx_lload_n C 3 rfl d_TM_edge_39 ?_
  refine rx_aload_n C 0 rfl d_TM_edge_40 ?_
  refine rx_get C 0 4 i_TM rfl rfl (by decide) g_192 rfl rfl d_TM_edge_41 ?_
  refine rx_iload_n C 1 rfl d_TM_edge_44 ?_
  refine rx_iald C 1 rfl (by decide) (i) (rfl) (by omega) d_TM_edge_45 ?_
  refine rx_i2l C d_TM_edge_46 ?_
  refine rx_lsub C d_TM_edge_47 ?_
  refine rx_lmul C d_TM_edge_48 ?_
  refine rx_lsub C d_TM_edge_49 ?_
  exact hret _ _ _ _ () d_TM_edge_50 (rfl)
set_option maxHeartbeats 4000000 in
set_option maxRecDepth 100000 in
theorem c_TM_area (l : Launch) (D : va_G) (ta : Nat → ClassId) (w h : Nat) (a : Nat → Nat) (xs ys : Nat → Int32) : Ctl l y_TM_area b_TM_area 1 rm_TM_area D ta [.ref (a 0)] [(a 0, oTM w h a), (a 4, cI ta 3 (xs)), (a 5, cI ta 3 (ys))] (fun _ : Unit => [(a 0, oTM w h a), (a 4, cI ta 3 (xs)), (a 5, cI ta 3 (ys))]) (fun r _ => r = AZ xs ys) := by
  refine start_l rfl (Nat.le_of_ble_eq_true rfl) (fun G C hret => ?_)
  show G 0 [(0, .ref (a 0))] [] [(a 0, oTM w h a), (a 4, cI ta 3 (xs)), (a 5, cI ta 3 (ys))]
  refine rx_aload_n C 0 rfl d_TM_area_0 ?_
  refine rx_iconst C (nI 0) (by decide) d_TM_area_1 ?_
  refine rx_iconst C (nI 1) (by decide) d_TM_area_2 ?_
  refine rx_aload_n C 0 rfl d_TM_area_3 ?_
  refine rx_get C 0 4 i_TM rfl rfl (by decide) g_192 rfl rfl d_TM_area_4 ?_
  refine rx_iconst C (nI 2) (by decide) d_TM_area_7 ?_
  refine rx_iald C 1 rfl (by decide) (2) (rfl) (by omega) d_TM_area_8 ?_
  refine rx_i2l C d_TM_area_9 ?_
  refine rx_aload_n C 0 rfl d_TM_area_10 ?_
  refine rx_get C 0 5 i_TM rfl rfl (by decide) g_193 rfl rfl d_TM_area_11 ?_
  refine rx_iconst C (nI 2) (by decide) d_TM_area_14 ?_
  refine rx_iald C 2 rfl (by decide) (2) (rfl) (by omega) d_TM_area_15 ?_
  refine rx_i2l C d_TM_area_16 ?_
  refine rx_callVl C (c_TM_edge l D ta w h a xs ys 0 1 (by decide) (by decide) (xs 2).toInt64 (ys 2).toInt64) cw_TM_42 ⟨rfl, rfl, by decide, by decide⟩ rfl [0, 1, 2] rfl rfl (q0 := 0) rfl rfl rfl [] rfl (Nat.le_of_ble_eq_true rfl) (fun _ => rfl) d_TM_area_17 (fun r0 u0 h0 => ?_)
  refine rx_ws (ws' := [(a 0, oTM w h a), (a 4, cI ta 3 (xs)), (a 5, cI ta 3 (ys))]) ?_ rfl
  exact hret _ _ _ _ () d_TM_area_20 (h0)
set_option maxHeartbeats 4000000 in
set_option maxRecDepth 100000 in
theorem c_TM_isTopOrLeft (l : Launch) (D : va_G) (ta : Nat → ClassId) (w h : Nat) (a : Nat → Nat) (xs ys : Nat → Int32) (i j : Nat) (hi : i < 3) (hj : j < 3) : Cti l y_TM_isTopOrLeft b_TM_isTopOrLeft 3 .boolean rm_TM_isTopOrLeft D ta [.ref (a 0), .int (nI (i)), .int (nI (j))] [(a 0, oTM w h a), (a 4, cI ta 3 (xs)), (a 5, cI ta 3 (ys))] (fun _ : Unit => [(a 0, oTM w h a), (a 4, cI ta 3 (xs)), (a 5, cI ta 3 (ys))]) (fun r _ => bI (TL xs ys i j) r) := by
  refine start_i rfl (Nat.le_of_ble_eq_true rfl) (fun G C hret => ?_)
  show G 0 [(0, .ref (a 0)), (1, .int (nI (i))), (2, .int (nI (j)))] [] [(a 0, oTM w h a), (a 4, cI ta 3 (xs)), (a 5, cI ta 3 (ys))]
  refine rx_aload_n C 0 rfl d_TM_isTopOrLeft_0 ?_
  refine rx_get C 0 5 i_TM rfl rfl (by decide) g_193 rfl rfl d_TM_isTopOrLeft_1 ?_
  refine rx_iload_n C 1 rfl d_TM_isTopOrLeft_4 ?_
  refine rx_iald C 2 rfl (by decide) (i) (rfl) (by omega) d_TM_isTopOrLeft_5 ?_
  refine rx_aload_n C 0 rfl d_TM_isTopOrLeft_6 ?_
  refine rx_get C 0 5 i_TM rfl rfl (by decide) g_193 rfl rfl d_TM_isTopOrLeft_7 ?_
  refine rx_iload_n C 2 rfl d_TM_isTopOrLeft_10 ?_
  refine rx_iald C 2 rfl (by decide) (j) (rfl) (by omega) d_TM_isTopOrLeft_11 ?_
  refine rx_icmp_ne C d_TM_isTopOrLeft_12 (fun c12 => ?_) (fun c12 => ?_)
  · skip
    refine rx_aload_n C 0 rfl d_TM_isTopOrLeft_30 ?_
    refine rx_get C 0 5 i_TM rfl rfl (by decide) g_193 rfl rfl d_TM_isTopOrLeft_31 ?_
    refine rx_iload_n C 2 rfl d_TM_isTopOrLeft_34 ?_
    refine rx_iald C 2 rfl (by decide) (j) (rfl) (by omega) d_TM_isTopOrLeft_35 ?_
    refine rx_aload_n C 0 rfl d_TM_isTopOrLeft_36 ?_
    refine rx_get C 0 5 i_TM rfl rfl (by decide) g_193 rfl rfl d_TM_isTopOrLeft_37 ?_
    refine rx_iload_n C 1 rfl d_TM_isTopOrLeft_40 ?_
    refine rx_iald C 2 rfl (by decide) (i) (rfl) (by omega) d_TM_isTopOrLeft_41 ?_
    refine rx_icmp_ge C d_TM_isTopOrLeft_42 (fun c42 => ?_) (fun c42 => ?_)
    · skip
      refine rx_iconst C (nI 0) (by decide) d_TM_isTopOrLeft_49 ?_
      exact hret _ _ _ _ () d_TM_isTopOrLeft_50 (rfl) (Or.inr ⟨rfl, not_or.mpr ⟨fun q => c12 q.1, tlt32 c42⟩⟩)
    · skip
      refine rx_iconst C (nI 1) (by decide) d_TM_isTopOrLeft_45 ?_
      refine rx_goto C d_TM_isTopOrLeft_46 ?_
      exact hret _ _ _ _ () d_TM_isTopOrLeft_50 (rfl) (Or.inl ⟨rfl, Or.inr (nle32 c42)⟩)
  · skip
    refine rx_aload_n C 0 rfl d_TM_isTopOrLeft_15 ?_
    refine rx_get C 0 4 i_TM rfl rfl (by decide) g_192 rfl rfl d_TM_isTopOrLeft_16 ?_
    refine rx_iload_n C 2 rfl d_TM_isTopOrLeft_19 ?_
    refine rx_iald C 1 rfl (by decide) (j) (rfl) (by omega) d_TM_isTopOrLeft_20 ?_
    refine rx_aload_n C 0 rfl d_TM_isTopOrLeft_21 ?_
    refine rx_get C 0 4 i_TM rfl rfl (by decide) g_192 rfl rfl d_TM_isTopOrLeft_22 ?_
    refine rx_iload_n C 1 rfl d_TM_isTopOrLeft_25 ?_
    refine rx_iald C 1 rfl (by decide) (i) (rfl) (by omega) d_TM_isTopOrLeft_26 ?_
    refine rx_icmp_gt C d_TM_isTopOrLeft_27 (fun c27 => ?_) (fun c27 => ?_)
    · skip
      refine rx_iconst C (nI 1) (by decide) d_TM_isTopOrLeft_45 ?_
      refine rx_goto C d_TM_isTopOrLeft_46 ?_
      exact hret _ _ _ _ () d_TM_isTopOrLeft_50 (rfl) (Or.inl ⟨rfl, Or.inl ⟨c12, c27⟩⟩)
    · skip
      refine rx_aload_n C 0 rfl d_TM_isTopOrLeft_30 ?_
      refine rx_get C 0 5 i_TM rfl rfl (by decide) g_193 rfl rfl d_TM_isTopOrLeft_31 ?_
      refine rx_iload_n C 2 rfl d_TM_isTopOrLeft_34 ?_
      refine rx_iald C 2 rfl (by decide) (j) (rfl) (by omega) d_TM_isTopOrLeft_35 ?_
      refine rx_aload_n C 0 rfl d_TM_isTopOrLeft_36 ?_
      refine rx_get C 0 5 i_TM rfl rfl (by decide) g_193 rfl rfl d_TM_isTopOrLeft_37 ?_
      refine rx_iload_n C 1 rfl d_TM_isTopOrLeft_40 ?_
      refine rx_iald C 2 rfl (by decide) (i) (rfl) (by omega) d_TM_isTopOrLeft_41 ?_
      refine rx_icmp_ge C d_TM_isTopOrLeft_42 (fun c42 => ?_) (fun c42 => ?_)
      · skip
        refine rx_iconst C (nI 0) (by decide) d_TM_isTopOrLeft_49 ?_
        exact hret _ _ _ _ () d_TM_isTopOrLeft_50 (rfl) (Or.inr ⟨rfl, not_or.mpr ⟨fun q => c27 q.2, tlt32 c42⟩⟩)
      · skip
        refine rx_iconst C (nI 1) (by decide) d_TM_isTopOrLeft_45 ?_
        refine rx_goto C d_TM_isTopOrLeft_46 ?_
        exact hret _ _ _ _ () d_TM_isTopOrLeft_50 (rfl) (Or.inl ⟨rfl, Or.inr (nle32 c42)⟩)
set_option maxHeartbeats 4000000 in
set_option maxRecDepth 100000 in
theorem c_TM_isInside (l : Launch) (D : va_G) (ta : Nat → ClassId) (w h : Nat) (a : Nat → Nat) (xs ys : Nat → Int32) (i j : Nat) (hi : i < 3) (hj : j < 3) (px py : Int64) : Cti l y_TM_isInside b_TM_isInside 9 .boolean rm_TM_isInside D ta [.ref (a 0), .int (nI (i)), .int (nI (j)), .long (px), .long (py)] [(a 0, oTM w h a), (a 4, cI ta 3 (xs)), (a 5, cI ta 3 (ys))] (fun _ : Unit => [(a 0, oTM w h a), (a 4, cI ta 3 (xs)), (a 5, cI ta 3 (ys))]) (fun r _ => bI (INS xs ys i j px py) r) := by
  refine start_i rfl (Nat.le_of_ble_eq_true rfl) (fun G C hret => ?_)
  show G 0 [(0, .ref (a 0)), (1, .int (nI (i))), (2, .int (nI (j))), (3, .long (px)), (5, .long (py))] [] [(a 0, oTM w h a), (a 4, cI ta 3 (xs)), (a 5, cI ta 3 (ys))]
  refine rx_aload_n C 0 rfl d_TM_isInside_0 ?_
  refine rx_iload_n C 1 rfl d_TM_isInside_1 ?_
  refine rx_iload_n C 2 rfl d_TM_isInside_2 ?_
  refine rx_lload_n C 3 rfl d_TM_isInside_3 ?_
  refine rx_lload C 4 rfl d_TM_isInside_4 ?_
  refine rx_callVl C (c_TM_edge l D ta w h a xs ys i j hi hj px py) cw_TM_42 ⟨rfl, rfl, by decide, by decide⟩ rfl [0, 1, 2] rfl rfl (q0 := 0) rfl rfl rfl [] rfl (Nat.le_of_ble_eq_true rfl) (fun _ => rfl) d_TM_isInside_6 (fun r0 u0 h0 => ?_)
  subst h0
  refine rx_ws (ws' := [(a 0, oTM w h a), (a 4, cI ta 3 (xs)), (a 5, cI ta 3 (ys))]) ?_ rfl
  refine rx_lstore C (Nat.le_of_ble_eq_true rfl) [1, 2, 3, 4, 5, 0] (lv' := [(0, .ref (a 0)), (1, .int (nI (i))), (2, .int (nI (j))), (3, .long (px)), (5, .long (py)), (7, .long (EZ xs ys i j px py))]) rfl d_TM_isInside_9 ?_
  refine rx_lload C 5 rfl d_TM_isInside_11 ?_
  refine rx_lconst C 0 (by decide) d_TM_isInside_13 ?_
  refine rx_lcmp_gt C d_TM_isInside_14 d_TM_isInside_15 (fun c14 => ?_) (fun c14 => ?_)
  · skip
    refine rx_iconst C (nI 1) (by decide) d_TM_isInside_34 ?_
    refine rx_goto C d_TM_isInside_35 ?_
    exact hret _ _ _ _ () d_TM_isInside_39 (rfl) (Or.inl ⟨rfl, Or.inl c14⟩)
  · skip
    refine rx_lload C 5 rfl d_TM_isInside_18 ?_
    refine rx_lconst C 0 (by decide) d_TM_isInside_20 ?_
    refine rx_lcmp_ne C d_TM_isInside_21 d_TM_isInside_22 (fun c21 => ?_) (fun c21 => ?_)
    · skip
      refine rx_iconst C (nI 0) (by decide) d_TM_isInside_38 ?_
      exact hret _ _ _ _ () d_TM_isInside_39 (rfl) (Or.inr ⟨rfl, not_or.mpr ⟨c14, fun q => c21 q.1⟩⟩)
    · skip
      refine rx_aload_n C 0 rfl d_TM_isInside_25 ?_
      refine rx_iload_n C 1 rfl d_TM_isInside_26 ?_
      refine rx_iload_n C 2 rfl d_TM_isInside_27 ?_
      refine rx_callVi C (c_TM_isTopOrLeft l D ta w h a xs ys i j hi hj) cw_TM_46 ⟨rfl, rfl, by decide, by decide⟩ rfl [0, 1, 2] rfl rfl (q0 := 0) rfl rfl rfl [] rfl (Nat.le_of_ble_eq_true rfl) (fun _ => rfl) d_TM_isInside_28 (fun r1 u1 h1 => ?_)
      refine rx_ws (ws' := [(a 0, oTM w h a), (a 4, cI ta 3 (xs)), (a 5, cI ta 3 (ys))]) ?_ rfl
      rcases h1 with ⟨rfl, p1⟩ | ⟨rfl, p1⟩
      · skip
        show G 31 [(0, .ref (a 0)), (1, .int (nI (i))), (2, .int (nI (j))), (3, .long (px)), (5, .long (py)), (7, .long (EZ xs ys i j px py))] [.int (nI (1))] [(a 0, oTM w h a), (a 4, cI ta 3 (xs)), (a 5, cI ta 3 (ys))]
        refine rx_if_eqN C (by omega) d_TM_isInside_31 (fun c31 => by exfalso; omega) (fun c31 => ?_)
        refine rx_iconst C (nI 1) (by decide) d_TM_isInside_34 ?_
        refine rx_goto C d_TM_isInside_35 ?_
        exact hret _ _ _ _ () d_TM_isInside_39 (rfl) (Or.inl ⟨rfl, Or.inr ⟨c21, p1⟩⟩)
      · skip
        show G 31 [(0, .ref (a 0)), (1, .int (nI (i))), (2, .int (nI (j))), (3, .long (px)), (5, .long (py)), (7, .long (EZ xs ys i j px py))] [.int (nI (0))] [(a 0, oTM w h a), (a 4, cI ta 3 (xs)), (a 5, cI ta 3 (ys))]
        refine rx_if_eqN C (by omega) d_TM_isInside_31 (fun c31 => ?_) (fun c31 => by exfalso; omega)
        refine rx_iconst C (nI 0) (by decide) d_TM_isInside_38 ?_
        exact hret _ _ _ _ () d_TM_isInside_39 (rfl) (Or.inr ⟨rfl, not_or.mpr ⟨c14, fun q => p1 q.2⟩⟩)
set_option maxHeartbeats 4000000 in
set_option maxRecDepth 100000 in
theorem c_TM_isCovered (l : Launch) (D : va_G) (ta : Nat → ClassId) (w h : Nat) (a : Nat → Nat) (xs ys : Nat → Int32) (x y : Int32) : Cti l y_TM_isCovered b_TM_isCovered 9 .boolean rm_TM_isCovered D ta [.ref (a 0), .int (x), .int (y)] [(a 0, oTM w h a), (a 4, cI ta 3 (xs)), (a 5, cI ta 3 (ys))] (fun _ : Unit => [(a 0, oTM w h a), (a 4, cI ta 3 (xs)), (a 5, cI ta 3 (ys))]) (fun r _ => bI (CV xs ys (16 * x.toInt64 + 8) (16 * y.toInt64 + 8)) r) := by
  refine start_i rfl (Nat.le_of_ble_eq_true rfl) (fun G C hret => ?_)
  show G 0 [(0, .ref (a 0)), (1, .int (x)), (2, .int (y))] [] [(a 0, oTM w h a), (a 4, cI ta 3 (xs)), (a 5, cI ta 3 (ys))]
  refine rx_ldc2 C g_234 d_TM_isCovered_0 ?_
  refine rx_iload_n C 1 rfl d_TM_isCovered_3 ?_
  refine rx_i2l C d_TM_isCovered_4 ?_
  refine rx_lmul C d_TM_isCovered_5 ?_
  refine rx_ldc2 C g_235 d_TM_isCovered_6 ?_
  refine rx_ladd C d_TM_isCovered_9 ?_
  refine rx_lstore_n C (Nat.le_of_ble_eq_true rfl) [1, 2, 3, 0] (lv' := [(0, .ref (a 0)), (1, .int (x)), (2, .int (y)), (3, .long ((16 * x.toInt64) + 8))]) rfl d_TM_isCovered_10 ?_
  refine rx_ldc2 C g_234 d_TM_isCovered_11 ?_
  refine rx_iload_n C 2 rfl d_TM_isCovered_14 ?_
  refine rx_i2l C d_TM_isCovered_15 ?_
  refine rx_lmul C d_TM_isCovered_16 ?_
  refine rx_ldc2 C g_235 d_TM_isCovered_17 ?_
  refine rx_ladd C d_TM_isCovered_20 ?_
  refine rx_lstore C (Nat.le_of_ble_eq_true rfl) [1, 2, 3, 4, 0] (lv' := [(0, .ref (a 0)), (1, .int (x)), (2, .int (y)), (3, .long ((16 * x.toInt64) + 8)), (5, .long ((16 * y.toInt64) + 8))]) rfl d_TM_isCovered_21 ?_
  refine rx_aload_n C 0 rfl d_TM_isCovered_23 ?_
  refine rx_callVl C (c_TM_area l D ta w h a xs ys) cw_TM_54 ⟨rfl, rfl, by decide, by decide⟩ rfl [0, 1, 2] rfl rfl (q0 := 0) rfl rfl rfl [] rfl (Nat.le_of_ble_eq_true rfl) (fun _ => rfl) d_TM_isCovered_24 (fun r0 u0 h0 => ?_)
  subst h0
  refine rx_ws (ws' := [(a 0, oTM w h a), (a 4, cI ta 3 (xs)), (a 5, cI ta 3 (ys))]) ?_ rfl
  refine rx_lstore C (Nat.le_of_ble_eq_true rfl) [1, 2, 3, 4, 5, 0] (lv' := [(0, .ref (a 0)), (1, .int (x)), (2, .int (y)), (3, .long ((16 * x.toInt64) + 8)), (5, .long ((16 * y.toInt64) + 8)), (7, .long (AZ xs ys))]) rfl d_TM_isCovered_27 ?_
  refine rx_lload C 5 rfl d_TM_isCovered_29 ?_
  refine rx_lconst C 0 (by decide) d_TM_isCovered_31 ?_
  refine rx_lcmp_le C d_TM_isCovered_32 d_TM_isCovered_33 (fun c32 => ?_) (fun c32 => ?_)
  · skip
    refine rx_lload C 5 rfl d_TM_isCovered_78 ?_
    refine rx_lconst C 0 (by decide) d_TM_isCovered_80 ?_
    refine rx_lcmp_ge C d_TM_isCovered_81 d_TM_isCovered_82 (fun c81 => ?_) (fun c81 => ?_)
    · skip
      refine rx_iconst C (nI 0) (by decide) d_TM_isCovered_125 ?_
      exact hret _ _ _ _ () d_TM_isCovered_126 (rfl) (Or.inr ⟨rfl, not_or.mpr ⟨fun q => Int64.not_lt.mpr c32 q.1, fun q => Int64.not_lt.mpr c81 q.2.1⟩⟩)
    · skip
      refine rx_aload_n C 0 rfl d_TM_isCovered_85 ?_
      refine rx_iconst C (nI 0) (by decide) d_TM_isCovered_86 ?_
      refine rx_iconst C (nI 2) (by decide) d_TM_isCovered_87 ?_
      refine rx_lload_n C 3 rfl d_TM_isCovered_88 ?_
      refine rx_lload C 4 rfl d_TM_isCovered_89 ?_
      refine rx_callVi C (c_TM_isInside l D ta w h a xs ys 0 2 (by decide) (by decide) (16 * x.toInt64 + 8) (16 * y.toInt64 + 8)) cw_TM_58 ⟨rfl, rfl, by decide, by decide⟩ rfl [0, 1, 2] rfl rfl (q0 := 0) rfl rfl rfl [] rfl (Nat.le_of_ble_eq_true rfl) (fun _ => rfl) d_TM_isCovered_91 (fun r1 u1 h1 => ?_)
      refine rx_ws (ws' := [(a 0, oTM w h a), (a 4, cI ta 3 (xs)), (a 5, cI ta 3 (ys))]) ?_ rfl
      rcases h1 with ⟨rfl, p1⟩ | ⟨rfl, p1⟩
      · skip
        show G 94 [(0, .ref (a 0)), (1, .int (x)), (2, .int (y)), (3, .long ((16 * x.toInt64) + 8)), (5, .long ((16 * y.toInt64) + 8)), (7, .long (AZ xs ys))] [.int (nI (1))] [(a 0, oTM w h a), (a 4, cI ta 3 (xs)), (a 5, cI ta 3 (ys))]
        refine rx_if_eqN C (by omega) d_TM_isCovered_94 (fun c94 => by exfalso; omega) (fun c94 => ?_)
        refine rx_aload_n C 0 rfl d_TM_isCovered_97 ?_
        refine rx_iconst C (nI 2) (by decide) d_TM_isCovered_98 ?_
        refine rx_iconst C (nI 1) (by decide) d_TM_isCovered_99 ?_
        refine rx_lload_n C 3 rfl d_TM_isCovered_100 ?_
        refine rx_lload C 4 rfl d_TM_isCovered_101 ?_
        refine rx_callVi C (c_TM_isInside l D ta w h a xs ys 2 1 (by decide) (by decide) (16 * x.toInt64 + 8) (16 * y.toInt64 + 8)) cw_TM_58 ⟨rfl, rfl, by decide, by decide⟩ rfl [0, 1, 2] rfl rfl (q0 := 0) rfl rfl rfl [] rfl (Nat.le_of_ble_eq_true rfl) (fun _ => rfl) d_TM_isCovered_103 (fun r2 u2 h2 => ?_)
        refine rx_ws (ws' := [(a 0, oTM w h a), (a 4, cI ta 3 (xs)), (a 5, cI ta 3 (ys))]) ?_ rfl
        rcases h2 with ⟨rfl, p2⟩ | ⟨rfl, p2⟩
        · skip
          show G 106 [(0, .ref (a 0)), (1, .int (x)), (2, .int (y)), (3, .long ((16 * x.toInt64) + 8)), (5, .long ((16 * y.toInt64) + 8)), (7, .long (AZ xs ys))] [.int (nI (1))] [(a 0, oTM w h a), (a 4, cI ta 3 (xs)), (a 5, cI ta 3 (ys))]
          refine rx_if_eqN C (by omega) d_TM_isCovered_106 (fun c106 => by exfalso; omega) (fun c106 => ?_)
          refine rx_aload_n C 0 rfl d_TM_isCovered_109 ?_
          refine rx_iconst C (nI 1) (by decide) d_TM_isCovered_110 ?_
          refine rx_iconst C (nI 0) (by decide) d_TM_isCovered_111 ?_
          refine rx_lload_n C 3 rfl d_TM_isCovered_112 ?_
          refine rx_lload C 4 rfl d_TM_isCovered_113 ?_
          refine rx_callVi C (c_TM_isInside l D ta w h a xs ys 1 0 (by decide) (by decide) (16 * x.toInt64 + 8) (16 * y.toInt64 + 8)) cw_TM_58 ⟨rfl, rfl, by decide, by decide⟩ rfl [0, 1, 2] rfl rfl (q0 := 0) rfl rfl rfl [] rfl (Nat.le_of_ble_eq_true rfl) (fun _ => rfl) d_TM_isCovered_115 (fun r3 u3 h3 => ?_)
          refine rx_ws (ws' := [(a 0, oTM w h a), (a 4, cI ta 3 (xs)), (a 5, cI ta 3 (ys))]) ?_ rfl
          rcases h3 with ⟨rfl, p3⟩ | ⟨rfl, p3⟩
          · skip
            show G 118 [(0, .ref (a 0)), (1, .int (x)), (2, .int (y)), (3, .long ((16 * x.toInt64) + 8)), (5, .long ((16 * y.toInt64) + 8)), (7, .long (AZ xs ys))] [.int (nI (1))] [(a 0, oTM w h a), (a 4, cI ta 3 (xs)), (a 5, cI ta 3 (ys))]
            refine rx_if_eqN C (by omega) d_TM_isCovered_118 (fun c118 => by exfalso; omega) (fun c118 => ?_)
            refine rx_iconst C (nI 1) (by decide) d_TM_isCovered_121 ?_
            refine rx_goto C d_TM_isCovered_122 ?_
            exact hret _ _ _ _ () d_TM_isCovered_126 (rfl) (Or.inl ⟨rfl, Or.inr ⟨Int64.not_lt.mpr c32, Int64.not_le.mp c81, p1, p2, p3⟩⟩)
          · skip
            show G 118 [(0, .ref (a 0)), (1, .int (x)), (2, .int (y)), (3, .long ((16 * x.toInt64) + 8)), (5, .long ((16 * y.toInt64) + 8)), (7, .long (AZ xs ys))] [.int (nI (0))] [(a 0, oTM w h a), (a 4, cI ta 3 (xs)), (a 5, cI ta 3 (ys))]
            refine rx_if_eqN C (by omega) d_TM_isCovered_118 (fun c118 => ?_) (fun c118 => by exfalso; omega)
            refine rx_iconst C (nI 0) (by decide) d_TM_isCovered_125 ?_
            exact hret _ _ _ _ () d_TM_isCovered_126 (rfl) (Or.inr ⟨rfl, not_or.mpr ⟨fun q => Int64.not_lt.mpr c32 q.1, fun q => p3 q.2.2.2.2⟩⟩)
        · skip
          show G 106 [(0, .ref (a 0)), (1, .int (x)), (2, .int (y)), (3, .long ((16 * x.toInt64) + 8)), (5, .long ((16 * y.toInt64) + 8)), (7, .long (AZ xs ys))] [.int (nI (0))] [(a 0, oTM w h a), (a 4, cI ta 3 (xs)), (a 5, cI ta 3 (ys))]
          refine rx_if_eqN C (by omega) d_TM_isCovered_106 (fun c106 => ?_) (fun c106 => by exfalso; omega)
          refine rx_iconst C (nI 0) (by decide) d_TM_isCovered_125 ?_
          exact hret _ _ _ _ () d_TM_isCovered_126 (rfl) (Or.inr ⟨rfl, not_or.mpr ⟨fun q => Int64.not_lt.mpr c32 q.1, fun q => p2 q.2.2.2.1⟩⟩)
      · skip
        show G 94 [(0, .ref (a 0)), (1, .int (x)), (2, .int (y)), (3, .long ((16 * x.toInt64) + 8)), (5, .long ((16 * y.toInt64) + 8)), (7, .long (AZ xs ys))] [.int (nI (0))] [(a 0, oTM w h a), (a 4, cI ta 3 (xs)), (a 5, cI ta 3 (ys))]
        refine rx_if_eqN C (by omega) d_TM_isCovered_94 (fun c94 => ?_) (fun c94 => by exfalso; omega)
        refine rx_iconst C (nI 0) (by decide) d_TM_isCovered_125 ?_
        exact hret _ _ _ _ () d_TM_isCovered_126 (rfl) (Or.inr ⟨rfl, not_or.mpr ⟨fun q => Int64.not_lt.mpr c32 q.1, fun q => p1 q.2.2.1⟩⟩)
  · skip
    refine rx_aload_n C 0 rfl d_TM_isCovered_36 ?_
    refine rx_iconst C (nI 0) (by decide) d_TM_isCovered_37 ?_
    refine rx_iconst C (nI 1) (by decide) d_TM_isCovered_38 ?_
    refine rx_lload_n C 3 rfl d_TM_isCovered_39 ?_
    refine rx_lload C 4 rfl d_TM_isCovered_40 ?_
    refine rx_callVi C (c_TM_isInside l D ta w h a xs ys 0 1 (by decide) (by decide) (16 * x.toInt64 + 8) (16 * y.toInt64 + 8)) cw_TM_58 ⟨rfl, rfl, by decide, by decide⟩ rfl [0, 1, 2] rfl rfl (q0 := 0) rfl rfl rfl [] rfl (Nat.le_of_ble_eq_true rfl) (fun _ => rfl) d_TM_isCovered_42 (fun r1 u1 h1 => ?_)
    refine rx_ws (ws' := [(a 0, oTM w h a), (a 4, cI ta 3 (xs)), (a 5, cI ta 3 (ys))]) ?_ rfl
    rcases h1 with ⟨rfl, p1⟩ | ⟨rfl, p1⟩
    · skip
      show G 45 [(0, .ref (a 0)), (1, .int (x)), (2, .int (y)), (3, .long ((16 * x.toInt64) + 8)), (5, .long ((16 * y.toInt64) + 8)), (7, .long (AZ xs ys))] [.int (nI (1))] [(a 0, oTM w h a), (a 4, cI ta 3 (xs)), (a 5, cI ta 3 (ys))]
      refine rx_if_eqN C (by omega) d_TM_isCovered_45 (fun c45 => by exfalso; omega) (fun c45 => ?_)
      refine rx_aload_n C 0 rfl d_TM_isCovered_48 ?_
      refine rx_iconst C (nI 1) (by decide) d_TM_isCovered_49 ?_
      refine rx_iconst C (nI 2) (by decide) d_TM_isCovered_50 ?_
      refine rx_lload_n C 3 rfl d_TM_isCovered_51 ?_
      refine rx_lload C 4 rfl d_TM_isCovered_52 ?_
      refine rx_callVi C (c_TM_isInside l D ta w h a xs ys 1 2 (by decide) (by decide) (16 * x.toInt64 + 8) (16 * y.toInt64 + 8)) cw_TM_58 ⟨rfl, rfl, by decide, by decide⟩ rfl [0, 1, 2] rfl rfl (q0 := 0) rfl rfl rfl [] rfl (Nat.le_of_ble_eq_true rfl) (fun _ => rfl) d_TM_isCovered_54 (fun r2 u2 h2 => ?_)
      refine rx_ws (ws' := [(a 0, oTM w h a), (a 4, cI ta 3 (xs)), (a 5, cI ta 3 (ys))]) ?_ rfl
      rcases h2 with ⟨rfl, p2⟩ | ⟨rfl, p2⟩
      · skip
        show G 57 [(0, .ref (a 0)), (1, .int (x)), (2, .int (y)), (3, .long ((16 * x.toInt64) + 8)), (5, .long ((16 * y.toInt64) + 8)), (7, .long (AZ xs ys))] [.int (nI (1))] [(a 0, oTM w h a), (a 4, cI ta 3 (xs)), (a 5, cI ta 3 (ys))]
        refine rx_if_eqN C (by omega) d_TM_isCovered_57 (fun c57 => by exfalso; omega) (fun c57 => ?_)
        refine rx_aload_n C 0 rfl d_TM_isCovered_60 ?_
        refine rx_iconst C (nI 2) (by decide) d_TM_isCovered_61 ?_
        refine rx_iconst C (nI 0) (by decide) d_TM_isCovered_62 ?_
        refine rx_lload_n C 3 rfl d_TM_isCovered_63 ?_
        refine rx_lload C 4 rfl d_TM_isCovered_64 ?_
        refine rx_callVi C (c_TM_isInside l D ta w h a xs ys 2 0 (by decide) (by decide) (16 * x.toInt64 + 8) (16 * y.toInt64 + 8)) cw_TM_58 ⟨rfl, rfl, by decide, by decide⟩ rfl [0, 1, 2] rfl rfl (q0 := 0) rfl rfl rfl [] rfl (Nat.le_of_ble_eq_true rfl) (fun _ => rfl) d_TM_isCovered_66 (fun r3 u3 h3 => ?_)
        refine rx_ws (ws' := [(a 0, oTM w h a), (a 4, cI ta 3 (xs)), (a 5, cI ta 3 (ys))]) ?_ rfl
        rcases h3 with ⟨rfl, p3⟩ | ⟨rfl, p3⟩
        · skip
          show G 69 [(0, .ref (a 0)), (1, .int (x)), (2, .int (y)), (3, .long ((16 * x.toInt64) + 8)), (5, .long ((16 * y.toInt64) + 8)), (7, .long (AZ xs ys))] [.int (nI (1))] [(a 0, oTM w h a), (a 4, cI ta 3 (xs)), (a 5, cI ta 3 (ys))]
          refine rx_if_eqN C (by omega) d_TM_isCovered_69 (fun c69 => by exfalso; omega) (fun c69 => ?_)
          refine rx_iconst C (nI 1) (by decide) d_TM_isCovered_72 ?_
          refine rx_goto C d_TM_isCovered_73 ?_
          exact hret _ _ _ _ () d_TM_isCovered_77 (rfl) (Or.inl ⟨rfl, Or.inl ⟨Int64.not_le.mp c32, p1, p2, p3⟩⟩)
        · skip
          show G 69 [(0, .ref (a 0)), (1, .int (x)), (2, .int (y)), (3, .long ((16 * x.toInt64) + 8)), (5, .long ((16 * y.toInt64) + 8)), (7, .long (AZ xs ys))] [.int (nI (0))] [(a 0, oTM w h a), (a 4, cI ta 3 (xs)), (a 5, cI ta 3 (ys))]
          refine rx_if_eqN C (by omega) d_TM_isCovered_69 (fun c69 => ?_) (fun c69 => by exfalso; omega)
          refine rx_iconst C (nI 0) (by decide) d_TM_isCovered_76 ?_
          exact hret _ _ _ _ () d_TM_isCovered_77 (rfl) (Or.inr ⟨rfl, not_or.mpr ⟨fun q => p3 q.2.2.2, fun q => q.1 (Int64.not_le.mp c32)⟩⟩)
      · skip
        show G 57 [(0, .ref (a 0)), (1, .int (x)), (2, .int (y)), (3, .long ((16 * x.toInt64) + 8)), (5, .long ((16 * y.toInt64) + 8)), (7, .long (AZ xs ys))] [.int (nI (0))] [(a 0, oTM w h a), (a 4, cI ta 3 (xs)), (a 5, cI ta 3 (ys))]
        refine rx_if_eqN C (by omega) d_TM_isCovered_57 (fun c57 => ?_) (fun c57 => by exfalso; omega)
        refine rx_iconst C (nI 0) (by decide) d_TM_isCovered_76 ?_
        exact hret _ _ _ _ () d_TM_isCovered_77 (rfl) (Or.inr ⟨rfl, not_or.mpr ⟨fun q => p2 q.2.2.1, fun q => q.1 (Int64.not_le.mp c32)⟩⟩)
    · skip
      show G 45 [(0, .ref (a 0)), (1, .int (x)), (2, .int (y)), (3, .long ((16 * x.toInt64) + 8)), (5, .long ((16 * y.toInt64) + 8)), (7, .long (AZ xs ys))] [.int (nI (0))] [(a 0, oTM w h a), (a 4, cI ta 3 (xs)), (a 5, cI ta 3 (ys))]
      refine rx_if_eqN C (by omega) d_TM_isCovered_45 (fun c45 => ?_) (fun c45 => by exfalso; omega)
      refine rx_iconst C (nI 0) (by decide) d_TM_isCovered_76 ?_
      exact hret _ _ _ _ () d_TM_isCovered_77 (rfl) (Or.inr ⟨rfl, not_or.mpr ⟨fun q => p1 q.2.1, fun q => q.1 (Int64.not_le.mp c32)⟩⟩)
set_option maxHeartbeats 4000000 in
set_option maxRecDepth 100000 in
theorem c_TM_depthOf (l : Launch) (D : va_G) (ta : Nat → ClassId) (w h : Nat) (a : Nat → Nat) (xs ys zs : Nat → Int32) (x y : Int32) (hA : ¬ AZ xs ys = 0) : Cti l y_TM_depthOf b_TM_depthOf 9 .int rm_TM_depthOf D ta [.ref (a 0), .int (x), .int (y)] [(a 0, oTM w h a), (a 4, cI ta 3 (xs)), (a 5, cI ta 3 (ys)), (a 6, cI ta 3 (zs))] (fun _ : Unit => [(a 0, oTM w h a), (a 4, cI ta 3 (xs)), (a 5, cI ta 3 (ys)), (a 6, cI ta 3 (zs))]) (fun r _ => r = (DP xs ys zs (16 * x.toInt64 + 8) (16 * y.toInt64 + 8)).toInt32) := by
  refine start_i rfl (Nat.le_of_ble_eq_true rfl) (fun G C hret => ?_)
  show G 0 [(0, .ref (a 0)), (1, .int (x)), (2, .int (y))] [] [(a 0, oTM w h a), (a 4, cI ta 3 (xs)), (a 5, cI ta 3 (ys)), (a 6, cI ta 3 (zs))]
  refine rx_ldc2 C g_234 d_TM_depthOf_0 ?_
  refine rx_iload_n C 1 rfl d_TM_depthOf_3 ?_
  refine rx_i2l C d_TM_depthOf_4 ?_
  refine rx_lmul C d_TM_depthOf_5 ?_
  refine rx_ldc2 C g_235 d_TM_depthOf_6 ?_
  refine rx_ladd C d_TM_depthOf_9 ?_
  refine rx_lstore_n C (Nat.le_of_ble_eq_true rfl) [1, 2, 3, 0] (lv' := [(0, .ref (a 0)), (1, .int (x)), (2, .int (y)), (3, .long ((16 * x.toInt64) + 8))]) rfl d_TM_depthOf_10 ?_
  refine rx_ldc2 C g_234 d_TM_depthOf_11 ?_
  refine rx_iload_n C 2 rfl d_TM_depthOf_14 ?_
  refine rx_i2l C d_TM_depthOf_15 ?_
  refine rx_lmul C d_TM_depthOf_16 ?_
  refine rx_ldc2 C g_235 d_TM_depthOf_17 ?_
  refine rx_ladd C d_TM_depthOf_20 ?_
  refine rx_lstore C (Nat.le_of_ble_eq_true rfl) [1, 2, 3, 4, 0] (lv' := [(0, .ref (a 0)), (1, .int (x)), (2, .int (y)), (3, .long ((16 * x.toInt64) + 8)), (5, .long ((16 * y.toInt64) + 8))]) rfl d_TM_depthOf_21 ?_
  refine rx_aload_n C 0 rfl d_TM_depthOf_23 ?_
  refine rx_iconst C (nI 1) (by decide) d_TM_depthOf_24 ?_
  refine rx_iconst C (nI 2) (by decide) d_TM_depthOf_25 ?_
  refine rx_lload_n C 3 rfl d_TM_depthOf_26 ?_
  refine rx_lload C 4 rfl d_TM_depthOf_27 ?_
  refine rx_callVl C (c_TM_edge l D ta w h a xs ys 1 2 (by decide) (by decide) (16 * x.toInt64 + 8) (16 * y.toInt64 + 8)) cw_TM_42 ⟨rfl, rfl, by decide, by decide⟩ rfl [0, 1, 2] rfl rfl (q0 := 0) rfl rfl rfl [] rfl (Nat.le_of_ble_eq_true rfl) (fun _ => rfl) d_TM_depthOf_29 (fun r0 u0 h0 => ?_)
  subst h0
  refine rx_ws (ws' := [(a 0, oTM w h a), (a 4, cI ta 3 (xs)), (a 5, cI ta 3 (ys)), (a 6, cI ta 3 (zs))]) ?_ rfl
  refine rx_aload_n C 0 rfl d_TM_depthOf_32 ?_
  refine rx_get C 0 6 i_TM rfl rfl (by decide) g_194 rfl rfl d_TM_depthOf_33 ?_
  refine rx_iconst C (nI 0) (by decide) d_TM_depthOf_36 ?_
  refine rx_iald C 3 rfl (by decide) (0) (rfl) (by omega) d_TM_depthOf_37 ?_
  refine rx_i2l C d_TM_depthOf_38 ?_
  refine rx_lmul C d_TM_depthOf_39 ?_
  refine rx_aload_n C 0 rfl d_TM_depthOf_40 ?_
  refine rx_iconst C (nI 2) (by decide) d_TM_depthOf_41 ?_
  refine rx_iconst C (nI 0) (by decide) d_TM_depthOf_42 ?_
  refine rx_lload_n C 3 rfl d_TM_depthOf_43 ?_
  refine rx_lload C 4 rfl d_TM_depthOf_44 ?_
  refine rx_callVl C (c_TM_edge l D ta w h a xs ys 2 0 (by decide) (by decide) (16 * x.toInt64 + 8) (16 * y.toInt64 + 8)) cw_TM_42 ⟨rfl, rfl, by decide, by decide⟩ rfl [0, 1, 2] rfl rfl (q0 := 0) rfl rfl rfl [.long ((EZ xs ys 1 2 (16 * x.toInt64 + 8) (16 * y.toInt64 + 8)) * ((zs 0).toInt64))] rfl (Nat.le_of_ble_eq_true rfl) (fun _ => rfl) d_TM_depthOf_46 (fun r1 u1 h1 => ?_)
  subst h1
  refine rx_ws (ws' := [(a 0, oTM w h a), (a 4, cI ta 3 (xs)), (a 5, cI ta 3 (ys)), (a 6, cI ta 3 (zs))]) ?_ rfl
  refine rx_aload_n C 0 rfl d_TM_depthOf_49 ?_
  refine rx_get C 0 6 i_TM rfl rfl (by decide) g_194 rfl rfl d_TM_depthOf_50 ?_
  refine rx_iconst C (nI 1) (by decide) d_TM_depthOf_53 ?_
  refine rx_iald C 3 rfl (by decide) (1) (rfl) (by omega) d_TM_depthOf_54 ?_
  refine rx_i2l C d_TM_depthOf_55 ?_
  refine rx_lmul C d_TM_depthOf_56 ?_
  refine rx_ladd C d_TM_depthOf_57 ?_
  refine rx_aload_n C 0 rfl d_TM_depthOf_58 ?_
  refine rx_iconst C (nI 0) (by decide) d_TM_depthOf_59 ?_
  refine rx_iconst C (nI 1) (by decide) d_TM_depthOf_60 ?_
  refine rx_lload_n C 3 rfl d_TM_depthOf_61 ?_
  refine rx_lload C 4 rfl d_TM_depthOf_62 ?_
  refine rx_callVl C (c_TM_edge l D ta w h a xs ys 0 1 (by decide) (by decide) (16 * x.toInt64 + 8) (16 * y.toInt64 + 8)) cw_TM_42 ⟨rfl, rfl, by decide, by decide⟩ rfl [0, 1, 2] rfl rfl (q0 := 0) rfl rfl rfl [.long (((EZ xs ys 1 2 (16 * x.toInt64 + 8) (16 * y.toInt64 + 8)) * ((zs 0).toInt64)) + ((EZ xs ys 2 0 (16 * x.toInt64 + 8) (16 * y.toInt64 + 8)) * ((zs 1).toInt64)))] rfl (Nat.le_of_ble_eq_true rfl) (fun _ => rfl) d_TM_depthOf_64 (fun r2 u2 h2 => ?_)
  subst h2
  refine rx_ws (ws' := [(a 0, oTM w h a), (a 4, cI ta 3 (xs)), (a 5, cI ta 3 (ys)), (a 6, cI ta 3 (zs))]) ?_ rfl
  refine rx_aload_n C 0 rfl d_TM_depthOf_67 ?_
  refine rx_get C 0 6 i_TM rfl rfl (by decide) g_194 rfl rfl d_TM_depthOf_68 ?_
  refine rx_iconst C (nI 2) (by decide) d_TM_depthOf_71 ?_
  refine rx_iald C 3 rfl (by decide) (2) (rfl) (by omega) d_TM_depthOf_72 ?_
  refine rx_i2l C d_TM_depthOf_73 ?_
  refine rx_lmul C d_TM_depthOf_74 ?_
  refine rx_ladd C d_TM_depthOf_75 ?_
  refine rx_lstore C (Nat.le_of_ble_eq_true rfl) [1, 2, 3, 4, 5, 0] (lv' := [(0, .ref (a 0)), (1, .int (x)), (2, .int (y)), (3, .long ((16 * x.toInt64) + 8)), (5, .long ((16 * y.toInt64) + 8)), (7, .long ((((EZ xs ys 1 2 (16 * x.toInt64 + 8) (16 * y.toInt64 + 8)) * ((zs 0).toInt64)) + ((EZ xs ys 2 0 (16 * x.toInt64 + 8) (16 * y.toInt64 + 8)) * ((zs 1).toInt64))) + ((EZ xs ys 0 1 (16 * x.toInt64 + 8) (16 * y.toInt64 + 8)) * ((zs 2).toInt64))))]) rfl d_TM_depthOf_76 ?_
  refine rx_lload C 5 rfl d_TM_depthOf_78 ?_
  refine rx_aload_n C 0 rfl d_TM_depthOf_80 ?_
  refine rx_callVl C (c_TM_area l D ta w h a xs ys) cw_TM_54 ⟨rfl, rfl, by decide, by decide⟩ rfl [0, 1, 2] rfl rfl (q0 := 0) rfl rfl rfl [.long ((((EZ xs ys 1 2 (16 * x.toInt64 + 8) (16 * y.toInt64 + 8)) * ((zs 0).toInt64)) + ((EZ xs ys 2 0 (16 * x.toInt64 + 8) (16 * y.toInt64 + 8)) * ((zs 1).toInt64))) + ((EZ xs ys 0 1 (16 * x.toInt64 + 8) (16 * y.toInt64 + 8)) * ((zs 2).toInt64)))] rfl (Nat.le_of_ble_eq_true rfl) (fun _ => rfl) d_TM_depthOf_81 (fun r3 u3 h3 => ?_)
  subst h3
  refine rx_ws (ws' := [(a 0, oTM w h a), (a 4, cI ta 3 (xs)), (a 5, cI ta 3 (ys)), (a 6, cI ta 3 (zs))]) ?_ rfl
  refine rx_ldiv C (hA) d_TM_depthOf_84 ?_
  refine rx_l2i C d_TM_depthOf_85 ?_
  exact hret _ _ _ _ () d_TM_depthOf_86 (rfl) (rfl)
set_option maxHeartbeats 4000000 in
set_option maxRecDepth 100000 in
theorem c_TM_covers (l : Launch) (D : va_G) (ta : Nat → ClassId) (w h : Nat) (a : Nat → Nat) (xs ys : Nat → Int32) (x y : Int32) : Cti l y_TM_covers b_TM_covers 4 .boolean rm_TM_covers D ta [.ref (a 0), .int (x), .int (y)] [(a 0, oTM w h a), (a 4, cI ta 3 (xs)), (a 5, cI ta 3 (ys))] (fun _ : Unit => [(a 0, oTM w h a), (a 4, cI ta 3 (xs)), (a 5, cI ta 3 (ys))]) (fun r _ => bI (nearP x y ∧ CV xs ys (16 * x.toInt64 + 8) (16 * y.toInt64 + 8)) r) := by
  refine start_i rfl (Nat.le_of_ble_eq_true rfl) (fun G C hret => ?_)
  show G 0 [(0, .ref (a 0)), (1, .int (x)), (2, .int (y))] [] [(a 0, oTM w h a), (a 4, cI ta 3 (xs)), (a 5, cI ta 3 (ys))]
  refine rx_iload_n C 1 rfl d_TM_covers_0 ?_
  refine rx_sipush C (-2000) (by decide) d_TM_covers_1 ?_
  refine rx_icmp_lt C d_TM_covers_4 (fun c4 => ?_) (fun c4 => ?_)
  · skip
    refine rx_iconst C (nI 0) (by decide) d_TM_covers_32 ?_
    refine rx_istore_n C (Nat.le_of_ble_eq_true rfl) [1, 2, 3, 0] (lv' := [(0, .ref (a 0)), (1, .int (x)), (2, .int (y)), (3, .int (nI (0)))]) rfl d_TM_covers_33 ?_
    refine rx_iload_n C 3 rfl d_TM_covers_34 ?_
    refine rx_if_eqN C (by omega) d_TM_covers_35 (fun c35 => ?_) (fun c35 => by exfalso; omega)
    refine rx_iconst C (nI 0) (by decide) d_TM_covers_51 ?_
    exact hret _ _ _ _ () d_TM_covers_52 (rfl) (Or.inr ⟨rfl, fun q => q.1.1 c4⟩)
  · skip
    refine rx_iload_n C 1 rfl d_TM_covers_7 ?_
    refine rx_sipush C (nI 2000) (by decide) d_TM_covers_8 ?_
    refine rx_icmp_gt C d_TM_covers_11 (fun c11 => ?_) (fun c11 => ?_)
    · skip
      refine rx_iconst C (nI 0) (by decide) d_TM_covers_32 ?_
      refine rx_istore_n C (Nat.le_of_ble_eq_true rfl) [1, 2, 3, 0] (lv' := [(0, .ref (a 0)), (1, .int (x)), (2, .int (y)), (3, .int (nI (0)))]) rfl d_TM_covers_33 ?_
      refine rx_iload_n C 3 rfl d_TM_covers_34 ?_
      refine rx_if_eqN C (by omega) d_TM_covers_35 (fun c35 => ?_) (fun c35 => by exfalso; omega)
      refine rx_iconst C (nI 0) (by decide) d_TM_covers_51 ?_
      exact hret _ _ _ _ () d_TM_covers_52 (rfl) (Or.inr ⟨rfl, fun q => q.1.2.1 c11⟩)
    · skip
      refine rx_iload_n C 2 rfl d_TM_covers_14 ?_
      refine rx_sipush C (-2000) (by decide) d_TM_covers_15 ?_
      refine rx_icmp_lt C d_TM_covers_18 (fun c18 => ?_) (fun c18 => ?_)
      · skip
        refine rx_iconst C (nI 0) (by decide) d_TM_covers_32 ?_
        refine rx_istore_n C (Nat.le_of_ble_eq_true rfl) [1, 2, 3, 0] (lv' := [(0, .ref (a 0)), (1, .int (x)), (2, .int (y)), (3, .int (nI (0)))]) rfl d_TM_covers_33 ?_
        refine rx_iload_n C 3 rfl d_TM_covers_34 ?_
        refine rx_if_eqN C (by omega) d_TM_covers_35 (fun c35 => ?_) (fun c35 => by exfalso; omega)
        refine rx_iconst C (nI 0) (by decide) d_TM_covers_51 ?_
        exact hret _ _ _ _ () d_TM_covers_52 (rfl) (Or.inr ⟨rfl, fun q => q.1.2.2.1 c18⟩)
      · skip
        refine rx_iload_n C 2 rfl d_TM_covers_21 ?_
        refine rx_sipush C (nI 2000) (by decide) d_TM_covers_22 ?_
        refine rx_icmp_gt C d_TM_covers_25 (fun c25 => ?_) (fun c25 => ?_)
        · skip
          refine rx_iconst C (nI 0) (by decide) d_TM_covers_32 ?_
          refine rx_istore_n C (Nat.le_of_ble_eq_true rfl) [1, 2, 3, 0] (lv' := [(0, .ref (a 0)), (1, .int (x)), (2, .int (y)), (3, .int (nI (0)))]) rfl d_TM_covers_33 ?_
          refine rx_iload_n C 3 rfl d_TM_covers_34 ?_
          refine rx_if_eqN C (by omega) d_TM_covers_35 (fun c35 => ?_) (fun c35 => by exfalso; omega)
          refine rx_iconst C (nI 0) (by decide) d_TM_covers_51 ?_
          exact hret _ _ _ _ () d_TM_covers_52 (rfl) (Or.inr ⟨rfl, fun q => q.1.2.2.2 c25⟩)
        · skip
          refine rx_iconst C (nI 1) (by decide) d_TM_covers_28 ?_
          refine rx_goto C d_TM_covers_29 ?_
          refine rx_istore_n C (Nat.le_of_ble_eq_true rfl) [1, 2, 3, 0] (lv' := [(0, .ref (a 0)), (1, .int (x)), (2, .int (y)), (3, .int (nI (1)))]) rfl d_TM_covers_33 ?_
          refine rx_iload_n C 3 rfl d_TM_covers_34 ?_
          refine rx_if_eqN C (by omega) d_TM_covers_35 (fun c35 => by exfalso; omega) (fun c35 => ?_)
          refine rx_aload_n C 0 rfl d_TM_covers_38 ?_
          refine rx_iload_n C 1 rfl d_TM_covers_39 ?_
          refine rx_iload_n C 2 rfl d_TM_covers_40 ?_
          refine rx_callVi C (c_TM_isCovered l D ta w h a xs ys x y) cw_TM_62 ⟨rfl, rfl, by decide, by decide⟩ rfl [0, 1, 2] rfl rfl (q0 := 0) rfl rfl rfl [] rfl (Nat.le_of_ble_eq_true rfl) (fun _ => rfl) d_TM_covers_41 (fun r1 u1 h1 => ?_)
          refine rx_ws (ws' := [(a 0, oTM w h a), (a 4, cI ta 3 (xs)), (a 5, cI ta 3 (ys))]) ?_ rfl
          rcases h1 with ⟨rfl, p1⟩ | ⟨rfl, p1⟩
          · skip
            show G 44 [(0, .ref (a 0)), (1, .int (x)), (2, .int (y)), (3, .int (nI (1)))] [.int (nI (1))] [(a 0, oTM w h a), (a 4, cI ta 3 (xs)), (a 5, cI ta 3 (ys))]
            refine rx_if_eqN C (by omega) d_TM_covers_44 (fun c44 => by exfalso; omega) (fun c44 => ?_)
            refine rx_iconst C (nI 1) (by decide) d_TM_covers_47 ?_
            refine rx_goto C d_TM_covers_48 ?_
            exact hret _ _ _ _ () d_TM_covers_52 (rfl) (Or.inl ⟨rfl, ⟨c4, c11, c18, c25⟩, p1⟩)
          · skip
            show G 44 [(0, .ref (a 0)), (1, .int (x)), (2, .int (y)), (3, .int (nI (1)))] [.int (nI (0))] [(a 0, oTM w h a), (a 4, cI ta 3 (xs)), (a 5, cI ta 3 (ys))]
            refine rx_if_eqN C (by omega) d_TM_covers_44 (fun c44 => ?_) (fun c44 => by exfalso; omega)
            refine rx_iconst C (nI 0) (by decide) d_TM_covers_51 ?_
            exact hret _ _ _ _ () d_TM_covers_52 (rfl) (Or.inr ⟨rfl, fun q => p1 q.2⟩)
set_option maxHeartbeats 4000000 in
set_option maxRecDepth 100000 in
theorem c_TR_forget (l : Launch) (D : va_G) (ta : Nat → ClassId) (w h : Nat) (a : Nat → Nat) (f : Nat → Int32) (hw : w ≤ 24) (hh : h ≤ 24) : Ctv l y_TR_forget b_TR_forget 2 rm_TR_forget D ta [.ref (a 0)] [(a 0, oTR w h a), (a 5, cZ ta 576 (f))] (fun u : Nat → Int32 => [(a 0, oTR w h a), (a 5, cZ ta 576 (u))]) (fun u => ∀ j : Nat, j < w * h → u j = 0) := by
  have hwh : w * h ≤ 576 := Nat.mul_le_mul hw hh
  refine start_v rfl (Nat.le_of_ble_eq_true rfl) (fun G C hret => ?_)
  show G 0 [(0, .ref (a 0))] [] [(a 0, oTR w h a), (a 5, cZ ta 576 (f))]
  refine rx_iconst C (nI 0) (by decide) d_TR_forget_0 ?_
  refine rx_istore_n C (Nat.le_of_ble_eq_true rfl) [1, 0] (lv' := [(0, .ref (a 0)), (1, .int (nI (0)))]) rfl d_TR_forget_1 ?_
  have loop : ∀ (n : Nat) (k : Nat) (f : Nat → Int32), w * h - k < n → (k ≤ w * h) → (∀ j : Nat, j < k → f j = 0) → G 2 [(0, .ref (a 0)), (1, .int (nI (k)))] [] [(a 0, oTR w h a), (a 5, cZ ta 576 (f))] := by
    intro n
    induction n with
    | zero => intro k f hm; exact absurd hm (Nat.not_lt_zero _)
    | succ n ih =>
      intro k f hm hk hI
      refine rx_iload_n C 1 rfl d_TR_forget_2 ?_
      refine rx_aload_n C 0 rfl d_TR_forget_3 ?_
      refine rx_get C 0 0 i_TR rfl rfl (by decide) g_42 rfl rfl d_TR_forget_4 ?_
      refine rx_aload_n C 0 rfl d_TR_forget_7 ?_
      refine rx_get C 0 1 i_TR rfl rfl (by decide) g_43 rfl rfl d_TR_forget_8 ?_
      refine rx_imulN C d_TR_forget_11 ?_
      refine rx_icmp_geN C (by omega) (by omega) d_TR_forget_12 (fun c12 => ?_) (fun c12 => ?_)
      · skip
        exact hret _ _ _ f d_TR_forget_28 (fun j hj => hI j (by omega))
      · skip
        refine rx_aload_n C 0 rfl d_TR_forget_15 ?_
        refine rx_get C 0 5 i_TR rfl rfl (by decide) g_47 rfl rfl d_TR_forget_16 ?_
        refine rx_iload_n C 1 rfl d_TR_forget_19 ?_
        refine rx_iconst C (nI 0) (by decide) d_TR_forget_20 ?_
        refine rx_zast C 1 rfl (by decide) (rfl) (k) (rfl) (by omega) (ws' := [(a 0, oTR w h a), (a 5, cZ ta 576 (upd f k (nI (0))))]) rfl d_TR_forget_21 ?_
        refine rx_iinc C 1 rfl (nI (k + 1)) (nI_add _ _) (Nat.le_of_ble_eq_true rfl) [1, 0] (lv' := [(0, .ref (a 0)), (1, .int (nI (k + 1)))]) rfl d_TR_forget_22 ?_
        refine rx_goto C d_TR_forget_25 ?_
        refine ih (k + 1) _ (by omega) (by omega) (fun j hj => ?_)
        by_cases hjk : j = k
        · subst hjk; exact pk_us
        · rw [pk_un hjk]; exact hI j (by omega)
  exact loop _ 0 f (Nat.lt_succ_self _) (Nat.zero_le _) (fun j hj => absurd hj (Nat.not_lt_zero _))
set_option maxHeartbeats 4000000 in
set_option maxRecDepth 100000 in
theorem c_TM_unmark (l : Launch) (D : va_G) (ta : Nat → ClassId) (w h : Nat) (a : Nat → Nat) (f : Nat → Int32) (hw : w ≤ 24) (hh : h ≤ 24) : Ctv l y_TM_unmark b_TM_unmark 2 rm_TM_unmark D ta [.ref (a 0)] [(a 0, oTM w h a), (a 7, cZ ta 576 (f))] (fun u : Nat → Int32 => [(a 0, oTM w h a), (a 7, cZ ta 576 (u))]) (fun u => ∀ j : Nat, j < 576 → u j = 0) := by
  have hwh : w * h ≤ 576 := Nat.mul_le_mul hw hh
  refine start_v rfl (Nat.le_of_ble_eq_true rfl) (fun G C hret => ?_)
  show G 0 [(0, .ref (a 0))] [] [(a 0, oTM w h a), (a 7, cZ ta 576 (f))]
  refine rx_iconst C (nI 0) (by decide) d_TM_unmark_0 ?_
  refine rx_istore_n C (Nat.le_of_ble_eq_true rfl) [1, 0] (lv' := [(0, .ref (a 0)), (1, .int (nI (0)))]) rfl d_TM_unmark_1 ?_
  have loop : ∀ (n : Nat) (k : Nat) (f : Nat → Int32), 576 - k < n → (k ≤ 576) → (∀ j : Nat, j < k → f j = 0) → G 2 [(0, .ref (a 0)), (1, .int (nI (k)))] [] [(a 0, oTM w h a), (a 7, cZ ta 576 (f))] := by
    intro n
    induction n with
    | zero => intro k f hm; exact absurd hm (Nat.not_lt_zero _)
    | succ n ih =>
      intro k f hm hk hI
      refine rx_iload_n C 1 rfl d_TM_unmark_2 ?_
      refine rx_sipush C (nI 576) (by decide) d_TM_unmark_3 ?_
      refine rx_icmp_geN C (by omega) (by omega) d_TM_unmark_6 (fun c6 => ?_) (fun c6 => ?_)
      · skip
        exact hret _ _ _ f d_TM_unmark_22 (fun j hj => hI j (by omega))
      · skip
        refine rx_aload_n C 0 rfl d_TM_unmark_9 ?_
        refine rx_get C 0 7 i_TM rfl rfl (by decide) g_195 rfl rfl d_TM_unmark_10 ?_
        refine rx_iload_n C 1 rfl d_TM_unmark_13 ?_
        refine rx_iconst C (nI 0) (by decide) d_TM_unmark_14 ?_
        refine rx_zast C 1 rfl (by decide) (rfl) (k) (rfl) (by omega) (ws' := [(a 0, oTM w h a), (a 7, cZ ta 576 (upd f k (nI (0))))]) rfl d_TM_unmark_15 ?_
        refine rx_iinc C 1 rfl (nI (k + 1)) (nI_add _ _) (Nat.le_of_ble_eq_true rfl) [1, 0] (lv' := [(0, .ref (a 0)), (1, .int (nI (k + 1)))]) rfl d_TM_unmark_16 ?_
        refine rx_goto C d_TM_unmark_19 ?_
        refine ih (k + 1) _ (by omega) (by omega) (fun j hj => ?_)
        by_cases hjk : j = k
        · subst hjk; exact pk_us
        · rw [pk_un hjk]; exact hI j (by omega)
  exact loop _ 0 f (Nat.lt_succ_self _) (Nat.zero_le _) (fun j hj => absurd hj (Nat.not_lt_zero _))
set_option maxHeartbeats 4000000 in
set_option maxRecDepth 100000 in
theorem c_TR_set (l : Launch) (D : va_G) (ta : Nat → ClassId) (w h : Nat) (a : Nat → Nat) (f : Nat → Int32) (x y v : Int32) (hw : w ≤ 24) (hh : h ≤ 24) : Cti l y_TR_set b_TR_set 4 .boolean rm_TR_set D ta [.ref (a 0), .int (x), .int (y), .int (v)] [(a 0, oTR w h a), (a 2, cI ta 576 (f))] (fun u : Nat → Int32 => [(a 0, oTR w h a), (a 2, cI ta 576 (u))]) (fun r u => (∃ i j : Nat, i < w ∧ j < h ∧ x = nI i ∧ y = nI j ∧ r = nI 1 ∧ u = upd f (w * j + i) v) ∨ (¬ isPx w h x y ∧ r = nI 0 ∧ u = f)) := by
  have hwh : w * h ≤ 576 := Nat.mul_le_mul hw hh
  refine start_i rfl (Nat.le_of_ble_eq_true rfl) (fun G C hret => ?_)
  show G 0 [(0, .ref (a 0)), (1, .int (x)), (2, .int (y)), (3, .int (v))] [] [(a 0, oTR w h a), (a 2, cI ta 576 (f))]
  refine rx_aload_n C 0 rfl d_TR_set_0 ?_
  refine rx_iload_n C 1 rfl d_TR_set_1 ?_
  refine rx_iload_n C 2 rfl d_TR_set_2 ?_
  refine rx_callVi C (c_TR_isPixel l D ta w h a x y hw hh) cw_TR_93 ⟨rfl, rfl, by decide, by decide⟩ rfl [0] rfl rfl (q0 := 0) rfl rfl rfl [] rfl (Nat.le_of_ble_eq_true rfl) (fun _ => rfl) d_TR_set_3 (fun r0 u0 h0 => ?_)
  refine rx_ws (ws' := [(a 0, oTR w h a), (a 2, cI ta 576 (f))]) ?_ rfl
  rcases h0 with ⟨rfl, i, j, hi, hj, rfl, rfl⟩ | ⟨rfl, p0⟩
  · skip
    show G 6 [(0, .ref (a 0)), (1, .int (nI (i))), (2, .int (nI (j))), (3, .int (v))] [.int (nI (1))] [(a 0, oTR w h a), (a 2, cI ta 576 (f))]
    have hlt : w * j + i < 576 := Nat.lt_of_lt_of_le (px_lt hi hj) hwh
    refine rx_if_neN C (by omega) d_TR_set_6 (fun c6 => ?_) (fun c6 => by exfalso; omega)
    refine rx_aload_n C 0 rfl d_TR_set_11 ?_
    refine rx_get C 0 2 i_TR rfl rfl (by decide) g_44 rfl rfl d_TR_set_12 ?_
    refine rx_aload_n C 0 rfl d_TR_set_15 ?_
    refine rx_get C 0 0 i_TR rfl rfl (by decide) g_42 rfl rfl d_TR_set_16 ?_
    refine rx_iload_n C 2 rfl d_TR_set_19 ?_
    refine rx_imulN C d_TR_set_20 ?_
    refine rx_iload_n C 1 rfl d_TR_set_21 ?_
    refine rx_iaddN C d_TR_set_22 ?_
    refine rx_iload_n C 3 rfl d_TR_set_23 ?_
    refine rx_iast C 1 rfl (by decide) ((w * j) + i) (rfl) (by omega) (ws' := [(a 0, oTR w h a), (a 2, cI ta 576 (upd f ((w * j) + i) v))]) rfl d_TR_set_24 ?_
    refine rx_iconst C (nI 1) (by decide) d_TR_set_25 ?_
    exact hret _ _ _ _ _ d_TR_set_26 (rfl) (Or.inl ⟨i, j, hi, hj, rfl, rfl, rfl, rfl⟩)
  · skip
    show G 6 [(0, .ref (a 0)), (1, .int (x)), (2, .int (y)), (3, .int (v))] [.int (nI (0))] [(a 0, oTR w h a), (a 2, cI ta 576 (f))]
    refine rx_if_neN C (by omega) d_TR_set_6 (fun c6 => by exfalso; omega) (fun c6 => ?_)
    refine rx_iconst C (nI 0) (by decide) d_TR_set_9 ?_
    exact hret _ _ _ _ _ d_TR_set_10 (rfl) (Or.inr ⟨p0, rfl, rfl⟩)
set_option maxHeartbeats 4000000 in
set_option maxRecDepth 100000 in
theorem c_TR_push (l : Launch) (D : va_G) (ta : Nat → ClassId) (w h : Nat) (a : Nat → Nat) (col stk sn : Nat → Int32) (p v : Int32) (t : Nat) (hat : p < 0 ∨ ∃ k : Nat, k < 576 ∧ p = nI k ∧ (sn k = 0 → col k = v → t < 576)) : Cti l y_TR_push b_TR_push 4 .int rm_TR_push D ta [.ref (a 0), .int (p), .int (v), .int (nI (t))] [(a 0, oTR w h a), (a 2, cI ta 576 (col)), (a 4, cS ta 576 (stk)), (a 5, cZ ta 576 (sn))] (fun u : (Nat → Int32) × (Nat → Int32) => [(a 0, oTR w h a), (a 2, cI ta 576 (col)), (a 4, cS ta 576 (u.1)), (a 5, cZ ta 576 (u.2))]) (fun r u => (r = nI t ∧ u = (stk, sn) ∧ (p < 0 ∨ ∃ k : Nat, k < 576 ∧ p = nI k ∧ (¬ sn k = 0 ∨ ¬ col k = v))) ∨ (∃ k : Nat, k < 576 ∧ p = nI k ∧ sn k = 0 ∧ col k = v ∧ r = nI (t + 1) ∧ u = (upd stk t (nI k), upd sn k (nI 1)))) := by
  refine start_i rfl (Nat.le_of_ble_eq_true rfl) (fun G C hret => ?_)
  show G 0 [(0, .ref (a 0)), (1, .int (p)), (2, .int (v)), (3, .int (nI (t)))] [] [(a 0, oTR w h a), (a 2, cI ta 576 (col)), (a 4, cS ta 576 (stk)), (a 5, cZ ta 576 (sn))]
  refine rx_iload_n C 1 rfl d_TR_push_0 ?_
  refine rx_if_lt C d_TR_push_1 (fun c1 => ?_) (fun c1 => ?_)
  · skip
    refine rx_iload_n C 3 rfl d_TR_push_23 ?_
    exact hret _ _ _ _ (stk, sn) d_TR_push_24 (rfl) (Or.inl ⟨rfl, rfl, Or.inl c1⟩)
  · skip
    obtain ⟨k, hk, rfl, ht⟩ : ∃ k : Nat, k < 576 ∧ p = nI k ∧ (sn k = 0 → col k = v → t < 576) := by rcases hat with q | q; exact absurd q c1; exact q
    show G 4 [(0, .ref (a 0)), (1, .int (nI (k))), (2, .int (v)), (3, .int (nI (t)))] [] [(a 0, oTR w h a), (a 2, cI ta 576 (col)), (a 4, cS ta 576 (stk)), (a 5, cZ ta 576 (sn))]
    refine rx_aload_n C 0 rfl d_TR_push_4 ?_
    refine rx_get C 0 5 i_TR rfl rfl (by decide) g_47 rfl rfl d_TR_push_5 ?_
    refine rx_iload_n C 1 rfl d_TR_push_8 ?_
    refine rx_zald C 3 rfl (by decide) (k) (rfl) (by omega) d_TR_push_9 ?_
    refine rx_if_ne C d_TR_push_10 (fun c10 => ?_) (fun c10 => ?_)
    · skip
      refine rx_iload_n C 3 rfl d_TR_push_23 ?_
      exact hret _ _ _ _ (stk, sn) d_TR_push_24 (rfl) (Or.inl ⟨rfl, rfl, Or.inr ⟨k, hk, rfl, Or.inl c10⟩⟩)
    · skip
      refine rx_aload_n C 0 rfl d_TR_push_13 ?_
      refine rx_get C 0 2 i_TR rfl rfl (by decide) g_44 rfl rfl d_TR_push_14 ?_
      refine rx_iload_n C 1 rfl d_TR_push_17 ?_
      refine rx_iald C 1 rfl (by decide) (k) (rfl) (by omega) d_TR_push_18 ?_
      refine rx_iload_n C 2 rfl d_TR_push_19 ?_
      refine rx_icmp_eq C d_TR_push_20 (fun c20 => ?_) (fun c20 => ?_)
      · skip
        have ht := ht c10 c20
        refine rx_aload_n C 0 rfl d_TR_push_25 ?_
        refine rx_get C 0 5 i_TR rfl rfl (by decide) g_47 rfl rfl d_TR_push_26 ?_
        refine rx_iload_n C 1 rfl d_TR_push_29 ?_
        refine rx_iconst C (nI 1) (by decide) d_TR_push_30 ?_
        refine rx_zast C 3 rfl (by decide) (rfl) (k) (rfl) (by omega) (ws' := [(a 0, oTR w h a), (a 2, cI ta 576 (col)), (a 4, cS ta 576 (stk)), (a 5, cZ ta 576 (upd sn k (nI (1))))]) rfl d_TR_push_31 ?_
        refine rx_aload_n C 0 rfl d_TR_push_32 ?_
        refine rx_get C 0 4 i_TR rfl rfl (by decide) g_46 rfl rfl d_TR_push_33 ?_
        refine rx_iload_n C 3 rfl d_TR_push_36 ?_
        refine rx_iload_n C 1 rfl d_TR_push_37 ?_
        refine rx_i2s C d_TR_push_38 ?_
        refine rx_top (nI (k)) (short_id (by omega)) ?_
        refine rx_sast C 2 rfl (by decide) (by rw [← short_id (show k < 32768 by omega)]; exact pk_vs _) (t) (rfl) (by omega) (ws' := [(a 0, oTR w h a), (a 2, cI ta 576 (col)), (a 4, cS ta 576 (upd stk t (nI (k)))), (a 5, cZ ta 576 (upd sn k (nI (1))))]) rfl d_TR_push_39 ?_
        refine rx_iload_n C 3 rfl d_TR_push_40 ?_
        refine rx_iconst C (nI 1) (by decide) d_TR_push_41 ?_
        refine rx_iaddN C d_TR_push_42 ?_
        exact hret _ _ _ _ (upd stk t (nI k), upd sn k (nI 1)) d_TR_push_43 (rfl) (Or.inr ⟨k, hk, rfl, c10, c20, rfl, rfl⟩)
      · skip
        refine rx_iload_n C 3 rfl d_TR_push_23 ?_
        exact hret _ _ _ _ (stk, sn) d_TR_push_24 (rfl) (Or.inl ⟨rfl, rfl, Or.inr ⟨k, hk, rfl, Or.inr c20⟩⟩)
end
section
/-! ===== counting and painting, plainly ===== -/
noncomputable def bP (p : Prop) : Bool := (Classical.propDecidable p).decide
theorem bP_t {p : Prop} : bP p = true ↔ p := by unfold bP; exact (@decide_eq_true_iff p (Classical.propDecidable p))
noncomputable def cn (P : Nat → Prop) (n : Nat) : Nat := ct (fun k => bP (P k) = true) n
theorem cn_y {P : Nat → Prop} {n : Nat} (h : P n) : cn P (n + 1) = cn P n + 1 := ct_y (P := fun k => bP (P k) = true) (bP_t.mpr h)
theorem cn_n {P : Nat → Prop} {n : Nat} (h : ¬ P n) : cn P (n + 1) = cn P n := ct_n (P := fun k => bP (P k) = true) (fun q => h (bP_t.mp q))
theorem cn_congr {P Q : Nat → Prop} : ∀ n : Nat, (∀ k, k < n → (P k ↔ Q k)) → cn P n = cn Q n
  | 0, _ => rfl
  | n + 1, h => by
    have ih := cn_congr n (fun k hk => h k (by omega))
    by_cases hp : P n
    · rw [cn_y hp, cn_y ((h n (by omega)).mp hp), ih]
    · rw [cn_n hp, cn_n (fun q => hp ((h n (by omega)).mpr q)), ih]
theorem cn_le {P : Nat → Prop} : ∀ n : Nat, cn P n ≤ n
  | 0 => Nat.le_refl _
  | n + 1 => by
    have ih := cn_le (P := P) n
    by_cases hp : P n
    · rw [cn_y hp]; omega
    · rw [cn_n hp]; omega
/-- f is f0, but for the places below n with HIT: there it is val -/
def pixd (HIT : Nat → Prop) (val f0 f : Nat → Int32) (n : Nat) : Prop := ∀ k, (k < n → HIT k → f k = val k) ∧ (¬ (k < n ∧ HIT k) → f k = f0 k)
theorem pixd_0 {HIT : Nat → Prop} {val f0 : Nat → Int32} : pixd HIT val f0 f0 0 := fun k => ⟨fun h => absurd h (Nat.not_lt_zero _), fun _ => rfl⟩
theorem pixd_n {HIT : Nat → Prop} {val f0 f : Nat → Int32} {n : Nat} (h : pixd HIT val f0 f n) (hn : ¬ HIT n) : pixd HIT val f0 f (n + 1) := fun k => by
  refine ⟨fun h1 h2 => (h k).1 ?_ h2, fun h1 => (h k).2 (fun q => h1 ⟨by omega, q.2⟩)⟩
  rcases Nat.lt_or_ge k n with q | q
  · exact q
  · exact absurd (show HIT n by rw [show n = k by omega]; exact h2) hn
theorem pixd_y {HIT : Nat → Prop} {val f0 f f' : Nat → Int32} {n : Nat} (h : pixd HIT val f0 f n) (hn : HIT n) (e1 : f' n = val n) (e2 : ∀ k, k ≠ n → f' k = f k) : pixd HIT val f0 f' (n + 1) := fun k => by
  by_cases hk : k = n
  · subst hk
    exact ⟨fun _ _ => e1, fun q => absurd ⟨by omega, hn⟩ q⟩
  · rw [e2 k hk]
    exact ⟨fun h1 h2 => (h k).1 (by omega) h2, fun h1 => (h k).2 (fun q => h1 ⟨by omega, q.2⟩)⟩
theorem px_mod {w x : Nat} (y : Nat) (h : x < w) : (w * y + x) % w = x := by rw [Nat.mul_add_mod, Nat.mod_eq_of_lt h]
theorem px_div {w x : Nat} (y : Nat) (h : x < w) : (w * y + x) / w = y := by rw [Nat.mul_add_div (by omega), Nat.div_eq_of_lt h, Nat.add_zero]
def chr (d : Int64) : Int32 := (d.toInt32.toUInt32 % 65536).toInt32
def nw (X Y : Nat → Int32) (i j x y : Nat) : Int64 := bgE (X i) (Y i) (X j) (Y j) + (X j - X i).toInt64 * 16 * lN y + -((Y j - Y i).toInt64) * 16 * lN x
def lsX (X Y : Nat → Int32) (i j : Nat) : Int64 := (lsE (X i) (Y i) (X j) (Y j)).toInt64
def dpR (X Y Z : Nat → Int32) (q1 q2 x y : Nat) : Int64 := (nw X Y q1 q2 x y * (Z 0).toInt64 + nw X Y q2 0 x y * (Z q1).toInt64 + nw X Y 0 q1 x y * (Z q2).toInt64) / absA X Y
def hitXY (X Y Z : Nat → Int32) (q1 q2 : Nat) (d : Int32) (x y : Nat) : Prop := lsX X Y 0 q1 ≤ nw X Y 0 q1 x y ∧ lsX X Y q1 q2 ≤ nw X Y q1 q2 x y ∧ lsX X Y q2 0 ≤ nw X Y q2 0 x y ∧ dpR X Y Z q1 q2 x y < d.toInt64
def hitR (X Y Z : Nat → Int32) (q1 q2 w : Nat) (dep : Nat → Int32) (k : Nat) : Prop := hitXY X Y Z q1 q2 (dep k) (k % w) (k / w)
def depR (X Y Z : Nat → Int32) (q1 q2 w : Nat) (k : Nat) : Int32 := chr (dpR X Y Z q1 q2 (k % w) (k / w))
theorem hitR_at {X Y Z : Nat → Int32} {q1 q2 w x y : Nat} {dep : Nat → Int32} (hx : x < w) : hitR X Y Z q1 q2 w dep (w * y + x) ↔ hitXY X Y Z q1 q2 (dep (w * y + x)) x y := by
  unfold hitR; rw [px_mod y hx, px_div y hx]
theorem depR_at {X Y Z : Nat → Int32} {q1 q2 w x y : Nat} (hx : x < w) : depR X Y Z q1 q2 w (w * y + x) = chr (dpR X Y Z q1 q2 x y) := by
  unfold depR; rw [px_mod y hx, px_div y hx]
theorem nw_0 (X Y : Nat → Int32) (i j : Nat) {y : Nat} (hy : y < 2 ^ 31) : bgE (X i) (Y i) (X j) (Y j) + (X j - X i).toInt64 * 16 * (nI y).toInt64 = nw X Y i j 0 y := by
  unfold nw
  rw [nI_l hy, show lN 0 = 0 from rfl, Int64.mul_zero, Int64.add_zero]
theorem nw_s (X Y : Nat → Int32) (i j x y : Nat) : nw X Y i j x y + -((Y j - Y i).toInt64) * 16 = nw X Y i j (x + 1) y := by
  unfold nw
  rw [← lN_1, Int64.mul_add, Int64.mul_one, Int64.add_assoc, Int64.add_assoc]
set_option maxHeartbeats 4000000 in
set_option maxRecDepth 100000 in
theorem c_TR_turn (l : Launch) (D : va_G) (ta : Nat → ClassId) (w h : Nat) (a : Nat → Nat) (xs ys od : Nat → Int32) (eN eR eD eB : Nat → Int64) (eL : Nat → Int32) : Ctl l y_TR_turn b_TR_turn 6 rm_TR_turn D ta [.ref (a 0)] [(a 0, oTR w h a), (a 6, cI ta 3 (xs)), (a 7, cI ta 3 (ys)), (a 9, cQ ta a), (a 10, cI ta 3 (od)), (a 11, oEd (eN 0) (eR 0) (eD 0) (eB 0) (eL 0)), (a 12, oEd (eN 1) (eR 1) (eD 1) (eB 1) (eL 1)), (a 13, oEd (eN 2) (eR 2) (eD 2) (eB 2) (eL 2))] (fun u : Nat × Nat => [(a 0, oTR w h a), (a 6, cI ta 3 (xs)), (a 7, cI ta 3 (ys)), (a 9, cQ ta a), (a 10, cI ta 3 (upd (upd (upd od 0 (nI 0)) 1 (nI (u.1))) 2 (nI (u.2)))), (a 11, oEd (eN 0) (-((ys u.1 - ys 0).toInt64) * 16) ((xs u.1 - xs 0).toInt64 * 16) (bgE (xs 0) (ys 0) (xs u.1) (ys u.1)) (lsE (xs 0) (ys 0) (xs u.1) (ys u.1))), (a 12, oEd (eN 1) (-((ys u.2 - ys u.1).toInt64) * 16) ((xs u.2 - xs u.1).toInt64 * 16) (bgE (xs u.1) (ys u.1) (xs u.2) (ys u.2)) (lsE (xs u.1) (ys u.1) (xs u.2) (ys u.2))), (a 13, oEd (eN 2) (-((ys 0 - ys u.2).toInt64) * 16) ((xs 0 - xs u.2).toInt64 * 16) (bgE (xs u.2) (ys u.2) (xs 0) (ys 0)) (lsE (xs u.2) (ys u.2) (xs 0) (ys 0)))]) (fun r u => r = absA xs ys ∧ ordP xs ys u) := by
  refine start_l rfl (Nat.le_of_ble_eq_true rfl) (fun G C hret => ?_)
  show G 0 [(0, .ref (a 0))] [] [(a 0, oTR w h a), (a 6, cI ta 3 (xs)), (a 7, cI ta 3 (ys)), (a 9, cQ ta a), (a 10, cI ta 3 (od)), (a 11, oEd (eN 0) (eR 0) (eD 0) (eB 0) (eL 0)), (a 12, oEd (eN 1) (eR 1) (eD 1) (eB 1) (eL 1)), (a 13, oEd (eN 2) (eR 2) (eD 2) (eB 2) (eL 2))]
  refine rx_aload_n C 0 rfl d_TR_turn_0 ?_
  refine rx_get C 0 6 i_TR rfl rfl (by decide) g_48 rfl rfl d_TR_turn_1 ?_
  refine rx_iconst C (nI 1) (by decide) d_TR_turn_4 ?_
  refine rx_iald C 1 rfl (by decide) (1) (rfl) (by omega) d_TR_turn_5 ?_
  refine rx_aload_n C 0 rfl d_TR_turn_6 ?_
  refine rx_get C 0 6 i_TR rfl rfl (by decide) g_48 rfl rfl d_TR_turn_7 ?_
  refine rx_iconst C (nI 0) (by decide) d_TR_turn_10 ?_
  refine rx_iald C 1 rfl (by decide) (0) (rfl) (by omega) d_TR_turn_11 ?_
  refine rx_isub C d_TR_turn_12 ?_
  refine rx_i2l C d_TR_turn_13 ?_
  refine rx_aload_n C 0 rfl d_TR_turn_14 ?_
  refine rx_get C 0 7 i_TR rfl rfl (by decide) g_49 rfl rfl d_TR_turn_15 ?_
  refine rx_iconst C (nI 2) (by decide) d_TR_turn_18 ?_
  refine rx_iald C 2 rfl (by decide) (2) (rfl) (by omega) d_TR_turn_19 ?_
  refine rx_aload_n C 0 rfl d_TR_turn_20 ?_
  refine rx_get C 0 7 i_TR rfl rfl (by decide) g_49 rfl rfl d_TR_turn_21 ?_
  refine rx_iconst C (nI 0) (by decide) d_TR_turn_24 ?_
  refine rx_iald C 2 rfl (by decide) (0) (rfl) (by omega) d_TR_turn_25 ?_
  refine rx_isub C d_TR_turn_26 ?_
  refine rx_i2l C d_TR_turn_27 ?_
  refine rx_lmul C d_TR_turn_28 ?_
  refine rx_aload_n C 0 rfl d_TR_turn_29 ?_
  refine rx_get C 0 7 i_TR rfl rfl (by decide) g_49 rfl rfl d_TR_turn_30 ?_
  refine rx_iconst C (nI 1) (by decide) d_TR_turn_33 ?_
  refine rx_iald C 2 rfl (by decide) (1) (rfl) (by omega) d_TR_turn_34 ?_
  refine rx_aload_n C 0 rfl d_TR_turn_35 ?_
  refine rx_get C 0 7 i_TR rfl rfl (by decide) g_49 rfl rfl d_TR_turn_36 ?_
  refine rx_iconst C (nI 0) (by decide) d_TR_turn_39 ?_
  refine rx_iald C 2 rfl (by decide) (0) (rfl) (by omega) d_TR_turn_40 ?_
  refine rx_isub C d_TR_turn_41 ?_
  refine rx_i2l C d_TR_turn_42 ?_
  refine rx_aload_n C 0 rfl d_TR_turn_43 ?_
  refine rx_get C 0 6 i_TR rfl rfl (by decide) g_48 rfl rfl d_TR_turn_44 ?_
  refine rx_iconst C (nI 2) (by decide) d_TR_turn_47 ?_
  refine rx_iald C 1 rfl (by decide) (2) (rfl) (by omega) d_TR_turn_48 ?_
  refine rx_aload_n C 0 rfl d_TR_turn_49 ?_
  refine rx_get C 0 6 i_TR rfl rfl (by decide) g_48 rfl rfl d_TR_turn_50 ?_
  refine rx_iconst C (nI 0) (by decide) d_TR_turn_53 ?_
  refine rx_iald C 1 rfl (by decide) (0) (rfl) (by omega) d_TR_turn_54 ?_
  refine rx_isub C d_TR_turn_55 ?_
  refine rx_i2l C d_TR_turn_56 ?_
  refine rx_lmul C d_TR_turn_57 ?_
  refine rx_lsub C d_TR_turn_58 ?_
  refine rx_lstore_n C (Nat.le_of_ble_eq_true rfl) [1, 0] (lv' := [(0, .ref (a 0)), (1, .long (((((xs 1) - (xs 0)).toInt64) * (((ys 2) - (ys 0)).toInt64)) - ((((ys 1) - (ys 0)).toInt64) * (((xs 2) - (xs 0)).toInt64))))]) rfl d_TR_turn_59 ?_
  show G 60 [(0, .ref (a 0)), (1, .long (RA xs ys))] [] [(a 0, oTR w h a), (a 6, cI ta 3 (xs)), (a 7, cI ta 3 (ys)), (a 9, cQ ta a), (a 10, cI ta 3 (od)), (a 11, oEd (eN 0) (eR 0) (eD 0) (eB 0) (eL 0)), (a 12, oEd (eN 1) (eR 1) (eD 1) (eB 1) (eL 1)), (a 13, oEd (eN 2) (eR 2) (eD 2) (eB 2) (eL 2))]
  refine rx_aload_n C 0 rfl d_TR_turn_60 ?_
  refine rx_get C 0 10 i_TR rfl rfl (by decide) g_52 rfl rfl d_TR_turn_61 ?_
  refine rx_iconst C (nI 0) (by decide) d_TR_turn_64 ?_
  refine rx_iconst C (nI 0) (by decide) d_TR_turn_65 ?_
  refine rx_iast C 4 rfl (by decide) (0) (rfl) (by omega) (ws' := [(a 0, oTR w h a), (a 6, cI ta 3 (xs)), (a 7, cI ta 3 (ys)), (a 9, cQ ta a), (a 10, cI ta 3 (upd od 0 (nI (0)))), (a 11, oEd (eN 0) (eR 0) (eD 0) (eB 0) (eL 0)), (a 12, oEd (eN 1) (eR 1) (eD 1) (eB 1) (eL 1)), (a 13, oEd (eN 2) (eR 2) (eD 2) (eB 2) (eL 2))]) rfl d_TR_turn_66 ?_
  refine rx_aload_n C 0 rfl d_TR_turn_67 ?_
  refine rx_get C 0 10 i_TR rfl rfl (by decide) g_52 rfl rfl d_TR_turn_68 ?_
  refine rx_iconst C (nI 1) (by decide) d_TR_turn_71 ?_
  refine rx_lload_n C 1 rfl d_TR_turn_72 ?_
  refine rx_lconst C 0 (by decide) d_TR_turn_73 ?_
  refine rx_lcmp_ge C d_TR_turn_74 d_TR_turn_75 (fun c74 => ?_) (fun c74 => ?_)
  · skip
    refine rx_iconst C (nI 1) (by decide) d_TR_turn_82 ?_
    refine rx_iast C 4 rfl (by decide) (1) (rfl) (by omega) (ws' := [(a 0, oTR w h a), (a 6, cI ta 3 (xs)), (a 7, cI ta 3 (ys)), (a 9, cQ ta a), (a 10, cI ta 3 (upd (upd od 0 (nI (0))) 1 (nI (1)))), (a 11, oEd (eN 0) (eR 0) (eD 0) (eB 0) (eL 0)), (a 12, oEd (eN 1) (eR 1) (eD 1) (eB 1) (eL 1)), (a 13, oEd (eN 2) (eR 2) (eD 2) (eB 2) (eL 2))]) rfl d_TR_turn_83 ?_
    refine rx_aload_n C 0 rfl d_TR_turn_84 ?_
    refine rx_get C 0 10 i_TR rfl rfl (by decide) g_52 rfl rfl d_TR_turn_85 ?_
    refine rx_iconst C (nI 2) (by decide) d_TR_turn_88 ?_
    refine rx_lload_n C 1 rfl d_TR_turn_89 ?_
    refine rx_lconst C 0 (by decide) d_TR_turn_90 ?_
    refine rx_lcmp_ge C d_TR_turn_91 d_TR_turn_92 (fun c91 => ?_) (fun c91 => absurd c74 c91)
    refine rx_iconst C (nI 2) (by decide) d_TR_turn_99 ?_
    refine rx_iast C 4 rfl (by decide) (2) (rfl) (by omega) (ws' := [(a 0, oTR w h a), (a 6, cI ta 3 (xs)), (a 7, cI ta 3 (ys)), (a 9, cQ ta a), (a 10, cI ta 3 (upd (upd (upd od 0 (nI (0))) 1 (nI (1))) 2 (nI (2)))), (a 11, oEd (eN 0) (eR 0) (eD 0) (eB 0) (eL 0)), (a 12, oEd (eN 1) (eR 1) (eD 1) (eB 1) (eL 1)), (a 13, oEd (eN 2) (eR 2) (eD 2) (eB 2) (eL 2))]) rfl d_TR_turn_100 ?_
    refine rx_iconst C (nI 0) (by decide) d_TR_turn_101 ?_
    refine rx_istore_n C (Nat.le_of_ble_eq_true rfl) [1, 2, 0] (lv' := [(0, .ref (a 0)), (1, .long (RA xs ys)), (3, .int (nI (0)))]) rfl d_TR_turn_102 ?_
    refine rx_iload_n C 2 rfl d_TR_turn_103 ?_
    refine rx_iconst C (nI 3) (by decide) d_TR_turn_104 ?_
    refine rx_icmp_geN C (by omega) (by omega) d_TR_turn_105 (fun c105 => by exfalso; omega) (fun c105 => ?_)
    refine rx_aload_n C 0 rfl d_TR_turn_108 ?_
    refine rx_get C 0 10 i_TR rfl rfl (by decide) g_52 rfl rfl d_TR_turn_109 ?_
    refine rx_iload_n C 2 rfl d_TR_turn_112 ?_
    refine rx_iald C 4 rfl (by decide) (0) (rfl) (by omega) d_TR_turn_113 ?_
    refine rx_top (nI (0)) (rfl) ?_
    refine rx_istore C (Nat.le_of_ble_eq_true rfl) [1, 2, 3, 0] (lv' := [(0, .ref (a 0)), (1, .long (RA xs ys)), (3, .int (nI (0))), (4, .int (nI (0)))]) rfl d_TR_turn_114 ?_
    refine rx_aload_n C 0 rfl d_TR_turn_116 ?_
    refine rx_get C 0 10 i_TR rfl rfl (by decide) g_52 rfl rfl d_TR_turn_117 ?_
    refine rx_iload_n C 2 rfl d_TR_turn_120 ?_
    refine rx_iconst C (nI 1) (by decide) d_TR_turn_121 ?_
    refine rx_iaddN C d_TR_turn_122 ?_
    refine rx_iconst C (nI 3) (by decide) d_TR_turn_123 ?_
    refine rx_iremN C (by omega) (by omega) (by omega) d_TR_turn_124 ?_
    refine rx_iald C 4 rfl (by decide) ((0 + 1) % 3) (rfl) (by omega) d_TR_turn_125 ?_
    refine rx_top (nI (1)) (rfl) ?_
    refine rx_istore C (Nat.le_of_ble_eq_true rfl) [1, 2, 3, 4, 0] (lv' := [(0, .ref (a 0)), (1, .long (RA xs ys)), (3, .int (nI (0))), (4, .int (nI (0))), (5, .int (nI (1)))]) rfl d_TR_turn_126 ?_
    refine rx_aload_n C 0 rfl d_TR_turn_128 ?_
    refine rx_get C 0 9 i_TR rfl rfl (by decide) g_51 rfl rfl d_TR_turn_129 ?_
    refine rx_iload_n C 2 rfl d_TR_turn_132 ?_
    refine rx_aald C 3 rfl (by decide) (0) rfl (by decide) (b := a 11) rfl d_TR_turn_133 ?_
    refine rx_aload_n C 0 rfl d_TR_turn_134 ?_
    refine rx_get C 0 6 i_TR rfl rfl (by decide) g_48 rfl rfl d_TR_turn_135 ?_
    refine rx_iload C 3 rfl d_TR_turn_138 ?_
    refine rx_iald C 1 rfl (by decide) (0) (rfl) (by omega) d_TR_turn_140 ?_
    refine rx_aload_n C 0 rfl d_TR_turn_141 ?_
    refine rx_get C 0 7 i_TR rfl rfl (by decide) g_49 rfl rfl d_TR_turn_142 ?_
    refine rx_iload C 3 rfl d_TR_turn_145 ?_
    refine rx_iald C 2 rfl (by decide) (0) (rfl) (by omega) d_TR_turn_147 ?_
    refine rx_aload_n C 0 rfl d_TR_turn_148 ?_
    refine rx_get C 0 6 i_TR rfl rfl (by decide) g_48 rfl rfl d_TR_turn_149 ?_
    refine rx_iload C 4 rfl d_TR_turn_152 ?_
    refine rx_iald C 1 rfl (by decide) (1) (rfl) (by omega) d_TR_turn_154 ?_
    refine rx_aload_n C 0 rfl d_TR_turn_155 ?_
    refine rx_get C 0 7 i_TR rfl rfl (by decide) g_49 rfl rfl d_TR_turn_156 ?_
    refine rx_iload C 4 rfl d_TR_turn_159 ?_
    refine rx_iald C 2 rfl (by decide) (1) (rfl) (by omega) d_TR_turn_161 ?_
    refine rx_callVv C (c_Ed_set l D ta (a 11) (eN 0) (eR 0) (eD 0) (eB 0) (eL 0) (xs 0) (ys 0) (xs 1) (ys 1)) cw_TR_57 ⟨rfl, rfl, by decide, by decide⟩ rfl [5] rfl rfl (q0 := 0) rfl rfl rfl [] rfl (Nat.le_of_ble_eq_true rfl) (fun _ => rfl) d_TR_turn_162 (fun u0 h0 => ?_)
    refine rx_ws (ws' := [(a 0, oTR w h a), (a 6, cI ta 3 (xs)), (a 7, cI ta 3 (ys)), (a 9, cQ ta a), (a 10, cI ta 3 (upd (upd (upd od 0 (nI (0))) 1 (nI (1))) 2 (nI (2)))), (a 11, oEd (eN 0) (-((ys 1 - ys 0).toInt64) * 16) ((xs 1 - xs 0).toInt64 * 16) (bgE (xs 0) (ys 0) (xs 1) (ys 1)) (lsE (xs 0) (ys 0) (xs 1) (ys 1))), (a 12, oEd (eN 1) (eR 1) (eD 1) (eB 1) (eL 1)), (a 13, oEd (eN 2) (eR 2) (eD 2) (eB 2) (eL 2))]) ?_ rfl
    refine rx_iinc C 2 rfl (nI (1)) (by decide) (Nat.le_of_ble_eq_true rfl) [1, 2, 0, 3, 4] (lv' := [(0, .ref (a 0)), (1, .long (RA xs ys)), (3, .int (nI (1))), (4, .int (nI (0))), (5, .int (nI (1)))]) rfl d_TR_turn_165 ?_
    refine rx_goto C d_TR_turn_168 ?_
    refine rx_iload_n C 2 rfl d_TR_turn_103 ?_
    refine rx_iconst C (nI 3) (by decide) d_TR_turn_104 ?_
    refine rx_icmp_geN C (by omega) (by omega) d_TR_turn_105 (fun c105 => by exfalso; omega) (fun c105 => ?_)
    refine rx_aload_n C 0 rfl d_TR_turn_108 ?_
    refine rx_get C 0 10 i_TR rfl rfl (by decide) g_52 rfl rfl d_TR_turn_109 ?_
    refine rx_iload_n C 2 rfl d_TR_turn_112 ?_
    refine rx_iald C 4 rfl (by decide) (1) (rfl) (by omega) d_TR_turn_113 ?_
    refine rx_top (nI (1)) (rfl) ?_
    refine rx_istore C (Nat.le_of_ble_eq_true rfl) [1, 2, 3, 0, 4] (lv' := [(0, .ref (a 0)), (1, .long (RA xs ys)), (3, .int (nI (1))), (4, .int (nI (1))), (5, .int (nI (1)))]) rfl d_TR_turn_114 ?_
    refine rx_aload_n C 0 rfl d_TR_turn_116 ?_
    refine rx_get C 0 10 i_TR rfl rfl (by decide) g_52 rfl rfl d_TR_turn_117 ?_
    refine rx_iload_n C 2 rfl d_TR_turn_120 ?_
    refine rx_iconst C (nI 1) (by decide) d_TR_turn_121 ?_
    refine rx_iaddN C d_TR_turn_122 ?_
    refine rx_iconst C (nI 3) (by decide) d_TR_turn_123 ?_
    refine rx_iremN C (by omega) (by omega) (by omega) d_TR_turn_124 ?_
    refine rx_iald C 4 rfl (by decide) ((1 + 1) % 3) (rfl) (by omega) d_TR_turn_125 ?_
    refine rx_top (nI (2)) (rfl) ?_
    refine rx_istore C (Nat.le_of_ble_eq_true rfl) [1, 2, 3, 4, 0] (lv' := [(0, .ref (a 0)), (1, .long (RA xs ys)), (3, .int (nI (1))), (4, .int (nI (1))), (5, .int (nI (2)))]) rfl d_TR_turn_126 ?_
    refine rx_aload_n C 0 rfl d_TR_turn_128 ?_
    refine rx_get C 0 9 i_TR rfl rfl (by decide) g_51 rfl rfl d_TR_turn_129 ?_
    refine rx_iload_n C 2 rfl d_TR_turn_132 ?_
    refine rx_aald C 3 rfl (by decide) (1) rfl (by decide) (b := a 12) rfl d_TR_turn_133 ?_
    refine rx_aload_n C 0 rfl d_TR_turn_134 ?_
    refine rx_get C 0 6 i_TR rfl rfl (by decide) g_48 rfl rfl d_TR_turn_135 ?_
    refine rx_iload C 3 rfl d_TR_turn_138 ?_
    refine rx_iald C 1 rfl (by decide) (1) (rfl) (by omega) d_TR_turn_140 ?_
    refine rx_aload_n C 0 rfl d_TR_turn_141 ?_
    refine rx_get C 0 7 i_TR rfl rfl (by decide) g_49 rfl rfl d_TR_turn_142 ?_
    refine rx_iload C 3 rfl d_TR_turn_145 ?_
    refine rx_iald C 2 rfl (by decide) (1) (rfl) (by omega) d_TR_turn_147 ?_
    refine rx_aload_n C 0 rfl d_TR_turn_148 ?_
    refine rx_get C 0 6 i_TR rfl rfl (by decide) g_48 rfl rfl d_TR_turn_149 ?_
    refine rx_iload C 4 rfl d_TR_turn_152 ?_
    refine rx_iald C 1 rfl (by decide) (2) (rfl) (by omega) d_TR_turn_154 ?_
    refine rx_aload_n C 0 rfl d_TR_turn_155 ?_
    refine rx_get C 0 7 i_TR rfl rfl (by decide) g_49 rfl rfl d_TR_turn_156 ?_
    refine rx_iload C 4 rfl d_TR_turn_159 ?_
    refine rx_iald C 2 rfl (by decide) (2) (rfl) (by omega) d_TR_turn_161 ?_
    refine rx_callVv C (c_Ed_set l D ta (a 12) (eN 1) (eR 1) (eD 1) (eB 1) (eL 1) (xs 1) (ys 1) (xs 2) (ys 2)) cw_TR_57 ⟨rfl, rfl, by decide, by decide⟩ rfl [6] rfl rfl (q0 := 0) rfl rfl rfl [] rfl (Nat.le_of_ble_eq_true rfl) (fun _ => rfl) d_TR_turn_162 (fun u1 h1 => ?_)
    refine rx_ws (ws' := [(a 0, oTR w h a), (a 6, cI ta 3 (xs)), (a 7, cI ta 3 (ys)), (a 9, cQ ta a), (a 10, cI ta 3 (upd (upd (upd od 0 (nI (0))) 1 (nI (1))) 2 (nI (2)))), (a 11, oEd (eN 0) (-((ys 1 - ys 0).toInt64) * 16) ((xs 1 - xs 0).toInt64 * 16) (bgE (xs 0) (ys 0) (xs 1) (ys 1)) (lsE (xs 0) (ys 0) (xs 1) (ys 1))), (a 12, oEd (eN 1) (-((ys 2 - ys 1).toInt64) * 16) ((xs 2 - xs 1).toInt64 * 16) (bgE (xs 1) (ys 1) (xs 2) (ys 2)) (lsE (xs 1) (ys 1) (xs 2) (ys 2))), (a 13, oEd (eN 2) (eR 2) (eD 2) (eB 2) (eL 2))]) ?_ rfl
    refine rx_iinc C 2 rfl (nI (2)) (by decide) (Nat.le_of_ble_eq_true rfl) [1, 2, 0, 3, 4] (lv' := [(0, .ref (a 0)), (1, .long (RA xs ys)), (3, .int (nI (2))), (4, .int (nI (1))), (5, .int (nI (2)))]) rfl d_TR_turn_165 ?_
    refine rx_goto C d_TR_turn_168 ?_
    refine rx_iload_n C 2 rfl d_TR_turn_103 ?_
    refine rx_iconst C (nI 3) (by decide) d_TR_turn_104 ?_
    refine rx_icmp_geN C (by omega) (by omega) d_TR_turn_105 (fun c105 => by exfalso; omega) (fun c105 => ?_)
    refine rx_aload_n C 0 rfl d_TR_turn_108 ?_
    refine rx_get C 0 10 i_TR rfl rfl (by decide) g_52 rfl rfl d_TR_turn_109 ?_
    refine rx_iload_n C 2 rfl d_TR_turn_112 ?_
    refine rx_iald C 4 rfl (by decide) (2) (rfl) (by omega) d_TR_turn_113 ?_
    refine rx_top (nI (2)) (rfl) ?_
    refine rx_istore C (Nat.le_of_ble_eq_true rfl) [1, 2, 3, 0, 4] (lv' := [(0, .ref (a 0)), (1, .long (RA xs ys)), (3, .int (nI (2))), (4, .int (nI (2))), (5, .int (nI (2)))]) rfl d_TR_turn_114 ?_
    refine rx_aload_n C 0 rfl d_TR_turn_116 ?_
    refine rx_get C 0 10 i_TR rfl rfl (by decide) g_52 rfl rfl d_TR_turn_117 ?_
    refine rx_iload_n C 2 rfl d_TR_turn_120 ?_
    refine rx_iconst C (nI 1) (by decide) d_TR_turn_121 ?_
    refine rx_iaddN C d_TR_turn_122 ?_
    refine rx_iconst C (nI 3) (by decide) d_TR_turn_123 ?_
    refine rx_iremN C (by omega) (by omega) (by omega) d_TR_turn_124 ?_
    refine rx_iald C 4 rfl (by decide) ((2 + 1) % 3) (rfl) (by omega) d_TR_turn_125 ?_
    refine rx_top (nI (0)) (rfl) ?_
    refine rx_istore C (Nat.le_of_ble_eq_true rfl) [1, 2, 3, 4, 0] (lv' := [(0, .ref (a 0)), (1, .long (RA xs ys)), (3, .int (nI (2))), (4, .int (nI (2))), (5, .int (nI (0)))]) rfl d_TR_turn_126 ?_
    refine rx_aload_n C 0 rfl d_TR_turn_128 ?_
    refine rx_get C 0 9 i_TR rfl rfl (by decide) g_51 rfl rfl d_TR_turn_129 ?_
    refine rx_iload_n C 2 rfl d_TR_turn_132 ?_
    refine rx_aald C 3 rfl (by decide) (2) rfl (by decide) (b := a 13) rfl d_TR_turn_133 ?_
    refine rx_aload_n C 0 rfl d_TR_turn_134 ?_
    refine rx_get C 0 6 i_TR rfl rfl (by decide) g_48 rfl rfl d_TR_turn_135 ?_
    refine rx_iload C 3 rfl d_TR_turn_138 ?_
    refine rx_iald C 1 rfl (by decide) (2) (rfl) (by omega) d_TR_turn_140 ?_
    refine rx_aload_n C 0 rfl d_TR_turn_141 ?_
    refine rx_get C 0 7 i_TR rfl rfl (by decide) g_49 rfl rfl d_TR_turn_142 ?_
    refine rx_iload C 3 rfl d_TR_turn_145 ?_
    refine rx_iald C 2 rfl (by decide) (2) (rfl) (by omega) d_TR_turn_147 ?_
    refine rx_aload_n C 0 rfl d_TR_turn_148 ?_
    refine rx_get C 0 6 i_TR rfl rfl (by decide) g_48 rfl rfl d_TR_turn_149 ?_
    refine rx_iload C 4 rfl d_TR_turn_152 ?_
    refine rx_iald C 1 rfl (by decide) (0) (rfl) (by omega) d_TR_turn_154 ?_
    refine rx_aload_n C 0 rfl d_TR_turn_155 ?_
    refine rx_get C 0 7 i_TR rfl rfl (by decide) g_49 rfl rfl d_TR_turn_156 ?_
    refine rx_iload C 4 rfl d_TR_turn_159 ?_
    refine rx_iald C 2 rfl (by decide) (0) (rfl) (by omega) d_TR_turn_161 ?_
    refine rx_callVv C (c_Ed_set l D ta (a 13) (eN 2) (eR 2) (eD 2) (eB 2) (eL 2) (xs 2) (ys 2) (xs 0) (ys 0)) cw_TR_57 ⟨rfl, rfl, by decide, by decide⟩ rfl [7] rfl rfl (q0 := 0) rfl rfl rfl [] rfl (Nat.le_of_ble_eq_true rfl) (fun _ => rfl) d_TR_turn_162 (fun u2 h2 => ?_)
    refine rx_ws (ws' := [(a 0, oTR w h a), (a 6, cI ta 3 (xs)), (a 7, cI ta 3 (ys)), (a 9, cQ ta a), (a 10, cI ta 3 (upd (upd (upd od 0 (nI (0))) 1 (nI (1))) 2 (nI (2)))), (a 11, oEd (eN 0) (-((ys 1 - ys 0).toInt64) * 16) ((xs 1 - xs 0).toInt64 * 16) (bgE (xs 0) (ys 0) (xs 1) (ys 1)) (lsE (xs 0) (ys 0) (xs 1) (ys 1))), (a 12, oEd (eN 1) (-((ys 2 - ys 1).toInt64) * 16) ((xs 2 - xs 1).toInt64 * 16) (bgE (xs 1) (ys 1) (xs 2) (ys 2)) (lsE (xs 1) (ys 1) (xs 2) (ys 2))), (a 13, oEd (eN 2) (-((ys 0 - ys 2).toInt64) * 16) ((xs 0 - xs 2).toInt64 * 16) (bgE (xs 2) (ys 2) (xs 0) (ys 0)) (lsE (xs 2) (ys 2) (xs 0) (ys 0)))]) ?_ rfl
    refine rx_iinc C 2 rfl (nI (3)) (by decide) (Nat.le_of_ble_eq_true rfl) [1, 2, 0, 3, 4] (lv' := [(0, .ref (a 0)), (1, .long (RA xs ys)), (3, .int (nI (3))), (4, .int (nI (2))), (5, .int (nI (0)))]) rfl d_TR_turn_165 ?_
    refine rx_goto C d_TR_turn_168 ?_
    refine rx_iload_n C 2 rfl d_TR_turn_103 ?_
    refine rx_iconst C (nI 3) (by decide) d_TR_turn_104 ?_
    refine rx_icmp_geN C (by omega) (by omega) d_TR_turn_105 (fun c105 => ?_) (fun c105 => by exfalso; omega)
    refine rx_lload_n C 1 rfl d_TR_turn_171 ?_
    refine rx_mabsL C g_102 (by decide) (Nat.le_of_ble_eq_true rfl) d_TR_turn_172 ?_
    exact hret _ _ _ _ (1, 2) d_TR_turn_175 (⟨rfl, Or.inr ⟨Int64.not_lt.mpr c74, rfl⟩⟩)
  · skip
    refine rx_iconst C (nI 2) (by decide) d_TR_turn_78 ?_
    refine rx_goto C d_TR_turn_79 ?_
    refine rx_iast C 4 rfl (by decide) (1) (rfl) (by omega) (ws' := [(a 0, oTR w h a), (a 6, cI ta 3 (xs)), (a 7, cI ta 3 (ys)), (a 9, cQ ta a), (a 10, cI ta 3 (upd (upd od 0 (nI (0))) 1 (nI (2)))), (a 11, oEd (eN 0) (eR 0) (eD 0) (eB 0) (eL 0)), (a 12, oEd (eN 1) (eR 1) (eD 1) (eB 1) (eL 1)), (a 13, oEd (eN 2) (eR 2) (eD 2) (eB 2) (eL 2))]) rfl d_TR_turn_83 ?_
    refine rx_aload_n C 0 rfl d_TR_turn_84 ?_
    refine rx_get C 0 10 i_TR rfl rfl (by decide) g_52 rfl rfl d_TR_turn_85 ?_
    refine rx_iconst C (nI 2) (by decide) d_TR_turn_88 ?_
    refine rx_lload_n C 1 rfl d_TR_turn_89 ?_
    refine rx_lconst C 0 (by decide) d_TR_turn_90 ?_
    refine rx_lcmp_ge C d_TR_turn_91 d_TR_turn_92 (fun c91 => absurd c91 c74) (fun c91 => ?_)
    refine rx_iconst C (nI 1) (by decide) d_TR_turn_95 ?_
    refine rx_goto C d_TR_turn_96 ?_
    refine rx_iast C 4 rfl (by decide) (2) (rfl) (by omega) (ws' := [(a 0, oTR w h a), (a 6, cI ta 3 (xs)), (a 7, cI ta 3 (ys)), (a 9, cQ ta a), (a 10, cI ta 3 (upd (upd (upd od 0 (nI (0))) 1 (nI (2))) 2 (nI (1)))), (a 11, oEd (eN 0) (eR 0) (eD 0) (eB 0) (eL 0)), (a 12, oEd (eN 1) (eR 1) (eD 1) (eB 1) (eL 1)), (a 13, oEd (eN 2) (eR 2) (eD 2) (eB 2) (eL 2))]) rfl d_TR_turn_100 ?_
    refine rx_iconst C (nI 0) (by decide) d_TR_turn_101 ?_
    refine rx_istore_n C (Nat.le_of_ble_eq_true rfl) [1, 2, 0] (lv' := [(0, .ref (a 0)), (1, .long (RA xs ys)), (3, .int (nI (0)))]) rfl d_TR_turn_102 ?_
    refine rx_iload_n C 2 rfl d_TR_turn_103 ?_
    refine rx_iconst C (nI 3) (by decide) d_TR_turn_104 ?_
    refine rx_icmp_geN C (by omega) (by omega) d_TR_turn_105 (fun c105 => by exfalso; omega) (fun c105 => ?_)
    refine rx_aload_n C 0 rfl d_TR_turn_108 ?_
    refine rx_get C 0 10 i_TR rfl rfl (by decide) g_52 rfl rfl d_TR_turn_109 ?_
    refine rx_iload_n C 2 rfl d_TR_turn_112 ?_
    refine rx_iald C 4 rfl (by decide) (0) (rfl) (by omega) d_TR_turn_113 ?_
    refine rx_top (nI (0)) (rfl) ?_
    refine rx_istore C (Nat.le_of_ble_eq_true rfl) [1, 2, 3, 0] (lv' := [(0, .ref (a 0)), (1, .long (RA xs ys)), (3, .int (nI (0))), (4, .int (nI (0)))]) rfl d_TR_turn_114 ?_
    refine rx_aload_n C 0 rfl d_TR_turn_116 ?_
    refine rx_get C 0 10 i_TR rfl rfl (by decide) g_52 rfl rfl d_TR_turn_117 ?_
    refine rx_iload_n C 2 rfl d_TR_turn_120 ?_
    refine rx_iconst C (nI 1) (by decide) d_TR_turn_121 ?_
    refine rx_iaddN C d_TR_turn_122 ?_
    refine rx_iconst C (nI 3) (by decide) d_TR_turn_123 ?_
    refine rx_iremN C (by omega) (by omega) (by omega) d_TR_turn_124 ?_
    refine rx_iald C 4 rfl (by decide) ((0 + 1) % 3) (rfl) (by omega) d_TR_turn_125 ?_
    refine rx_top (nI (2)) (rfl) ?_
    refine rx_istore C (Nat.le_of_ble_eq_true rfl) [1, 2, 3, 4, 0] (lv' := [(0, .ref (a 0)), (1, .long (RA xs ys)), (3, .int (nI (0))), (4, .int (nI (0))), (5, .int (nI (2)))]) rfl d_TR_turn_126 ?_
    refine rx_aload_n C 0 rfl d_TR_turn_128 ?_
    refine rx_get C 0 9 i_TR rfl rfl (by decide) g_51 rfl rfl d_TR_turn_129 ?_
    refine rx_iload_n C 2 rfl d_TR_turn_132 ?_
    refine rx_aald C 3 rfl (by decide) (0) rfl (by decide) (b := a 11) rfl d_TR_turn_133 ?_
    refine rx_aload_n C 0 rfl d_TR_turn_134 ?_
    refine rx_get C 0 6 i_TR rfl rfl (by decide) g_48 rfl rfl d_TR_turn_135 ?_
    refine rx_iload C 3 rfl d_TR_turn_138 ?_
    refine rx_iald C 1 rfl (by decide) (0) (rfl) (by omega) d_TR_turn_140 ?_
    refine rx_aload_n C 0 rfl d_TR_turn_141 ?_
    refine rx_get C 0 7 i_TR rfl rfl (by decide) g_49 rfl rfl d_TR_turn_142 ?_
    refine rx_iload C 3 rfl d_TR_turn_145 ?_
    refine rx_iald C 2 rfl (by decide) (0) (rfl) (by omega) d_TR_turn_147 ?_
    refine rx_aload_n C 0 rfl d_TR_turn_148 ?_
    refine rx_get C 0 6 i_TR rfl rfl (by decide) g_48 rfl rfl d_TR_turn_149 ?_
    refine rx_iload C 4 rfl d_TR_turn_152 ?_
    refine rx_iald C 1 rfl (by decide) (2) (rfl) (by omega) d_TR_turn_154 ?_
    refine rx_aload_n C 0 rfl d_TR_turn_155 ?_
    refine rx_get C 0 7 i_TR rfl rfl (by decide) g_49 rfl rfl d_TR_turn_156 ?_
    refine rx_iload C 4 rfl d_TR_turn_159 ?_
    refine rx_iald C 2 rfl (by decide) (2) (rfl) (by omega) d_TR_turn_161 ?_
    refine rx_callVv C (c_Ed_set l D ta (a 11) (eN 0) (eR 0) (eD 0) (eB 0) (eL 0) (xs 0) (ys 0) (xs 2) (ys 2)) cw_TR_57 ⟨rfl, rfl, by decide, by decide⟩ rfl [5] rfl rfl (q0 := 0) rfl rfl rfl [] rfl (Nat.le_of_ble_eq_true rfl) (fun _ => rfl) d_TR_turn_162 (fun u0 h0 => ?_)
    refine rx_ws (ws' := [(a 0, oTR w h a), (a 6, cI ta 3 (xs)), (a 7, cI ta 3 (ys)), (a 9, cQ ta a), (a 10, cI ta 3 (upd (upd (upd od 0 (nI (0))) 1 (nI (2))) 2 (nI (1)))), (a 11, oEd (eN 0) (-((ys 2 - ys 0).toInt64) * 16) ((xs 2 - xs 0).toInt64 * 16) (bgE (xs 0) (ys 0) (xs 2) (ys 2)) (lsE (xs 0) (ys 0) (xs 2) (ys 2))), (a 12, oEd (eN 1) (eR 1) (eD 1) (eB 1) (eL 1)), (a 13, oEd (eN 2) (eR 2) (eD 2) (eB 2) (eL 2))]) ?_ rfl
    refine rx_iinc C 2 rfl (nI (1)) (by decide) (Nat.le_of_ble_eq_true rfl) [1, 2, 0, 3, 4] (lv' := [(0, .ref (a 0)), (1, .long (RA xs ys)), (3, .int (nI (1))), (4, .int (nI (0))), (5, .int (nI (2)))]) rfl d_TR_turn_165 ?_
    refine rx_goto C d_TR_turn_168 ?_
    refine rx_iload_n C 2 rfl d_TR_turn_103 ?_
    refine rx_iconst C (nI 3) (by decide) d_TR_turn_104 ?_
    refine rx_icmp_geN C (by omega) (by omega) d_TR_turn_105 (fun c105 => by exfalso; omega) (fun c105 => ?_)
    refine rx_aload_n C 0 rfl d_TR_turn_108 ?_
    refine rx_get C 0 10 i_TR rfl rfl (by decide) g_52 rfl rfl d_TR_turn_109 ?_
    refine rx_iload_n C 2 rfl d_TR_turn_112 ?_
    refine rx_iald C 4 rfl (by decide) (1) (rfl) (by omega) d_TR_turn_113 ?_
    refine rx_top (nI (2)) (rfl) ?_
    refine rx_istore C (Nat.le_of_ble_eq_true rfl) [1, 2, 3, 0, 4] (lv' := [(0, .ref (a 0)), (1, .long (RA xs ys)), (3, .int (nI (1))), (4, .int (nI (2))), (5, .int (nI (2)))]) rfl d_TR_turn_114 ?_
    refine rx_aload_n C 0 rfl d_TR_turn_116 ?_
    refine rx_get C 0 10 i_TR rfl rfl (by decide) g_52 rfl rfl d_TR_turn_117 ?_
    refine rx_iload_n C 2 rfl d_TR_turn_120 ?_
    refine rx_iconst C (nI 1) (by decide) d_TR_turn_121 ?_
    refine rx_iaddN C d_TR_turn_122 ?_
    refine rx_iconst C (nI 3) (by decide) d_TR_turn_123 ?_
    refine rx_iremN C (by omega) (by omega) (by omega) d_TR_turn_124 ?_
    refine rx_iald C 4 rfl (by decide) ((1 + 1) % 3) (rfl) (by omega) d_TR_turn_125 ?_
    refine rx_top (nI (1)) (rfl) ?_
    refine rx_istore C (Nat.le_of_ble_eq_true rfl) [1, 2, 3, 4, 0] (lv' := [(0, .ref (a 0)), (1, .long (RA xs ys)), (3, .int (nI (1))), (4, .int (nI (2))), (5, .int (nI (1)))]) rfl d_TR_turn_126 ?_
    refine rx_aload_n C 0 rfl d_TR_turn_128 ?_
    refine rx_get C 0 9 i_TR rfl rfl (by decide) g_51 rfl rfl d_TR_turn_129 ?_
    refine rx_iload_n C 2 rfl d_TR_turn_132 ?_
    refine rx_aald C 3 rfl (by decide) (1) rfl (by decide) (b := a 12) rfl d_TR_turn_133 ?_
    refine rx_aload_n C 0 rfl d_TR_turn_134 ?_
    refine rx_get C 0 6 i_TR rfl rfl (by decide) g_48 rfl rfl d_TR_turn_135 ?_
    refine rx_iload C 3 rfl d_TR_turn_138 ?_
    refine rx_iald C 1 rfl (by decide) (2) (rfl) (by omega) d_TR_turn_140 ?_
    refine rx_aload_n C 0 rfl d_TR_turn_141 ?_
    refine rx_get C 0 7 i_TR rfl rfl (by decide) g_49 rfl rfl d_TR_turn_142 ?_
    refine rx_iload C 3 rfl d_TR_turn_145 ?_
    refine rx_iald C 2 rfl (by decide) (2) (rfl) (by omega) d_TR_turn_147 ?_
    refine rx_aload_n C 0 rfl d_TR_turn_148 ?_
    refine rx_get C 0 6 i_TR rfl rfl (by decide) g_48 rfl rfl d_TR_turn_149 ?_
    refine rx_iload C 4 rfl d_TR_turn_152 ?_
    refine rx_iald C 1 rfl (by decide) (1) (rfl) (by omega) d_TR_turn_154 ?_
    refine rx_aload_n C 0 rfl d_TR_turn_155 ?_
    refine rx_get C 0 7 i_TR rfl rfl (by decide) g_49 rfl rfl d_TR_turn_156 ?_
    refine rx_iload C 4 rfl d_TR_turn_159 ?_
    refine rx_iald C 2 rfl (by decide) (1) (rfl) (by omega) d_TR_turn_161 ?_
    refine rx_callVv C (c_Ed_set l D ta (a 12) (eN 1) (eR 1) (eD 1) (eB 1) (eL 1) (xs 2) (ys 2) (xs 1) (ys 1)) cw_TR_57 ⟨rfl, rfl, by decide, by decide⟩ rfl [6] rfl rfl (q0 := 0) rfl rfl rfl [] rfl (Nat.le_of_ble_eq_true rfl) (fun _ => rfl) d_TR_turn_162 (fun u1 h1 => ?_)
    refine rx_ws (ws' := [(a 0, oTR w h a), (a 6, cI ta 3 (xs)), (a 7, cI ta 3 (ys)), (a 9, cQ ta a), (a 10, cI ta 3 (upd (upd (upd od 0 (nI (0))) 1 (nI (2))) 2 (nI (1)))), (a 11, oEd (eN 0) (-((ys 2 - ys 0).toInt64) * 16) ((xs 2 - xs 0).toInt64 * 16) (bgE (xs 0) (ys 0) (xs 2) (ys 2)) (lsE (xs 0) (ys 0) (xs 2) (ys 2))), (a 12, oEd (eN 1) (-((ys 1 - ys 2).toInt64) * 16) ((xs 1 - xs 2).toInt64 * 16) (bgE (xs 2) (ys 2) (xs 1) (ys 1)) (lsE (xs 2) (ys 2) (xs 1) (ys 1))), (a 13, oEd (eN 2) (eR 2) (eD 2) (eB 2) (eL 2))]) ?_ rfl
    refine rx_iinc C 2 rfl (nI (2)) (by decide) (Nat.le_of_ble_eq_true rfl) [1, 2, 0, 3, 4] (lv' := [(0, .ref (a 0)), (1, .long (RA xs ys)), (3, .int (nI (2))), (4, .int (nI (2))), (5, .int (nI (1)))]) rfl d_TR_turn_165 ?_
    refine rx_goto C d_TR_turn_168 ?_
    refine rx_iload_n C 2 rfl d_TR_turn_103 ?_
    refine rx_iconst C (nI 3) (by decide) d_TR_turn_104 ?_
    refine rx_icmp_geN C (by omega) (by omega) d_TR_turn_105 (fun c105 => by exfalso; omega) (fun c105 => ?_)
    refine rx_aload_n C 0 rfl d_TR_turn_108 ?_
    refine rx_get C 0 10 i_TR rfl rfl (by decide) g_52 rfl rfl d_TR_turn_109 ?_
    refine rx_iload_n C 2 rfl d_TR_turn_112 ?_
    refine rx_iald C 4 rfl (by decide) (2) (rfl) (by omega) d_TR_turn_113 ?_
    refine rx_top (nI (1)) (rfl) ?_
    refine rx_istore C (Nat.le_of_ble_eq_true rfl) [1, 2, 3, 0, 4] (lv' := [(0, .ref (a 0)), (1, .long (RA xs ys)), (3, .int (nI (2))), (4, .int (nI (1))), (5, .int (nI (1)))]) rfl d_TR_turn_114 ?_
    refine rx_aload_n C 0 rfl d_TR_turn_116 ?_
    refine rx_get C 0 10 i_TR rfl rfl (by decide) g_52 rfl rfl d_TR_turn_117 ?_
    refine rx_iload_n C 2 rfl d_TR_turn_120 ?_
    refine rx_iconst C (nI 1) (by decide) d_TR_turn_121 ?_
    refine rx_iaddN C d_TR_turn_122 ?_
    refine rx_iconst C (nI 3) (by decide) d_TR_turn_123 ?_
    refine rx_iremN C (by omega) (by omega) (by omega) d_TR_turn_124 ?_
    refine rx_iald C 4 rfl (by decide) ((2 + 1) % 3) (rfl) (by omega) d_TR_turn_125 ?_
    refine rx_top (nI (0)) (rfl) ?_
    refine rx_istore C (Nat.le_of_ble_eq_true rfl) [1, 2, 3, 4, 0] (lv' := [(0, .ref (a 0)), (1, .long (RA xs ys)), (3, .int (nI (2))), (4, .int (nI (1))), (5, .int (nI (0)))]) rfl d_TR_turn_126 ?_
    refine rx_aload_n C 0 rfl d_TR_turn_128 ?_
    refine rx_get C 0 9 i_TR rfl rfl (by decide) g_51 rfl rfl d_TR_turn_129 ?_
    refine rx_iload_n C 2 rfl d_TR_turn_132 ?_
    refine rx_aald C 3 rfl (by decide) (2) rfl (by decide) (b := a 13) rfl d_TR_turn_133 ?_
    refine rx_aload_n C 0 rfl d_TR_turn_134 ?_
    refine rx_get C 0 6 i_TR rfl rfl (by decide) g_48 rfl rfl d_TR_turn_135 ?_
    refine rx_iload C 3 rfl d_TR_turn_138 ?_
    refine rx_iald C 1 rfl (by decide) (1) (rfl) (by omega) d_TR_turn_140 ?_
    refine rx_aload_n C 0 rfl d_TR_turn_141 ?_
    refine rx_get C 0 7 i_TR rfl rfl (by decide) g_49 rfl rfl d_TR_turn_142 ?_
    refine rx_iload C 3 rfl d_TR_turn_145 ?_
    refine rx_iald C 2 rfl (by decide) (1) (rfl) (by omega) d_TR_turn_147 ?_
    refine rx_aload_n C 0 rfl d_TR_turn_148 ?_
    refine rx_get C 0 6 i_TR rfl rfl (by decide) g_48 rfl rfl d_TR_turn_149 ?_
    refine rx_iload C 4 rfl d_TR_turn_152 ?_
    refine rx_iald C 1 rfl (by decide) (0) (rfl) (by omega) d_TR_turn_154 ?_
    refine rx_aload_n C 0 rfl d_TR_turn_155 ?_
    refine rx_get C 0 7 i_TR rfl rfl (by decide) g_49 rfl rfl d_TR_turn_156 ?_
    refine rx_iload C 4 rfl d_TR_turn_159 ?_
    refine rx_iald C 2 rfl (by decide) (0) (rfl) (by omega) d_TR_turn_161 ?_
    refine rx_callVv C (c_Ed_set l D ta (a 13) (eN 2) (eR 2) (eD 2) (eB 2) (eL 2) (xs 1) (ys 1) (xs 0) (ys 0)) cw_TR_57 ⟨rfl, rfl, by decide, by decide⟩ rfl [7] rfl rfl (q0 := 0) rfl rfl rfl [] rfl (Nat.le_of_ble_eq_true rfl) (fun _ => rfl) d_TR_turn_162 (fun u2 h2 => ?_)
    refine rx_ws (ws' := [(a 0, oTR w h a), (a 6, cI ta 3 (xs)), (a 7, cI ta 3 (ys)), (a 9, cQ ta a), (a 10, cI ta 3 (upd (upd (upd od 0 (nI (0))) 1 (nI (2))) 2 (nI (1)))), (a 11, oEd (eN 0) (-((ys 2 - ys 0).toInt64) * 16) ((xs 2 - xs 0).toInt64 * 16) (bgE (xs 0) (ys 0) (xs 2) (ys 2)) (lsE (xs 0) (ys 0) (xs 2) (ys 2))), (a 12, oEd (eN 1) (-((ys 1 - ys 2).toInt64) * 16) ((xs 1 - xs 2).toInt64 * 16) (bgE (xs 2) (ys 2) (xs 1) (ys 1)) (lsE (xs 2) (ys 2) (xs 1) (ys 1))), (a 13, oEd (eN 2) (-((ys 0 - ys 1).toInt64) * 16) ((xs 0 - xs 1).toInt64 * 16) (bgE (xs 1) (ys 1) (xs 0) (ys 0)) (lsE (xs 1) (ys 1) (xs 0) (ys 0)))]) ?_ rfl
    refine rx_iinc C 2 rfl (nI (3)) (by decide) (Nat.le_of_ble_eq_true rfl) [1, 2, 0, 3, 4] (lv' := [(0, .ref (a 0)), (1, .long (RA xs ys)), (3, .int (nI (3))), (4, .int (nI (1))), (5, .int (nI (0)))]) rfl d_TR_turn_165 ?_
    refine rx_goto C d_TR_turn_168 ?_
    refine rx_iload_n C 2 rfl d_TR_turn_103 ?_
    refine rx_iconst C (nI 3) (by decide) d_TR_turn_104 ?_
    refine rx_icmp_geN C (by omega) (by omega) d_TR_turn_105 (fun c105 => ?_) (fun c105 => by exfalso; omega)
    refine rx_lload_n C 1 rfl d_TR_turn_171 ?_
    refine rx_mabsL C g_102 (by decide) (Nat.le_of_ble_eq_true rfl) d_TR_turn_172 ?_
    exact hret _ _ _ _ (2, 1) d_TR_turn_175 (⟨rfl, Or.inl ⟨Int64.not_le.mp c74, rfl⟩⟩)
def wCov (ta : Nat → ClassId) (w h : Nat) (a : Nat → Nat) (xs ys od : Nat → Int32) (eN eR eD eB : Nat → Int64) (eL : Nat → Int32) (u : Option (Nat × Nat)) : va_W := match u with
  | none => [(a 0, oTR w h a), (a 6, cI ta 3 (xs)), (a 7, cI ta 3 (ys)), (a 9, cQ ta a), (a 10, cI ta 3 (od)), (a 11, oEd (eN 0) (eR 0) (eD 0) (eB 0) (eL 0)), (a 12, oEd (eN 1) (eR 1) (eD 1) (eB 1) (eL 1)), (a 13, oEd (eN 2) (eR 2) (eD 2) (eB 2) (eL 2))]
  | some u => [(a 0, oTR w h a), (a 6, cI ta 3 (xs)), (a 7, cI ta 3 (ys)), (a 9, cQ ta a), (a 10, cI ta 3 (upd (upd (upd od 0 (nI 0)) 1 (nI (u.1))) 2 (nI (u.2)))), (a 11, oEd (eN 0) (-((ys u.1 - ys 0).toInt64) * 16) ((xs u.1 - xs 0).toInt64 * 16) (bgE (xs 0) (ys 0) (xs u.1) (ys u.1)) (lsE (xs 0) (ys 0) (xs u.1) (ys u.1))), (a 12, oEd (eN 1) (-((ys u.2 - ys u.1).toInt64) * 16) ((xs u.2 - xs u.1).toInt64 * 16) (bgE (xs u.1) (ys u.1) (xs u.2) (ys u.2)) (lsE (xs u.1) (ys u.1) (xs u.2) (ys u.2))), (a 13, oEd (eN 2) (-((ys 0 - ys u.2).toInt64) * 16) ((xs 0 - xs u.2).toInt64 * 16) (bgE (xs u.2) (ys u.2) (xs 0) (ys 0)) (lsE (xs u.2) (ys u.2) (xs 0) (ys 0)))]
set_option maxHeartbeats 4000000 in
set_option maxRecDepth 100000 in
theorem c_TR_covers (l : Launch) (D : va_G) (ta : Nat → ClassId) (w h : Nat) (a : Nat → Nat) (xs ys od : Nat → Int32) (eN eR eD eB : Nat → Int64) (eL : Nat → Int32) (x y : Int32) : Cti l y_TR_covers b_TR_covers 3 .boolean rm_TR_covers D ta [.ref (a 0), .int (x), .int (y)] [(a 0, oTR w h a), (a 6, cI ta 3 (xs)), (a 7, cI ta 3 (ys)), (a 9, cQ ta a), (a 10, cI ta 3 (od)), (a 11, oEd (eN 0) (eR 0) (eD 0) (eB 0) (eL 0)), (a 12, oEd (eN 1) (eR 1) (eD 1) (eB 1) (eL 1)), (a 13, oEd (eN 2) (eR 2) (eD 2) (eB 2) (eL 2))] (wCov ta w h a xs ys od eN eR eD eB eL) (fun r u => (∃ v, u = some v ∧ ordP xs ys v ∧ bI (nearP x y ∧ ¬ absA xs ys = 0 ∧ ((RA xs ys < 0 ∧ inE xs ys 0 2 x y ∧ inE xs ys 2 1 x y ∧ inE xs ys 1 0 x y) ∨ (¬ RA xs ys < 0 ∧ inE xs ys 0 1 x y ∧ inE xs ys 1 2 x y ∧ inE xs ys 2 0 x y))) r) ∨ (bI (nearP x y ∧ ¬ absA xs ys = 0 ∧ ((RA xs ys < 0 ∧ inE xs ys 0 2 x y ∧ inE xs ys 2 1 x y ∧ inE xs ys 1 0 x y) ∨ (¬ RA xs ys < 0 ∧ inE xs ys 0 1 x y ∧ inE xs ys 1 2 x y ∧ inE xs ys 2 0 x y))) r ∧ u = none)) := by
  refine start_i rfl (Nat.le_of_ble_eq_true rfl) (fun G C hret => ?_)
  show G 0 [(0, .ref (a 0)), (1, .int (x)), (2, .int (y))] [] [(a 0, oTR w h a), (a 6, cI ta 3 (xs)), (a 7, cI ta 3 (ys)), (a 9, cQ ta a), (a 10, cI ta 3 (od)), (a 11, oEd (eN 0) (eR 0) (eD 0) (eB 0) (eL 0)), (a 12, oEd (eN 1) (eR 1) (eD 1) (eB 1) (eL 1)), (a 13, oEd (eN 2) (eR 2) (eD 2) (eB 2) (eL 2))]
  refine rx_iload_n C 1 rfl d_TR_covers_0 ?_
  refine rx_sipush C (-2000) (by decide) d_TR_covers_1 ?_
  refine rx_icmp_lt C d_TR_covers_4 (fun c4 => ?_) (fun c4 => ?_)
  · skip
    refine rx_iconst C (nI 0) (by decide) d_TR_covers_37 ?_
    exact hret _ _ _ _ none d_TR_covers_38 (rfl) (Or.inr ⟨Or.inr ⟨rfl, fun q => q.1.1 c4⟩, rfl⟩)
  · skip
    refine rx_iload_n C 1 rfl d_TR_covers_7 ?_
    refine rx_sipush C (nI 2000) (by decide) d_TR_covers_8 ?_
    refine rx_icmp_gt C d_TR_covers_11 (fun c11 => ?_) (fun c11 => ?_)
    · skip
      refine rx_iconst C (nI 0) (by decide) d_TR_covers_37 ?_
      exact hret _ _ _ _ none d_TR_covers_38 (rfl) (Or.inr ⟨Or.inr ⟨rfl, fun q => q.1.2.1 c11⟩, rfl⟩)
    · skip
      refine rx_iload_n C 2 rfl d_TR_covers_14 ?_
      refine rx_sipush C (-2000) (by decide) d_TR_covers_15 ?_
      refine rx_icmp_lt C d_TR_covers_18 (fun c18 => ?_) (fun c18 => ?_)
      · skip
        refine rx_iconst C (nI 0) (by decide) d_TR_covers_37 ?_
        exact hret _ _ _ _ none d_TR_covers_38 (rfl) (Or.inr ⟨Or.inr ⟨rfl, fun q => q.1.2.2.1 c18⟩, rfl⟩)
      · skip
        refine rx_iload_n C 2 rfl d_TR_covers_21 ?_
        refine rx_sipush C (nI 2000) (by decide) d_TR_covers_22 ?_
        refine rx_icmp_gt C d_TR_covers_25 (fun c25 => ?_) (fun c25 => ?_)
        · skip
          refine rx_iconst C (nI 0) (by decide) d_TR_covers_37 ?_
          exact hret _ _ _ _ none d_TR_covers_38 (rfl) (Or.inr ⟨Or.inr ⟨rfl, fun q => q.1.2.2.2 c25⟩, rfl⟩)
        · skip
          refine rx_aload_n C 0 rfl d_TR_covers_28 ?_
          refine rx_callVl C (c_TR_turn l D ta w h a xs ys od eN eR eD eB eL) cw_TR_67 ⟨rfl, rfl, by decide, by decide⟩ rfl [0, 1, 2, 3, 4, 5, 6, 7] rfl rfl (q0 := 0) rfl rfl rfl [] rfl (Nat.le_of_ble_eq_true rfl) (fun _ => rfl) d_TR_covers_29 (fun r0 u0 h0 => ?_)
          obtain ⟨rfl, h0⟩ := h0
          refine rx_ws (ws' := [(a 0, oTR w h a), (a 6, cI ta 3 (xs)), (a 7, cI ta 3 (ys)), (a 9, cQ ta a), (a 10, cI ta 3 (upd (upd (upd od 0 (nI 0)) 1 (nI (u0.1))) 2 (nI (u0.2)))), (a 11, oEd (eN 0) (-((ys u0.1 - ys 0).toInt64) * 16) ((xs u0.1 - xs 0).toInt64 * 16) (bgE (xs 0) (ys 0) (xs u0.1) (ys u0.1)) (lsE (xs 0) (ys 0) (xs u0.1) (ys u0.1))), (a 12, oEd (eN 1) (-((ys u0.2 - ys u0.1).toInt64) * 16) ((xs u0.2 - xs u0.1).toInt64 * 16) (bgE (xs u0.1) (ys u0.1) (xs u0.2) (ys u0.2)) (lsE (xs u0.1) (ys u0.1) (xs u0.2) (ys u0.2))), (a 13, oEd (eN 2) (-((ys 0 - ys u0.2).toInt64) * 16) ((xs 0 - xs u0.2).toInt64 * 16) (bgE (xs u0.2) (ys u0.2) (xs 0) (ys 0)) (lsE (xs u0.2) (ys u0.2) (xs 0) (ys 0)))]) ?_ rfl
          refine rx_lconst C 0 (by decide) d_TR_covers_32 ?_
          refine rx_lcmp_ne C d_TR_covers_33 d_TR_covers_34 (fun c33 => ?_) (fun c33 => ?_)
          · skip
            rcases h0 with ⟨hA, rfl⟩ | ⟨hA, rfl⟩
            · skip
              show G 39 [(0, .ref (a 0)), (1, .int (x)), (2, .int (y))] [] [(a 0, oTR w h a), (a 6, cI ta 3 (xs)), (a 7, cI ta 3 (ys)), (a 9, cQ ta a), (a 10, cI ta 3 (upd (upd (upd od 0 (nI 0)) 1 (nI (2))) 2 (nI (1)))), (a 11, oEd (eN 0) (-((ys 2 - ys 0).toInt64) * 16) ((xs 2 - xs 0).toInt64 * 16) (bgE (xs 0) (ys 0) (xs 2) (ys 2)) (lsE (xs 0) (ys 0) (xs 2) (ys 2))), (a 12, oEd (eN 1) (-((ys 1 - ys 2).toInt64) * 16) ((xs 1 - xs 2).toInt64 * 16) (bgE (xs 2) (ys 2) (xs 1) (ys 1)) (lsE (xs 2) (ys 2) (xs 1) (ys 1))), (a 13, oEd (eN 2) (-((ys 0 - ys 1).toInt64) * 16) ((xs 0 - xs 1).toInt64 * 16) (bgE (xs 1) (ys 1) (xs 0) (ys 0)) (lsE (xs 1) (ys 1) (xs 0) (ys 0)))]
              refine rx_aload_n C 0 rfl d_TR_covers_39 ?_
              refine rx_get C 0 9 i_TR rfl rfl (by decide) g_51 rfl rfl d_TR_covers_40 ?_
              refine rx_iconst C (nI 0) (by decide) d_TR_covers_43 ?_
              refine rx_aald C 3 rfl (by decide) (0) rfl (by decide) (b := a 11) rfl d_TR_covers_44 ?_
              refine rx_iload_n C 1 rfl d_TR_covers_45 ?_
              refine rx_iload_n C 2 rfl d_TR_covers_46 ?_
              refine rx_callVi C (c_Ed_isIn2 l D ta (a 11) (eN 0) (-((ys 2 - ys 0).toInt64) * 16) ((xs 2 - xs 0).toInt64 * 16) (bgE (xs 0) (ys 0) (xs 2) (ys 2)) (lsE (xs 0) (ys 0) (xs 2) (ys 2)) x y) cw_TR_90 ⟨rfl, rfl, by decide, by decide⟩ rfl [5] rfl rfl (q0 := 0) rfl rfl rfl [] rfl (Nat.le_of_ble_eq_true rfl) (fun _ => rfl) d_TR_covers_47 (fun r1 u1 h1 => ?_)
              refine rx_ws (ws' := [(a 0, oTR w h a), (a 6, cI ta 3 (xs)), (a 7, cI ta 3 (ys)), (a 9, cQ ta a), (a 10, cI ta 3 (upd (upd (upd od 0 (nI 0)) 1 (nI (2))) 2 (nI (1)))), (a 11, oEd (eN 0) (-((ys 2 - ys 0).toInt64) * 16) ((xs 2 - xs 0).toInt64 * 16) (bgE (xs 0) (ys 0) (xs 2) (ys 2)) (lsE (xs 0) (ys 0) (xs 2) (ys 2))), (a 12, oEd (eN 1) (-((ys 1 - ys 2).toInt64) * 16) ((xs 1 - xs 2).toInt64 * 16) (bgE (xs 2) (ys 2) (xs 1) (ys 1)) (lsE (xs 2) (ys 2) (xs 1) (ys 1))), (a 13, oEd (eN 2) (-((ys 0 - ys 1).toInt64) * 16) ((xs 0 - xs 1).toInt64 * 16) (bgE (xs 1) (ys 1) (xs 0) (ys 0)) (lsE (xs 1) (ys 1) (xs 0) (ys 0)))]) ?_ rfl
              rcases h1 with ⟨rfl, p1⟩ | ⟨rfl, p1⟩
              · skip
                show G 50 [(0, .ref (a 0)), (1, .int (x)), (2, .int (y))] [.int (nI (1))] [(a 0, oTR w h a), (a 6, cI ta 3 (xs)), (a 7, cI ta 3 (ys)), (a 9, cQ ta a), (a 10, cI ta 3 (upd (upd (upd od 0 (nI 0)) 1 (nI (2))) 2 (nI (1)))), (a 11, oEd (eN 0) (-((ys 2 - ys 0).toInt64) * 16) ((xs 2 - xs 0).toInt64 * 16) (bgE (xs 0) (ys 0) (xs 2) (ys 2)) (lsE (xs 0) (ys 0) (xs 2) (ys 2))), (a 12, oEd (eN 1) (-((ys 1 - ys 2).toInt64) * 16) ((xs 1 - xs 2).toInt64 * 16) (bgE (xs 2) (ys 2) (xs 1) (ys 1)) (lsE (xs 2) (ys 2) (xs 1) (ys 1))), (a 13, oEd (eN 2) (-((ys 0 - ys 1).toInt64) * 16) ((xs 0 - xs 1).toInt64 * 16) (bgE (xs 1) (ys 1) (xs 0) (ys 0)) (lsE (xs 1) (ys 1) (xs 0) (ys 0)))]
                refine rx_if_eqN C (by omega) d_TR_covers_50 (fun c50 => by exfalso; omega) (fun c50 => ?_)
                refine rx_aload_n C 0 rfl d_TR_covers_53 ?_
                refine rx_get C 0 9 i_TR rfl rfl (by decide) g_51 rfl rfl d_TR_covers_54 ?_
                refine rx_iconst C (nI 1) (by decide) d_TR_covers_57 ?_
                refine rx_aald C 3 rfl (by decide) (1) rfl (by decide) (b := a 12) rfl d_TR_covers_58 ?_
                refine rx_iload_n C 1 rfl d_TR_covers_59 ?_
                refine rx_iload_n C 2 rfl d_TR_covers_60 ?_
                refine rx_callVi C (c_Ed_isIn2 l D ta (a 12) (eN 1) (-((ys 1 - ys 2).toInt64) * 16) ((xs 1 - xs 2).toInt64 * 16) (bgE (xs 2) (ys 2) (xs 1) (ys 1)) (lsE (xs 2) (ys 2) (xs 1) (ys 1)) x y) cw_TR_90 ⟨rfl, rfl, by decide, by decide⟩ rfl [6] rfl rfl (q0 := 0) rfl rfl rfl [] rfl (Nat.le_of_ble_eq_true rfl) (fun _ => rfl) d_TR_covers_61 (fun r2 u2 h2 => ?_)
                refine rx_ws (ws' := [(a 0, oTR w h a), (a 6, cI ta 3 (xs)), (a 7, cI ta 3 (ys)), (a 9, cQ ta a), (a 10, cI ta 3 (upd (upd (upd od 0 (nI 0)) 1 (nI (2))) 2 (nI (1)))), (a 11, oEd (eN 0) (-((ys 2 - ys 0).toInt64) * 16) ((xs 2 - xs 0).toInt64 * 16) (bgE (xs 0) (ys 0) (xs 2) (ys 2)) (lsE (xs 0) (ys 0) (xs 2) (ys 2))), (a 12, oEd (eN 1) (-((ys 1 - ys 2).toInt64) * 16) ((xs 1 - xs 2).toInt64 * 16) (bgE (xs 2) (ys 2) (xs 1) (ys 1)) (lsE (xs 2) (ys 2) (xs 1) (ys 1))), (a 13, oEd (eN 2) (-((ys 0 - ys 1).toInt64) * 16) ((xs 0 - xs 1).toInt64 * 16) (bgE (xs 1) (ys 1) (xs 0) (ys 0)) (lsE (xs 1) (ys 1) (xs 0) (ys 0)))]) ?_ rfl
                rcases h2 with ⟨rfl, p2⟩ | ⟨rfl, p2⟩
                · skip
                  show G 64 [(0, .ref (a 0)), (1, .int (x)), (2, .int (y))] [.int (nI (1))] [(a 0, oTR w h a), (a 6, cI ta 3 (xs)), (a 7, cI ta 3 (ys)), (a 9, cQ ta a), (a 10, cI ta 3 (upd (upd (upd od 0 (nI 0)) 1 (nI (2))) 2 (nI (1)))), (a 11, oEd (eN 0) (-((ys 2 - ys 0).toInt64) * 16) ((xs 2 - xs 0).toInt64 * 16) (bgE (xs 0) (ys 0) (xs 2) (ys 2)) (lsE (xs 0) (ys 0) (xs 2) (ys 2))), (a 12, oEd (eN 1) (-((ys 1 - ys 2).toInt64) * 16) ((xs 1 - xs 2).toInt64 * 16) (bgE (xs 2) (ys 2) (xs 1) (ys 1)) (lsE (xs 2) (ys 2) (xs 1) (ys 1))), (a 13, oEd (eN 2) (-((ys 0 - ys 1).toInt64) * 16) ((xs 0 - xs 1).toInt64 * 16) (bgE (xs 1) (ys 1) (xs 0) (ys 0)) (lsE (xs 1) (ys 1) (xs 0) (ys 0)))]
                  refine rx_if_eqN C (by omega) d_TR_covers_64 (fun c64 => by exfalso; omega) (fun c64 => ?_)
                  refine rx_aload_n C 0 rfl d_TR_covers_67 ?_
                  refine rx_get C 0 9 i_TR rfl rfl (by decide) g_51 rfl rfl d_TR_covers_68 ?_
                  refine rx_iconst C (nI 2) (by decide) d_TR_covers_71 ?_
                  refine rx_aald C 3 rfl (by decide) (2) rfl (by decide) (b := a 13) rfl d_TR_covers_72 ?_
                  refine rx_iload_n C 1 rfl d_TR_covers_73 ?_
                  refine rx_iload_n C 2 rfl d_TR_covers_74 ?_
                  refine rx_callVi C (c_Ed_isIn2 l D ta (a 13) (eN 2) (-((ys 0 - ys 1).toInt64) * 16) ((xs 0 - xs 1).toInt64 * 16) (bgE (xs 1) (ys 1) (xs 0) (ys 0)) (lsE (xs 1) (ys 1) (xs 0) (ys 0)) x y) cw_TR_90 ⟨rfl, rfl, by decide, by decide⟩ rfl [7] rfl rfl (q0 := 0) rfl rfl rfl [] rfl (Nat.le_of_ble_eq_true rfl) (fun _ => rfl) d_TR_covers_75 (fun r3 u3 h3 => ?_)
                  refine rx_ws (ws' := [(a 0, oTR w h a), (a 6, cI ta 3 (xs)), (a 7, cI ta 3 (ys)), (a 9, cQ ta a), (a 10, cI ta 3 (upd (upd (upd od 0 (nI 0)) 1 (nI (2))) 2 (nI (1)))), (a 11, oEd (eN 0) (-((ys 2 - ys 0).toInt64) * 16) ((xs 2 - xs 0).toInt64 * 16) (bgE (xs 0) (ys 0) (xs 2) (ys 2)) (lsE (xs 0) (ys 0) (xs 2) (ys 2))), (a 12, oEd (eN 1) (-((ys 1 - ys 2).toInt64) * 16) ((xs 1 - xs 2).toInt64 * 16) (bgE (xs 2) (ys 2) (xs 1) (ys 1)) (lsE (xs 2) (ys 2) (xs 1) (ys 1))), (a 13, oEd (eN 2) (-((ys 0 - ys 1).toInt64) * 16) ((xs 0 - xs 1).toInt64 * 16) (bgE (xs 1) (ys 1) (xs 0) (ys 0)) (lsE (xs 1) (ys 1) (xs 0) (ys 0)))]) ?_ rfl
                  rcases h3 with ⟨rfl, p3⟩ | ⟨rfl, p3⟩
                  · skip
                    show G 78 [(0, .ref (a 0)), (1, .int (x)), (2, .int (y))] [.int (nI (1))] [(a 0, oTR w h a), (a 6, cI ta 3 (xs)), (a 7, cI ta 3 (ys)), (a 9, cQ ta a), (a 10, cI ta 3 (upd (upd (upd od 0 (nI 0)) 1 (nI (2))) 2 (nI (1)))), (a 11, oEd (eN 0) (-((ys 2 - ys 0).toInt64) * 16) ((xs 2 - xs 0).toInt64 * 16) (bgE (xs 0) (ys 0) (xs 2) (ys 2)) (lsE (xs 0) (ys 0) (xs 2) (ys 2))), (a 12, oEd (eN 1) (-((ys 1 - ys 2).toInt64) * 16) ((xs 1 - xs 2).toInt64 * 16) (bgE (xs 2) (ys 2) (xs 1) (ys 1)) (lsE (xs 2) (ys 2) (xs 1) (ys 1))), (a 13, oEd (eN 2) (-((ys 0 - ys 1).toInt64) * 16) ((xs 0 - xs 1).toInt64 * 16) (bgE (xs 1) (ys 1) (xs 0) (ys 0)) (lsE (xs 1) (ys 1) (xs 0) (ys 0)))]
                    refine rx_if_eqN C (by omega) d_TR_covers_78 (fun c78 => by exfalso; omega) (fun c78 => ?_)
                    refine rx_iconst C (nI 1) (by decide) d_TR_covers_81 ?_
                    refine rx_goto C d_TR_covers_82 ?_
                    exact hret _ _ _ _ (some (2, 1)) d_TR_covers_86 (rfl) (Or.inl ⟨(2, 1), rfl, Or.inl ⟨hA, rfl⟩, Or.inl ⟨rfl, ⟨c4, c11, c18, c25⟩, c33, Or.inl ⟨hA, p1, p2, p3⟩⟩⟩)
                  · skip
                    show G 78 [(0, .ref (a 0)), (1, .int (x)), (2, .int (y))] [.int (nI (0))] [(a 0, oTR w h a), (a 6, cI ta 3 (xs)), (a 7, cI ta 3 (ys)), (a 9, cQ ta a), (a 10, cI ta 3 (upd (upd (upd od 0 (nI 0)) 1 (nI (2))) 2 (nI (1)))), (a 11, oEd (eN 0) (-((ys 2 - ys 0).toInt64) * 16) ((xs 2 - xs 0).toInt64 * 16) (bgE (xs 0) (ys 0) (xs 2) (ys 2)) (lsE (xs 0) (ys 0) (xs 2) (ys 2))), (a 12, oEd (eN 1) (-((ys 1 - ys 2).toInt64) * 16) ((xs 1 - xs 2).toInt64 * 16) (bgE (xs 2) (ys 2) (xs 1) (ys 1)) (lsE (xs 2) (ys 2) (xs 1) (ys 1))), (a 13, oEd (eN 2) (-((ys 0 - ys 1).toInt64) * 16) ((xs 0 - xs 1).toInt64 * 16) (bgE (xs 1) (ys 1) (xs 0) (ys 0)) (lsE (xs 1) (ys 1) (xs 0) (ys 0)))]
                    refine rx_if_eqN C (by omega) d_TR_covers_78 (fun c78 => ?_) (fun c78 => by exfalso; omega)
                    refine rx_iconst C (nI 0) (by decide) d_TR_covers_85 ?_
                    exact hret _ _ _ _ (some (2, 1)) d_TR_covers_86 (rfl) (Or.inl ⟨(2, 1), rfl, Or.inl ⟨hA, rfl⟩, Or.inr ⟨rfl, fun q => q.2.2.elim (fun q => p3 q.2.2.2) (fun q => q.1 hA)⟩⟩)
                · skip
                  show G 64 [(0, .ref (a 0)), (1, .int (x)), (2, .int (y))] [.int (nI (0))] [(a 0, oTR w h a), (a 6, cI ta 3 (xs)), (a 7, cI ta 3 (ys)), (a 9, cQ ta a), (a 10, cI ta 3 (upd (upd (upd od 0 (nI 0)) 1 (nI (2))) 2 (nI (1)))), (a 11, oEd (eN 0) (-((ys 2 - ys 0).toInt64) * 16) ((xs 2 - xs 0).toInt64 * 16) (bgE (xs 0) (ys 0) (xs 2) (ys 2)) (lsE (xs 0) (ys 0) (xs 2) (ys 2))), (a 12, oEd (eN 1) (-((ys 1 - ys 2).toInt64) * 16) ((xs 1 - xs 2).toInt64 * 16) (bgE (xs 2) (ys 2) (xs 1) (ys 1)) (lsE (xs 2) (ys 2) (xs 1) (ys 1))), (a 13, oEd (eN 2) (-((ys 0 - ys 1).toInt64) * 16) ((xs 0 - xs 1).toInt64 * 16) (bgE (xs 1) (ys 1) (xs 0) (ys 0)) (lsE (xs 1) (ys 1) (xs 0) (ys 0)))]
                  refine rx_if_eqN C (by omega) d_TR_covers_64 (fun c64 => ?_) (fun c64 => by exfalso; omega)
                  refine rx_iconst C (nI 0) (by decide) d_TR_covers_85 ?_
                  exact hret _ _ _ _ (some (2, 1)) d_TR_covers_86 (rfl) (Or.inl ⟨(2, 1), rfl, Or.inl ⟨hA, rfl⟩, Or.inr ⟨rfl, fun q => q.2.2.elim (fun q => p2 q.2.2.1) (fun q => q.1 hA)⟩⟩)
              · skip
                show G 50 [(0, .ref (a 0)), (1, .int (x)), (2, .int (y))] [.int (nI (0))] [(a 0, oTR w h a), (a 6, cI ta 3 (xs)), (a 7, cI ta 3 (ys)), (a 9, cQ ta a), (a 10, cI ta 3 (upd (upd (upd od 0 (nI 0)) 1 (nI (2))) 2 (nI (1)))), (a 11, oEd (eN 0) (-((ys 2 - ys 0).toInt64) * 16) ((xs 2 - xs 0).toInt64 * 16) (bgE (xs 0) (ys 0) (xs 2) (ys 2)) (lsE (xs 0) (ys 0) (xs 2) (ys 2))), (a 12, oEd (eN 1) (-((ys 1 - ys 2).toInt64) * 16) ((xs 1 - xs 2).toInt64 * 16) (bgE (xs 2) (ys 2) (xs 1) (ys 1)) (lsE (xs 2) (ys 2) (xs 1) (ys 1))), (a 13, oEd (eN 2) (-((ys 0 - ys 1).toInt64) * 16) ((xs 0 - xs 1).toInt64 * 16) (bgE (xs 1) (ys 1) (xs 0) (ys 0)) (lsE (xs 1) (ys 1) (xs 0) (ys 0)))]
                refine rx_if_eqN C (by omega) d_TR_covers_50 (fun c50 => ?_) (fun c50 => by exfalso; omega)
                refine rx_iconst C (nI 0) (by decide) d_TR_covers_85 ?_
                exact hret _ _ _ _ (some (2, 1)) d_TR_covers_86 (rfl) (Or.inl ⟨(2, 1), rfl, Or.inl ⟨hA, rfl⟩, Or.inr ⟨rfl, fun q => q.2.2.elim (fun q => p1 q.2.1) (fun q => q.1 hA)⟩⟩)
            · skip
              show G 39 [(0, .ref (a 0)), (1, .int (x)), (2, .int (y))] [] [(a 0, oTR w h a), (a 6, cI ta 3 (xs)), (a 7, cI ta 3 (ys)), (a 9, cQ ta a), (a 10, cI ta 3 (upd (upd (upd od 0 (nI 0)) 1 (nI (1))) 2 (nI (2)))), (a 11, oEd (eN 0) (-((ys 1 - ys 0).toInt64) * 16) ((xs 1 - xs 0).toInt64 * 16) (bgE (xs 0) (ys 0) (xs 1) (ys 1)) (lsE (xs 0) (ys 0) (xs 1) (ys 1))), (a 12, oEd (eN 1) (-((ys 2 - ys 1).toInt64) * 16) ((xs 2 - xs 1).toInt64 * 16) (bgE (xs 1) (ys 1) (xs 2) (ys 2)) (lsE (xs 1) (ys 1) (xs 2) (ys 2))), (a 13, oEd (eN 2) (-((ys 0 - ys 2).toInt64) * 16) ((xs 0 - xs 2).toInt64 * 16) (bgE (xs 2) (ys 2) (xs 0) (ys 0)) (lsE (xs 2) (ys 2) (xs 0) (ys 0)))]
              refine rx_aload_n C 0 rfl d_TR_covers_39 ?_
              refine rx_get C 0 9 i_TR rfl rfl (by decide) g_51 rfl rfl d_TR_covers_40 ?_
              refine rx_iconst C (nI 0) (by decide) d_TR_covers_43 ?_
              refine rx_aald C 3 rfl (by decide) (0) rfl (by decide) (b := a 11) rfl d_TR_covers_44 ?_
              refine rx_iload_n C 1 rfl d_TR_covers_45 ?_
              refine rx_iload_n C 2 rfl d_TR_covers_46 ?_
              refine rx_callVi C (c_Ed_isIn2 l D ta (a 11) (eN 0) (-((ys 1 - ys 0).toInt64) * 16) ((xs 1 - xs 0).toInt64 * 16) (bgE (xs 0) (ys 0) (xs 1) (ys 1)) (lsE (xs 0) (ys 0) (xs 1) (ys 1)) x y) cw_TR_90 ⟨rfl, rfl, by decide, by decide⟩ rfl [5] rfl rfl (q0 := 0) rfl rfl rfl [] rfl (Nat.le_of_ble_eq_true rfl) (fun _ => rfl) d_TR_covers_47 (fun r1 u1 h1 => ?_)
              refine rx_ws (ws' := [(a 0, oTR w h a), (a 6, cI ta 3 (xs)), (a 7, cI ta 3 (ys)), (a 9, cQ ta a), (a 10, cI ta 3 (upd (upd (upd od 0 (nI 0)) 1 (nI (1))) 2 (nI (2)))), (a 11, oEd (eN 0) (-((ys 1 - ys 0).toInt64) * 16) ((xs 1 - xs 0).toInt64 * 16) (bgE (xs 0) (ys 0) (xs 1) (ys 1)) (lsE (xs 0) (ys 0) (xs 1) (ys 1))), (a 12, oEd (eN 1) (-((ys 2 - ys 1).toInt64) * 16) ((xs 2 - xs 1).toInt64 * 16) (bgE (xs 1) (ys 1) (xs 2) (ys 2)) (lsE (xs 1) (ys 1) (xs 2) (ys 2))), (a 13, oEd (eN 2) (-((ys 0 - ys 2).toInt64) * 16) ((xs 0 - xs 2).toInt64 * 16) (bgE (xs 2) (ys 2) (xs 0) (ys 0)) (lsE (xs 2) (ys 2) (xs 0) (ys 0)))]) ?_ rfl
              rcases h1 with ⟨rfl, p1⟩ | ⟨rfl, p1⟩
              · skip
                show G 50 [(0, .ref (a 0)), (1, .int (x)), (2, .int (y))] [.int (nI (1))] [(a 0, oTR w h a), (a 6, cI ta 3 (xs)), (a 7, cI ta 3 (ys)), (a 9, cQ ta a), (a 10, cI ta 3 (upd (upd (upd od 0 (nI 0)) 1 (nI (1))) 2 (nI (2)))), (a 11, oEd (eN 0) (-((ys 1 - ys 0).toInt64) * 16) ((xs 1 - xs 0).toInt64 * 16) (bgE (xs 0) (ys 0) (xs 1) (ys 1)) (lsE (xs 0) (ys 0) (xs 1) (ys 1))), (a 12, oEd (eN 1) (-((ys 2 - ys 1).toInt64) * 16) ((xs 2 - xs 1).toInt64 * 16) (bgE (xs 1) (ys 1) (xs 2) (ys 2)) (lsE (xs 1) (ys 1) (xs 2) (ys 2))), (a 13, oEd (eN 2) (-((ys 0 - ys 2).toInt64) * 16) ((xs 0 - xs 2).toInt64 * 16) (bgE (xs 2) (ys 2) (xs 0) (ys 0)) (lsE (xs 2) (ys 2) (xs 0) (ys 0)))]
                refine rx_if_eqN C (by omega) d_TR_covers_50 (fun c50 => by exfalso; omega) (fun c50 => ?_)
                refine rx_aload_n C 0 rfl d_TR_covers_53 ?_
                refine rx_get C 0 9 i_TR rfl rfl (by decide) g_51 rfl rfl d_TR_covers_54 ?_
                refine rx_iconst C (nI 1) (by decide) d_TR_covers_57 ?_
                refine rx_aald C 3 rfl (by decide) (1) rfl (by decide) (b := a 12) rfl d_TR_covers_58 ?_
                refine rx_iload_n C 1 rfl d_TR_covers_59 ?_
                refine rx_iload_n C 2 rfl d_TR_covers_60 ?_
                refine rx_callVi C (c_Ed_isIn2 l D ta (a 12) (eN 1) (-((ys 2 - ys 1).toInt64) * 16) ((xs 2 - xs 1).toInt64 * 16) (bgE (xs 1) (ys 1) (xs 2) (ys 2)) (lsE (xs 1) (ys 1) (xs 2) (ys 2)) x y) cw_TR_90 ⟨rfl, rfl, by decide, by decide⟩ rfl [6] rfl rfl (q0 := 0) rfl rfl rfl [] rfl (Nat.le_of_ble_eq_true rfl) (fun _ => rfl) d_TR_covers_61 (fun r2 u2 h2 => ?_)
                refine rx_ws (ws' := [(a 0, oTR w h a), (a 6, cI ta 3 (xs)), (a 7, cI ta 3 (ys)), (a 9, cQ ta a), (a 10, cI ta 3 (upd (upd (upd od 0 (nI 0)) 1 (nI (1))) 2 (nI (2)))), (a 11, oEd (eN 0) (-((ys 1 - ys 0).toInt64) * 16) ((xs 1 - xs 0).toInt64 * 16) (bgE (xs 0) (ys 0) (xs 1) (ys 1)) (lsE (xs 0) (ys 0) (xs 1) (ys 1))), (a 12, oEd (eN 1) (-((ys 2 - ys 1).toInt64) * 16) ((xs 2 - xs 1).toInt64 * 16) (bgE (xs 1) (ys 1) (xs 2) (ys 2)) (lsE (xs 1) (ys 1) (xs 2) (ys 2))), (a 13, oEd (eN 2) (-((ys 0 - ys 2).toInt64) * 16) ((xs 0 - xs 2).toInt64 * 16) (bgE (xs 2) (ys 2) (xs 0) (ys 0)) (lsE (xs 2) (ys 2) (xs 0) (ys 0)))]) ?_ rfl
                rcases h2 with ⟨rfl, p2⟩ | ⟨rfl, p2⟩
                · skip
                  show G 64 [(0, .ref (a 0)), (1, .int (x)), (2, .int (y))] [.int (nI (1))] [(a 0, oTR w h a), (a 6, cI ta 3 (xs)), (a 7, cI ta 3 (ys)), (a 9, cQ ta a), (a 10, cI ta 3 (upd (upd (upd od 0 (nI 0)) 1 (nI (1))) 2 (nI (2)))), (a 11, oEd (eN 0) (-((ys 1 - ys 0).toInt64) * 16) ((xs 1 - xs 0).toInt64 * 16) (bgE (xs 0) (ys 0) (xs 1) (ys 1)) (lsE (xs 0) (ys 0) (xs 1) (ys 1))), (a 12, oEd (eN 1) (-((ys 2 - ys 1).toInt64) * 16) ((xs 2 - xs 1).toInt64 * 16) (bgE (xs 1) (ys 1) (xs 2) (ys 2)) (lsE (xs 1) (ys 1) (xs 2) (ys 2))), (a 13, oEd (eN 2) (-((ys 0 - ys 2).toInt64) * 16) ((xs 0 - xs 2).toInt64 * 16) (bgE (xs 2) (ys 2) (xs 0) (ys 0)) (lsE (xs 2) (ys 2) (xs 0) (ys 0)))]
                  refine rx_if_eqN C (by omega) d_TR_covers_64 (fun c64 => by exfalso; omega) (fun c64 => ?_)
                  refine rx_aload_n C 0 rfl d_TR_covers_67 ?_
                  refine rx_get C 0 9 i_TR rfl rfl (by decide) g_51 rfl rfl d_TR_covers_68 ?_
                  refine rx_iconst C (nI 2) (by decide) d_TR_covers_71 ?_
                  refine rx_aald C 3 rfl (by decide) (2) rfl (by decide) (b := a 13) rfl d_TR_covers_72 ?_
                  refine rx_iload_n C 1 rfl d_TR_covers_73 ?_
                  refine rx_iload_n C 2 rfl d_TR_covers_74 ?_
                  refine rx_callVi C (c_Ed_isIn2 l D ta (a 13) (eN 2) (-((ys 0 - ys 2).toInt64) * 16) ((xs 0 - xs 2).toInt64 * 16) (bgE (xs 2) (ys 2) (xs 0) (ys 0)) (lsE (xs 2) (ys 2) (xs 0) (ys 0)) x y) cw_TR_90 ⟨rfl, rfl, by decide, by decide⟩ rfl [7] rfl rfl (q0 := 0) rfl rfl rfl [] rfl (Nat.le_of_ble_eq_true rfl) (fun _ => rfl) d_TR_covers_75 (fun r3 u3 h3 => ?_)
                  refine rx_ws (ws' := [(a 0, oTR w h a), (a 6, cI ta 3 (xs)), (a 7, cI ta 3 (ys)), (a 9, cQ ta a), (a 10, cI ta 3 (upd (upd (upd od 0 (nI 0)) 1 (nI (1))) 2 (nI (2)))), (a 11, oEd (eN 0) (-((ys 1 - ys 0).toInt64) * 16) ((xs 1 - xs 0).toInt64 * 16) (bgE (xs 0) (ys 0) (xs 1) (ys 1)) (lsE (xs 0) (ys 0) (xs 1) (ys 1))), (a 12, oEd (eN 1) (-((ys 2 - ys 1).toInt64) * 16) ((xs 2 - xs 1).toInt64 * 16) (bgE (xs 1) (ys 1) (xs 2) (ys 2)) (lsE (xs 1) (ys 1) (xs 2) (ys 2))), (a 13, oEd (eN 2) (-((ys 0 - ys 2).toInt64) * 16) ((xs 0 - xs 2).toInt64 * 16) (bgE (xs 2) (ys 2) (xs 0) (ys 0)) (lsE (xs 2) (ys 2) (xs 0) (ys 0)))]) ?_ rfl
                  rcases h3 with ⟨rfl, p3⟩ | ⟨rfl, p3⟩
                  · skip
                    show G 78 [(0, .ref (a 0)), (1, .int (x)), (2, .int (y))] [.int (nI (1))] [(a 0, oTR w h a), (a 6, cI ta 3 (xs)), (a 7, cI ta 3 (ys)), (a 9, cQ ta a), (a 10, cI ta 3 (upd (upd (upd od 0 (nI 0)) 1 (nI (1))) 2 (nI (2)))), (a 11, oEd (eN 0) (-((ys 1 - ys 0).toInt64) * 16) ((xs 1 - xs 0).toInt64 * 16) (bgE (xs 0) (ys 0) (xs 1) (ys 1)) (lsE (xs 0) (ys 0) (xs 1) (ys 1))), (a 12, oEd (eN 1) (-((ys 2 - ys 1).toInt64) * 16) ((xs 2 - xs 1).toInt64 * 16) (bgE (xs 1) (ys 1) (xs 2) (ys 2)) (lsE (xs 1) (ys 1) (xs 2) (ys 2))), (a 13, oEd (eN 2) (-((ys 0 - ys 2).toInt64) * 16) ((xs 0 - xs 2).toInt64 * 16) (bgE (xs 2) (ys 2) (xs 0) (ys 0)) (lsE (xs 2) (ys 2) (xs 0) (ys 0)))]
                    refine rx_if_eqN C (by omega) d_TR_covers_78 (fun c78 => by exfalso; omega) (fun c78 => ?_)
                    refine rx_iconst C (nI 1) (by decide) d_TR_covers_81 ?_
                    refine rx_goto C d_TR_covers_82 ?_
                    exact hret _ _ _ _ (some (1, 2)) d_TR_covers_86 (rfl) (Or.inl ⟨(1, 2), rfl, Or.inr ⟨hA, rfl⟩, Or.inl ⟨rfl, ⟨c4, c11, c18, c25⟩, c33, Or.inr ⟨hA, p1, p2, p3⟩⟩⟩)
                  · skip
                    show G 78 [(0, .ref (a 0)), (1, .int (x)), (2, .int (y))] [.int (nI (0))] [(a 0, oTR w h a), (a 6, cI ta 3 (xs)), (a 7, cI ta 3 (ys)), (a 9, cQ ta a), (a 10, cI ta 3 (upd (upd (upd od 0 (nI 0)) 1 (nI (1))) 2 (nI (2)))), (a 11, oEd (eN 0) (-((ys 1 - ys 0).toInt64) * 16) ((xs 1 - xs 0).toInt64 * 16) (bgE (xs 0) (ys 0) (xs 1) (ys 1)) (lsE (xs 0) (ys 0) (xs 1) (ys 1))), (a 12, oEd (eN 1) (-((ys 2 - ys 1).toInt64) * 16) ((xs 2 - xs 1).toInt64 * 16) (bgE (xs 1) (ys 1) (xs 2) (ys 2)) (lsE (xs 1) (ys 1) (xs 2) (ys 2))), (a 13, oEd (eN 2) (-((ys 0 - ys 2).toInt64) * 16) ((xs 0 - xs 2).toInt64 * 16) (bgE (xs 2) (ys 2) (xs 0) (ys 0)) (lsE (xs 2) (ys 2) (xs 0) (ys 0)))]
                    refine rx_if_eqN C (by omega) d_TR_covers_78 (fun c78 => ?_) (fun c78 => by exfalso; omega)
                    refine rx_iconst C (nI 0) (by decide) d_TR_covers_85 ?_
                    exact hret _ _ _ _ (some (1, 2)) d_TR_covers_86 (rfl) (Or.inl ⟨(1, 2), rfl, Or.inr ⟨hA, rfl⟩, Or.inr ⟨rfl, fun q => q.2.2.elim (fun q => hA q.1) (fun q => p3 q.2.2.2)⟩⟩)
                · skip
                  show G 64 [(0, .ref (a 0)), (1, .int (x)), (2, .int (y))] [.int (nI (0))] [(a 0, oTR w h a), (a 6, cI ta 3 (xs)), (a 7, cI ta 3 (ys)), (a 9, cQ ta a), (a 10, cI ta 3 (upd (upd (upd od 0 (nI 0)) 1 (nI (1))) 2 (nI (2)))), (a 11, oEd (eN 0) (-((ys 1 - ys 0).toInt64) * 16) ((xs 1 - xs 0).toInt64 * 16) (bgE (xs 0) (ys 0) (xs 1) (ys 1)) (lsE (xs 0) (ys 0) (xs 1) (ys 1))), (a 12, oEd (eN 1) (-((ys 2 - ys 1).toInt64) * 16) ((xs 2 - xs 1).toInt64 * 16) (bgE (xs 1) (ys 1) (xs 2) (ys 2)) (lsE (xs 1) (ys 1) (xs 2) (ys 2))), (a 13, oEd (eN 2) (-((ys 0 - ys 2).toInt64) * 16) ((xs 0 - xs 2).toInt64 * 16) (bgE (xs 2) (ys 2) (xs 0) (ys 0)) (lsE (xs 2) (ys 2) (xs 0) (ys 0)))]
                  refine rx_if_eqN C (by omega) d_TR_covers_64 (fun c64 => ?_) (fun c64 => by exfalso; omega)
                  refine rx_iconst C (nI 0) (by decide) d_TR_covers_85 ?_
                  exact hret _ _ _ _ (some (1, 2)) d_TR_covers_86 (rfl) (Or.inl ⟨(1, 2), rfl, Or.inr ⟨hA, rfl⟩, Or.inr ⟨rfl, fun q => q.2.2.elim (fun q => hA q.1) (fun q => p2 q.2.2.1)⟩⟩)
              · skip
                show G 50 [(0, .ref (a 0)), (1, .int (x)), (2, .int (y))] [.int (nI (0))] [(a 0, oTR w h a), (a 6, cI ta 3 (xs)), (a 7, cI ta 3 (ys)), (a 9, cQ ta a), (a 10, cI ta 3 (upd (upd (upd od 0 (nI 0)) 1 (nI (1))) 2 (nI (2)))), (a 11, oEd (eN 0) (-((ys 1 - ys 0).toInt64) * 16) ((xs 1 - xs 0).toInt64 * 16) (bgE (xs 0) (ys 0) (xs 1) (ys 1)) (lsE (xs 0) (ys 0) (xs 1) (ys 1))), (a 12, oEd (eN 1) (-((ys 2 - ys 1).toInt64) * 16) ((xs 2 - xs 1).toInt64 * 16) (bgE (xs 1) (ys 1) (xs 2) (ys 2)) (lsE (xs 1) (ys 1) (xs 2) (ys 2))), (a 13, oEd (eN 2) (-((ys 0 - ys 2).toInt64) * 16) ((xs 0 - xs 2).toInt64 * 16) (bgE (xs 2) (ys 2) (xs 0) (ys 0)) (lsE (xs 2) (ys 2) (xs 0) (ys 0)))]
                refine rx_if_eqN C (by omega) d_TR_covers_50 (fun c50 => ?_) (fun c50 => by exfalso; omega)
                refine rx_iconst C (nI 0) (by decide) d_TR_covers_85 ?_
                exact hret _ _ _ _ (some (1, 2)) d_TR_covers_86 (rfl) (Or.inl ⟨(1, 2), rfl, Or.inr ⟨hA, rfl⟩, Or.inr ⟨rfl, fun q => q.2.2.elim (fun q => hA q.1) (fun q => p1 q.2.1)⟩⟩)
          · skip
            refine rx_iconst C (nI 0) (by decide) d_TR_covers_37 ?_
            exact hret _ _ _ _ (some u0) d_TR_covers_38 (rfl) (Or.inl ⟨u0, rfl, h0, Or.inr ⟨rfl, fun q => q.2.1 c33⟩⟩)
set_option maxHeartbeats 4000000 in
set_option maxRecDepth 100000 in
theorem c_TR_write (l : Launch) (D : va_G) (ta : Nat → ClassId) (w h : Nat) (a : Nat → Nat) (col dep zs od : Nat → Int32) (n0 r0 d0 b0 n1 r1 d1 b1 n2 r2 d2 b2 : Int64) (l0 l1 l2 : Int32) (k : Nat) (ar : Int64) (v : Int32) (o0 o1 o2 : Nat) (hk : k < 576) (har : ¬ ar = 0) (h0 : od 0 = nI o0) (h1 : od 1 = nI o1) (h2 : od 2 = nI o2) (q0 : o0 < 3) (q1 : o1 < 3) (q2 : o2 < 3) : Cti l y_TR_write b_TR_write 9 .boolean rm_TR_write D ta [.ref (a 0), .int (nI (k)), .long (ar), .int (v)] [(a 0, oTR w h a), (a 2, cI ta 576 (col)), (a 3, cC ta 576 (dep)), (a 8, cI ta 3 (zs)), (a 9, cQ ta a), (a 10, cI ta 3 (od)), (a 11, oEd (n0) (r0) (d0) (b0) (l0)), (a 12, oEd (n1) (r1) (d1) (b1) (l1)), (a 13, oEd (n2) (r2) (d2) (b2) (l2))] (fun u : (Nat → Int32) × (Nat → Int32) => [(a 0, oTR w h a), (a 2, cI ta 576 (u.1)), (a 3, cC ta 576 (u.2)), (a 8, cI ta 3 (zs)), (a 9, cQ ta a), (a 10, cI ta 3 (od)), (a 11, oEd (n0) (r0) (d0) (b0) (l0)), (a 12, oEd (n1) (r1) (d1) (b1) (l1)), (a 13, oEd (n2) (r2) (d2) (b2) (l2))]) (fun r u => ((n1 * (zs o0).toInt64 + n2 * (zs o1).toInt64 + n0 * (zs o2).toInt64) / ar < (dep k).toInt64 ∧ r = nI 1 ∧ u = (upd col k v, upd dep k (chr ((n1 * (zs o0).toInt64 + n2 * (zs o1).toInt64 + n0 * (zs o2).toInt64) / ar)))) ∨ (¬ (n1 * (zs o0).toInt64 + n2 * (zs o1).toInt64 + n0 * (zs o2).toInt64) / ar < (dep k).toInt64 ∧ r = nI 0 ∧ u = (col, dep))) := by
  refine start_i rfl (Nat.le_of_ble_eq_true rfl) (fun G C hret => ?_)
  show G 0 [(0, .ref (a 0)), (1, .int (nI (k))), (2, .long (ar)), (4, .int (v))] [] [(a 0, oTR w h a), (a 2, cI ta 576 (col)), (a 3, cC ta 576 (dep)), (a 8, cI ta 3 (zs)), (a 9, cQ ta a), (a 10, cI ta 3 (od)), (a 11, oEd (n0) (r0) (d0) (b0) (l0)), (a 12, oEd (n1) (r1) (d1) (b1) (l1)), (a 13, oEd (n2) (r2) (d2) (b2) (l2))]
  refine rx_aload_n C 0 rfl d_TR_write_0 ?_
  refine rx_get C 0 9 i_TR rfl rfl (by decide) g_51 rfl rfl d_TR_write_1 ?_
  refine rx_iconst C (nI 1) (by decide) d_TR_write_4 ?_
  refine rx_aald C 4 rfl (by decide) (1) rfl (by decide) (b := a 12) rfl d_TR_write_5 ?_
  refine rx_get C 7 0 i_Ed rfl rfl (by decide) g_22 rfl rfl d_TR_write_6 ?_
  refine rx_aload_n C 0 rfl d_TR_write_9 ?_
  refine rx_get C 0 8 i_TR rfl rfl (by decide) g_50 rfl rfl d_TR_write_10 ?_
  refine rx_aload_n C 0 rfl d_TR_write_13 ?_
  refine rx_get C 0 10 i_TR rfl rfl (by decide) g_52 rfl rfl d_TR_write_14 ?_
  refine rx_iconst C (nI 0) (by decide) d_TR_write_17 ?_
  refine rx_iald C 5 rfl (by decide) (0) (rfl) (by omega) d_TR_write_18 ?_
  refine rx_top (nI (o0)) (h0) ?_
  refine rx_iald C 3 rfl (by decide) (o0) (rfl) (by omega) d_TR_write_19 ?_
  refine rx_i2l C d_TR_write_20 ?_
  refine rx_lmul C d_TR_write_21 ?_
  refine rx_aload_n C 0 rfl d_TR_write_22 ?_
  refine rx_get C 0 9 i_TR rfl rfl (by decide) g_51 rfl rfl d_TR_write_23 ?_
  refine rx_iconst C (nI 2) (by decide) d_TR_write_26 ?_
  refine rx_aald C 4 rfl (by decide) (2) rfl (by decide) (b := a 13) rfl d_TR_write_27 ?_
  refine rx_get C 8 0 i_Ed rfl rfl (by decide) g_22 rfl rfl d_TR_write_28 ?_
  refine rx_aload_n C 0 rfl d_TR_write_31 ?_
  refine rx_get C 0 8 i_TR rfl rfl (by decide) g_50 rfl rfl d_TR_write_32 ?_
  refine rx_aload_n C 0 rfl d_TR_write_35 ?_
  refine rx_get C 0 10 i_TR rfl rfl (by decide) g_52 rfl rfl d_TR_write_36 ?_
  refine rx_iconst C (nI 1) (by decide) d_TR_write_39 ?_
  refine rx_iald C 5 rfl (by decide) (1) (rfl) (by omega) d_TR_write_40 ?_
  refine rx_top (nI (o1)) (h1) ?_
  refine rx_iald C 3 rfl (by decide) (o1) (rfl) (by omega) d_TR_write_41 ?_
  refine rx_i2l C d_TR_write_42 ?_
  refine rx_lmul C d_TR_write_43 ?_
  refine rx_ladd C d_TR_write_44 ?_
  refine rx_aload_n C 0 rfl d_TR_write_45 ?_
  refine rx_get C 0 9 i_TR rfl rfl (by decide) g_51 rfl rfl d_TR_write_46 ?_
  refine rx_iconst C (nI 0) (by decide) d_TR_write_49 ?_
  refine rx_aald C 4 rfl (by decide) (0) rfl (by decide) (b := a 11) rfl d_TR_write_50 ?_
  refine rx_get C 6 0 i_Ed rfl rfl (by decide) g_22 rfl rfl d_TR_write_51 ?_
  refine rx_aload_n C 0 rfl d_TR_write_54 ?_
  refine rx_get C 0 8 i_TR rfl rfl (by decide) g_50 rfl rfl d_TR_write_55 ?_
  refine rx_aload_n C 0 rfl d_TR_write_58 ?_
  refine rx_get C 0 10 i_TR rfl rfl (by decide) g_52 rfl rfl d_TR_write_59 ?_
  refine rx_iconst C (nI 2) (by decide) d_TR_write_62 ?_
  refine rx_iald C 5 rfl (by decide) (2) (rfl) (by omega) d_TR_write_63 ?_
  refine rx_top (nI (o2)) (h2) ?_
  refine rx_iald C 3 rfl (by decide) (o2) (rfl) (by omega) d_TR_write_64 ?_
  refine rx_i2l C d_TR_write_65 ?_
  refine rx_lmul C d_TR_write_66 ?_
  refine rx_ladd C d_TR_write_67 ?_
  refine rx_lstore C (Nat.le_of_ble_eq_true rfl) [1, 2, 3, 4, 0] (lv' := [(0, .ref (a 0)), (1, .int (nI (k))), (2, .long (ar)), (4, .int (v)), (5, .long (((n1 * ((zs o0).toInt64)) + (n2 * ((zs o1).toInt64))) + (n0 * ((zs o2).toInt64))))]) rfl d_TR_write_68 ?_
  refine rx_lload C 4 rfl d_TR_write_70 ?_
  refine rx_lload_n C 2 rfl d_TR_write_72 ?_
  refine rx_ldiv C (har) d_TR_write_73 ?_
  refine rx_lstore C (Nat.le_of_ble_eq_true rfl) [1, 2, 3, 4, 5, 0] (lv' := [(0, .ref (a 0)), (1, .int (nI (k))), (2, .long (ar)), (4, .int (v)), (5, .long (((n1 * ((zs o0).toInt64)) + (n2 * ((zs o1).toInt64))) + (n0 * ((zs o2).toInt64)))), (7, .long ((((n1 * ((zs o0).toInt64)) + (n2 * ((zs o1).toInt64))) + (n0 * ((zs o2).toInt64))) / ar))]) rfl d_TR_write_74 ?_
  refine rx_lload C 5 rfl d_TR_write_76 ?_
  refine rx_aload_n C 0 rfl d_TR_write_78 ?_
  refine rx_get C 0 3 i_TR rfl rfl (by decide) g_45 rfl rfl d_TR_write_79 ?_
  refine rx_iload_n C 1 rfl d_TR_write_82 ?_
  refine rx_cald C 2 rfl (by decide) (k) (rfl) (by omega) d_TR_write_83 ?_
  refine rx_i2l C d_TR_write_84 ?_
  refine rx_lcmp_lt C d_TR_write_85 d_TR_write_86 (fun c85 => ?_) (fun c85 => ?_)
  · skip
    refine rx_aload_n C 0 rfl d_TR_write_91 ?_
    refine rx_get C 0 2 i_TR rfl rfl (by decide) g_44 rfl rfl d_TR_write_92 ?_
    refine rx_iload_n C 1 rfl d_TR_write_95 ?_
    refine rx_iload C 3 rfl d_TR_write_96 ?_
    refine rx_iast C 1 rfl (by decide) (k) (rfl) (by omega) (ws' := [(a 0, oTR w h a), (a 2, cI ta 576 (upd col k v)), (a 3, cC ta 576 (dep)), (a 8, cI ta 3 (zs)), (a 9, cQ ta a), (a 10, cI ta 3 (od)), (a 11, oEd (n0) (r0) (d0) (b0) (l0)), (a 12, oEd (n1) (r1) (d1) (b1) (l1)), (a 13, oEd (n2) (r2) (d2) (b2) (l2))]) rfl d_TR_write_98 ?_
    refine rx_aload_n C 0 rfl d_TR_write_99 ?_
    refine rx_get C 0 3 i_TR rfl rfl (by decide) g_45 rfl rfl d_TR_write_100 ?_
    refine rx_iload_n C 1 rfl d_TR_write_103 ?_
    refine rx_lload C 5 rfl d_TR_write_104 ?_
    refine rx_l2i C d_TR_write_106 ?_
    refine rx_i2c C d_TR_write_107 ?_
    refine rx_cast C 2 rfl (by decide) (pk_vc _) (k) (rfl) (by omega) (ws' := [(a 0, oTR w h a), (a 2, cI ta 576 (upd col k v)), (a 3, cC ta 576 (upd dep k (((((((n1 * ((zs o0).toInt64)) + (n2 * ((zs o1).toInt64))) + (n0 * ((zs o2).toInt64))) / ar).toInt32).toUInt32 % 65536).toInt32))), (a 8, cI ta 3 (zs)), (a 9, cQ ta a), (a 10, cI ta 3 (od)), (a 11, oEd (n0) (r0) (d0) (b0) (l0)), (a 12, oEd (n1) (r1) (d1) (b1) (l1)), (a 13, oEd (n2) (r2) (d2) (b2) (l2))]) rfl d_TR_write_108 ?_
    refine rx_iconst C (nI 1) (by decide) d_TR_write_109 ?_
    exact hret _ _ _ _ (upd col k v, upd dep k (chr ((n1 * (zs o0).toInt64 + n2 * (zs o1).toInt64 + n0 * (zs o2).toInt64) / ar))) d_TR_write_110 (rfl) (Or.inl ⟨c85, rfl, rfl⟩)
  · skip
    refine rx_iconst C (nI 0) (by decide) d_TR_write_89 ?_
    exact hret _ _ _ _ (col, dep) d_TR_write_90 (rfl) (Or.inr ⟨c85, rfl, rfl⟩)
end
section
set_option maxHeartbeats 4000000 in
set_option maxRecDepth 100000 in
theorem c_TR_triangle (l : Launch) (D : va_G) (ta : Nat → ClassId) (w h : Nat) (a : Nat → Nat) (col dep zs : Nat → Int32) (xs ys od : Nat → Int32) (eN eR eD eB : Nat → Int64) (eL : Nat → Int32) (v : Int32) (hw0 : 0 < w) (hw : w ≤ 24) (hh : h ≤ 24) : Cti l y_TR_triangle b_TR_triangle 11 .int rm_TR_triangle D ta [.ref (a 0), .int (v)] [(a 0, oTR w h a), (a 2, cI ta 576 (col)), (a 3, cC ta 576 (dep)), (a 6, cI ta 3 (xs)), (a 7, cI ta 3 (ys)), (a 8, cI ta 3 (zs)), (a 9, cQ ta a), (a 10, cI ta 3 (od)), (a 11, oEd (eN 0) (eR 0) (eD 0) (eB 0) (eL 0)), (a 12, oEd (eN 1) (eR 1) (eD 1) (eB 1) (eL 1)), (a 13, oEd (eN 2) (eR 2) (eD 2) (eB 2) (eL 2))] (fun u : (Nat → Int32) × (Nat → Int32) × (Nat × Nat) × Int64 × Int64 × Int64 => [(a 0, oTR w h a), (a 2, cI ta 576 (u.1)), (a 3, cC ta 576 (u.2.1)), (a 6, cI ta 3 (xs)), (a 7, cI ta 3 (ys)), (a 8, cI ta 3 (zs)), (a 9, cQ ta a), (a 10, cI ta 3 (upd (upd (upd od 0 (nI 0)) 1 (nI (u.2.2.1.1))) 2 (nI (u.2.2.1.2)))), (a 11, oEd (u.2.2.2.1) (-((ys u.2.2.1.1 - ys 0).toInt64) * 16) ((xs u.2.2.1.1 - xs 0).toInt64 * 16) (bgE (xs 0) (ys 0) (xs u.2.2.1.1) (ys u.2.2.1.1)) (lsE (xs 0) (ys 0) (xs u.2.2.1.1) (ys u.2.2.1.1))), (a 12, oEd (u.2.2.2.2.1) (-((ys u.2.2.1.2 - ys u.2.2.1.1).toInt64) * 16) ((xs u.2.2.1.2 - xs u.2.2.1.1).toInt64 * 16) (bgE (xs u.2.2.1.1) (ys u.2.2.1.1) (xs u.2.2.1.2) (ys u.2.2.1.2)) (lsE (xs u.2.2.1.1) (ys u.2.2.1.1) (xs u.2.2.1.2) (ys u.2.2.1.2))), (a 13, oEd (u.2.2.2.2.2) (-((ys 0 - ys u.2.2.1.2).toInt64) * 16) ((xs 0 - xs u.2.2.1.2).toInt64 * 16) (bgE (xs u.2.2.1.2) (ys u.2.2.1.2) (xs 0) (ys 0)) (lsE (xs u.2.2.1.2) (ys u.2.2.1.2) (xs 0) (ys 0)))]) (fun r u => ordP xs ys u.2.2.1 ∧ ((¬ 0 < absA xs ys ∧ r = nI 0 ∧ u.1 = col ∧ u.2.1 = dep) ∨ (0 < absA xs ys ∧ r = nI (cn (hitR xs ys zs u.2.2.1.1 u.2.2.1.2 w dep) (w * h)) ∧ pixd (hitR xs ys zs u.2.2.1.1 u.2.2.1.2 w dep) (fun _ => v) col u.1 (w * h) ∧ pixd (hitR xs ys zs u.2.2.1.1 u.2.2.1.2 w dep) (depR xs ys zs u.2.2.1.1 u.2.2.1.2 w) dep u.2.1 (w * h)))) := by
  have hwh : w * h ≤ 576 := Nat.mul_le_mul hw hh
  refine start_i rfl (Nat.le_of_ble_eq_true rfl) (fun G C hret => ?_)
  show G 0 [(0, .ref (a 0)), (1, .int (v))] [] [(a 0, oTR w h a), (a 2, cI ta 576 (col)), (a 3, cC ta 576 (dep)), (a 6, cI ta 3 (xs)), (a 7, cI ta 3 (ys)), (a 8, cI ta 3 (zs)), (a 9, cQ ta a), (a 10, cI ta 3 (od)), (a 11, oEd (eN 0) (eR 0) (eD 0) (eB 0) (eL 0)), (a 12, oEd (eN 1) (eR 1) (eD 1) (eB 1) (eL 1)), (a 13, oEd (eN 2) (eR 2) (eD 2) (eB 2) (eL 2))]
  refine rx_aload_n C 0 rfl d_TR_triangle_0 ?_
  refine rx_callVl C (c_TR_turn l D ta w h a xs ys od eN eR eD eB eL) cw_TR_67 ⟨rfl, rfl, by decide, by decide⟩ rfl [0, 3, 4, 6, 7, 8, 9, 10] rfl rfl (q0 := 0) rfl rfl rfl [] rfl (Nat.le_of_ble_eq_true rfl) (fun _ => rfl) d_TR_triangle_1 (fun r0 u0 h0 => ?_)
  obtain ⟨rfl, h0⟩ := h0
  refine rx_ws (ws' := [(a 0, oTR w h a), (a 2, cI ta 576 (col)), (a 3, cC ta 576 (dep)), (a 6, cI ta 3 (xs)), (a 7, cI ta 3 (ys)), (a 8, cI ta 3 (zs)), (a 9, cQ ta a), (a 10, cI ta 3 (upd (upd (upd od 0 (nI 0)) 1 (nI (u0.1))) 2 (nI (u0.2)))), (a 11, oEd (eN 0) (-((ys u0.1 - ys 0).toInt64) * 16) ((xs u0.1 - xs 0).toInt64 * 16) (bgE (xs 0) (ys 0) (xs u0.1) (ys u0.1)) (lsE (xs 0) (ys 0) (xs u0.1) (ys u0.1))), (a 12, oEd (eN 1) (-((ys u0.2 - ys u0.1).toInt64) * 16) ((xs u0.2 - xs u0.1).toInt64 * 16) (bgE (xs u0.1) (ys u0.1) (xs u0.2) (ys u0.2)) (lsE (xs u0.1) (ys u0.1) (xs u0.2) (ys u0.2))), (a 13, oEd (eN 2) (-((ys 0 - ys u0.2).toInt64) * 16) ((xs 0 - xs u0.2).toInt64 * 16) (bgE (xs u0.2) (ys u0.2) (xs 0) (ys 0)) (lsE (xs u0.2) (ys u0.2) (xs 0) (ys 0)))]) ?_ rfl
  obtain ⟨q1, q2⟩ := u0
  show G 4 [(0, .ref (a 0)), (1, .int (v))] [.long (absA xs ys)] [(a 0, oTR w h a), (a 2, cI ta 576 (col)), (a 3, cC ta 576 (dep)), (a 6, cI ta 3 (xs)), (a 7, cI ta 3 (ys)), (a 8, cI ta 3 (zs)), (a 9, cQ ta a), (a 10, cI ta 3 (upd (upd (upd od 0 (nI 0)) 1 (nI (q1))) 2 (nI (q2)))), (a 11, oEd (eN 0) (-((ys q1 - ys 0).toInt64) * 16) ((xs q1 - xs 0).toInt64 * 16) (bgE (xs 0) (ys 0) (xs q1) (ys q1)) (lsE (xs 0) (ys 0) (xs q1) (ys q1))), (a 12, oEd (eN 1) (-((ys q2 - ys q1).toInt64) * 16) ((xs q2 - xs q1).toInt64 * 16) (bgE (xs q1) (ys q1) (xs q2) (ys q2)) (lsE (xs q1) (ys q1) (xs q2) (ys q2))), (a 13, oEd (eN 2) (-((ys 0 - ys q2).toInt64) * 16) ((xs 0 - xs q2).toInt64 * 16) (bgE (xs q2) (ys q2) (xs 0) (ys 0)) (lsE (xs q2) (ys q2) (xs 0) (ys 0)))]
  have hq : q1 < 3 ∧ q2 < 3 := by rcases h0 with ⟨-, q⟩ | ⟨-, q⟩ <;> cases q <;> decide
  obtain ⟨hq1, hq2⟩ := hq
  refine rx_lstore_n C (Nat.le_of_ble_eq_true rfl) [1, 2, 0] (lv' := [(0, .ref (a 0)), (1, .int (v)), (2, .long (absA xs ys))]) rfl d_TR_triangle_4 ?_
  refine rx_iconst C (nI 0) (by decide) d_TR_triangle_5 ?_
  refine rx_istore C (Nat.le_of_ble_eq_true rfl) [1, 2, 3, 0] (lv' := [(0, .ref (a 0)), (1, .int (v)), (2, .long (absA xs ys)), (4, .int (nI (0)))]) rfl d_TR_triangle_6 ?_
  refine rx_iconst C (nI 0) (by decide) d_TR_triangle_8 ?_
  refine rx_istore C (Nat.le_of_ble_eq_true rfl) [1, 2, 3, 4, 0] (lv' := [(0, .ref (a 0)), (1, .int (v)), (2, .long (absA xs ys)), (4, .int (nI (0))), (5, .int (nI (0)))]) rfl d_TR_triangle_9 ?_
  by_cases hA : 0 < absA xs ys
  · skip
    have hA0 : ¬ absA xs ys = 0 := fun q => by rw [q] at hA; exact absurd hA (by decide)
    have loop : ∀ (n : Nat) (y : Nat) (col9 dep9 : Nat → Int32) (m0 m1 m2 : Int64), h - y < n → (y ≤ h) → (pixd (hitR xs ys zs q1 q2 w dep) (fun _ => v) col col9 (w * y) ∧ pixd (hitR xs ys zs q1 q2 w dep) (depR xs ys zs q1 q2 w) dep dep9 (w * y)) → G 11 [(0, .ref (a 0)), (1, .int (v)), (2, .long (absA xs ys)), (4, .int (nI (cn (hitR xs ys zs q1 q2 w dep) (w * y)))), (5, .int (nI (y)))] [] [(a 0, oTR w h a), (a 2, cI ta 576 (col9)), (a 3, cC ta 576 (dep9)), (a 6, cI ta 3 (xs)), (a 7, cI ta 3 (ys)), (a 8, cI ta 3 (zs)), (a 9, cQ ta a), (a 10, cI ta 3 (upd (upd (upd od 0 (nI 0)) 1 (nI (q1))) 2 (nI (q2)))), (a 11, oEd (m0) (-((ys q1 - ys 0).toInt64) * 16) ((xs q1 - xs 0).toInt64 * 16) (bgE (xs 0) (ys 0) (xs q1) (ys q1)) (lsE (xs 0) (ys 0) (xs q1) (ys q1))), (a 12, oEd (m1) (-((ys q2 - ys q1).toInt64) * 16) ((xs q2 - xs q1).toInt64 * 16) (bgE (xs q1) (ys q1) (xs q2) (ys q2)) (lsE (xs q1) (ys q1) (xs q2) (ys q2))), (a 13, oEd (m2) (-((ys 0 - ys q2).toInt64) * 16) ((xs 0 - xs q2).toInt64 * 16) (bgE (xs q2) (ys q2) (xs 0) (ys 0)) (lsE (xs q2) (ys q2) (xs 0) (ys 0)))] := by
      intro n
      induction n with
      | zero => intro y col9 dep9 m0 m1 m2 hm; exact absurd hm (Nat.not_lt_zero _)
      | succ n ih =>
        intro y col9 dep9 m0 m1 m2 hm hy hI
        refine rx_iload C 4 rfl d_TR_triangle_11 ?_
        refine rx_aload_n C 0 rfl d_TR_triangle_13 ?_
        refine rx_get C 0 1 i_TR rfl rfl (by decide) g_43 rfl rfl d_TR_triangle_14 ?_
        refine rx_icmp_geN C (by omega) (by omega) d_TR_triangle_17 (fun c17 => ?_) (fun c17 => ?_)
        · skip
          refine rx_iload C 3 rfl d_TR_triangle_195 ?_
          obtain rfl : y = h := by omega
          exact hret _ _ _ _ (col9, dep9, (q1, q2), m0, m1, m2) d_TR_triangle_197 (rfl) (⟨h0, Or.inr ⟨hA, rfl, hI.1, hI.2⟩⟩)
        · skip
          refine rx_lload_n C 2 rfl d_TR_triangle_20 ?_
          refine rx_lconst C 0 (by decide) d_TR_triangle_21 ?_
          refine rx_lcmp_le C d_TR_triangle_22 d_TR_triangle_23 (fun c22 => absurd hA (Int64.not_lt.mpr c22)) (fun c22 => ?_)
          refine rx_aload_n C 0 rfl d_TR_triangle_26 ?_
          refine rx_get C 0 9 i_TR rfl rfl (by decide) g_51 rfl rfl d_TR_triangle_27 ?_
          refine rx_astore C (Nat.le_of_ble_eq_true rfl) [1, 2, 3, 4, 5, 0] (lv' := [(0, .ref (a 0)), (1, .int (v)), (2, .long (absA xs ys)), (4, .int (nI (cn (hitR xs ys zs q1 q2 w dep) (w * y)))), (5, .int (nI (y))), (6, .ref (a 9))]) rfl d_TR_triangle_30 ?_
          refine rx_aload C 5 rfl d_TR_triangle_32 ?_
          refine rx_alen C (t0 := 4) 6 rfl rfl d_TR_triangle_34 ?_
          refine rx_istore C (Nat.le_of_ble_eq_true rfl) [1, 2, 3, 4, 5, 6, 0] (lv' := [(0, .ref (a 0)), (1, .int (v)), (2, .long (absA xs ys)), (4, .int (nI (cn (hitR xs ys zs q1 q2 w dep) (w * y)))), (5, .int (nI (y))), (6, .ref (a 9)), (7, .int (nI (3)))]) rfl d_TR_triangle_35 ?_
          refine rx_iconst C (nI 0) (by decide) d_TR_triangle_37 ?_
          refine rx_istore C (Nat.le_of_ble_eq_true rfl) [1, 2, 3, 4, 5, 6, 7, 0] (lv' := [(0, .ref (a 0)), (1, .int (v)), (2, .long (absA xs ys)), (4, .int (nI (cn (hitR xs ys zs q1 q2 w dep) (w * y)))), (5, .int (nI (y))), (6, .ref (a 9)), (7, .int (nI (3))), (8, .int (nI (0)))]) rfl d_TR_triangle_38 ?_
          refine rx_iload C 7 rfl d_TR_triangle_40 ?_
          refine rx_iload C 6 rfl d_TR_triangle_42 ?_
          refine rx_icmp_geN C (by omega) (by omega) d_TR_triangle_44 (fun c44 => by exfalso; omega) (fun c44 => ?_)
          refine rx_aload C 5 rfl d_TR_triangle_47 ?_
          refine rx_iload C 7 rfl d_TR_triangle_49 ?_
          refine rx_aald C 6 rfl (by decide) (0) rfl (by decide) (b := a 11) rfl d_TR_triangle_51 ?_
          refine rx_astore C (Nat.le_of_ble_eq_true rfl) [1, 2, 3, 4, 5, 6, 7, 8, 0] (lv' := [(0, .ref (a 0)), (1, .int (v)), (2, .long (absA xs ys)), (4, .int (nI (cn (hitR xs ys zs q1 q2 w dep) (w * y)))), (5, .int (nI (y))), (6, .ref (a 9)), (7, .int (nI (3))), (8, .int (nI (0))), (9, .ref (a 11))]) rfl d_TR_triangle_52 ?_
          refine rx_aload C 8 rfl d_TR_triangle_54 ?_
          refine rx_iload C 4 rfl d_TR_triangle_56 ?_
          refine rx_callVv C (c_Ed_toRow l D ta (a 11) m0 (-((ys q1 - ys 0).toInt64) * 16) ((xs q1 - xs 0).toInt64 * 16) (bgE (xs 0) (ys 0) (xs q1) (ys q1)) (lsE (xs 0) (ys 0) (xs q1) (ys q1)) (nI y)) cw_TR_71 ⟨rfl, rfl, by decide, by decide⟩ rfl [8] rfl rfl (q0 := 0) rfl rfl rfl [] rfl (Nat.le_of_ble_eq_true rfl) (fun _ => rfl) d_TR_triangle_58 (fun ut0 ht0 => ?_)
          refine rx_ws (ws' := [(a 0, oTR w h a), (a 2, cI ta 576 (col9)), (a 3, cC ta 576 (dep9)), (a 6, cI ta 3 (xs)), (a 7, cI ta 3 (ys)), (a 8, cI ta 3 (zs)), (a 9, cQ ta a), (a 10, cI ta 3 (upd (upd (upd od 0 (nI 0)) 1 (nI (q1))) 2 (nI (q2)))), (a 11, oEd (bgE (xs 0) (ys 0) (xs q1) (ys q1) + (xs q1 - xs 0).toInt64 * 16 * (nI y).toInt64) (-((ys q1 - ys 0).toInt64) * 16) ((xs q1 - xs 0).toInt64 * 16) (bgE (xs 0) (ys 0) (xs q1) (ys q1)) (lsE (xs 0) (ys 0) (xs q1) (ys q1))), (a 12, oEd (m1) (-((ys q2 - ys q1).toInt64) * 16) ((xs q2 - xs q1).toInt64 * 16) (bgE (xs q1) (ys q1) (xs q2) (ys q2)) (lsE (xs q1) (ys q1) (xs q2) (ys q2))), (a 13, oEd (m2) (-((ys 0 - ys q2).toInt64) * 16) ((xs 0 - xs q2).toInt64 * 16) (bgE (xs q2) (ys q2) (xs 0) (ys 0)) (lsE (xs q2) (ys q2) (xs 0) (ys 0)))]) ?_ rfl
          refine rx_iinc C 7 rfl (nI (1)) (by decide) (Nat.le_of_ble_eq_true rfl) [1, 2, 3, 4, 5, 6, 7, 0, 8] (lv' := [(0, .ref (a 0)), (1, .int (v)), (2, .long (absA xs ys)), (4, .int (nI (cn (hitR xs ys zs q1 q2 w dep) (w * y)))), (5, .int (nI (y))), (6, .ref (a 9)), (7, .int (nI (3))), (8, .int (nI (1))), (9, .ref (a 11))]) rfl d_TR_triangle_61 ?_
          refine rx_goto C d_TR_triangle_64 ?_
          refine rx_iload C 7 rfl d_TR_triangle_40 ?_
          refine rx_iload C 6 rfl d_TR_triangle_42 ?_
          refine rx_icmp_geN C (by omega) (by omega) d_TR_triangle_44 (fun c44 => by exfalso; omega) (fun c44 => ?_)
          refine rx_aload C 5 rfl d_TR_triangle_47 ?_
          refine rx_iload C 7 rfl d_TR_triangle_49 ?_
          refine rx_aald C 6 rfl (by decide) (1) rfl (by decide) (b := a 12) rfl d_TR_triangle_51 ?_
          refine rx_astore C (Nat.le_of_ble_eq_true rfl) [1, 2, 3, 4, 5, 6, 7, 8, 0] (lv' := [(0, .ref (a 0)), (1, .int (v)), (2, .long (absA xs ys)), (4, .int (nI (cn (hitR xs ys zs q1 q2 w dep) (w * y)))), (5, .int (nI (y))), (6, .ref (a 9)), (7, .int (nI (3))), (8, .int (nI (1))), (9, .ref (a 12))]) rfl d_TR_triangle_52 ?_
          refine rx_aload C 8 rfl d_TR_triangle_54 ?_
          refine rx_iload C 4 rfl d_TR_triangle_56 ?_
          refine rx_callVv C (c_Ed_toRow l D ta (a 12) m1 (-((ys q2 - ys q1).toInt64) * 16) ((xs q2 - xs q1).toInt64 * 16) (bgE (xs q1) (ys q1) (xs q2) (ys q2)) (lsE (xs q1) (ys q1) (xs q2) (ys q2)) (nI y)) cw_TR_71 ⟨rfl, rfl, by decide, by decide⟩ rfl [9] rfl rfl (q0 := 0) rfl rfl rfl [] rfl (Nat.le_of_ble_eq_true rfl) (fun _ => rfl) d_TR_triangle_58 (fun ut1 ht1 => ?_)
          refine rx_ws (ws' := [(a 0, oTR w h a), (a 2, cI ta 576 (col9)), (a 3, cC ta 576 (dep9)), (a 6, cI ta 3 (xs)), (a 7, cI ta 3 (ys)), (a 8, cI ta 3 (zs)), (a 9, cQ ta a), (a 10, cI ta 3 (upd (upd (upd od 0 (nI 0)) 1 (nI (q1))) 2 (nI (q2)))), (a 11, oEd (bgE (xs 0) (ys 0) (xs q1) (ys q1) + (xs q1 - xs 0).toInt64 * 16 * (nI y).toInt64) (-((ys q1 - ys 0).toInt64) * 16) ((xs q1 - xs 0).toInt64 * 16) (bgE (xs 0) (ys 0) (xs q1) (ys q1)) (lsE (xs 0) (ys 0) (xs q1) (ys q1))), (a 12, oEd (bgE (xs q1) (ys q1) (xs q2) (ys q2) + (xs q2 - xs q1).toInt64 * 16 * (nI y).toInt64) (-((ys q2 - ys q1).toInt64) * 16) ((xs q2 - xs q1).toInt64 * 16) (bgE (xs q1) (ys q1) (xs q2) (ys q2)) (lsE (xs q1) (ys q1) (xs q2) (ys q2))), (a 13, oEd (m2) (-((ys 0 - ys q2).toInt64) * 16) ((xs 0 - xs q2).toInt64 * 16) (bgE (xs q2) (ys q2) (xs 0) (ys 0)) (lsE (xs q2) (ys q2) (xs 0) (ys 0)))]) ?_ rfl
          refine rx_iinc C 7 rfl (nI (2)) (by decide) (Nat.le_of_ble_eq_true rfl) [1, 2, 3, 4, 5, 6, 7, 0, 8] (lv' := [(0, .ref (a 0)), (1, .int (v)), (2, .long (absA xs ys)), (4, .int (nI (cn (hitR xs ys zs q1 q2 w dep) (w * y)))), (5, .int (nI (y))), (6, .ref (a 9)), (7, .int (nI (3))), (8, .int (nI (2))), (9, .ref (a 12))]) rfl d_TR_triangle_61 ?_
          refine rx_goto C d_TR_triangle_64 ?_
          refine rx_iload C 7 rfl d_TR_triangle_40 ?_
          refine rx_iload C 6 rfl d_TR_triangle_42 ?_
          refine rx_icmp_geN C (by omega) (by omega) d_TR_triangle_44 (fun c44 => by exfalso; omega) (fun c44 => ?_)
          refine rx_aload C 5 rfl d_TR_triangle_47 ?_
          refine rx_iload C 7 rfl d_TR_triangle_49 ?_
          refine rx_aald C 6 rfl (by decide) (2) rfl (by decide) (b := a 13) rfl d_TR_triangle_51 ?_
          refine rx_astore C (Nat.le_of_ble_eq_true rfl) [1, 2, 3, 4, 5, 6, 7, 8, 0] (lv' := [(0, .ref (a 0)), (1, .int (v)), (2, .long (absA xs ys)), (4, .int (nI (cn (hitR xs ys zs q1 q2 w dep) (w * y)))), (5, .int (nI (y))), (6, .ref (a 9)), (7, .int (nI (3))), (8, .int (nI (2))), (9, .ref (a 13))]) rfl d_TR_triangle_52 ?_
          refine rx_aload C 8 rfl d_TR_triangle_54 ?_
          refine rx_iload C 4 rfl d_TR_triangle_56 ?_
          refine rx_callVv C (c_Ed_toRow l D ta (a 13) m2 (-((ys 0 - ys q2).toInt64) * 16) ((xs 0 - xs q2).toInt64 * 16) (bgE (xs q2) (ys q2) (xs 0) (ys 0)) (lsE (xs q2) (ys q2) (xs 0) (ys 0)) (nI y)) cw_TR_71 ⟨rfl, rfl, by decide, by decide⟩ rfl [10] rfl rfl (q0 := 0) rfl rfl rfl [] rfl (Nat.le_of_ble_eq_true rfl) (fun _ => rfl) d_TR_triangle_58 (fun ut2 ht2 => ?_)
          refine rx_ws (ws' := [(a 0, oTR w h a), (a 2, cI ta 576 (col9)), (a 3, cC ta 576 (dep9)), (a 6, cI ta 3 (xs)), (a 7, cI ta 3 (ys)), (a 8, cI ta 3 (zs)), (a 9, cQ ta a), (a 10, cI ta 3 (upd (upd (upd od 0 (nI 0)) 1 (nI (q1))) 2 (nI (q2)))), (a 11, oEd (bgE (xs 0) (ys 0) (xs q1) (ys q1) + (xs q1 - xs 0).toInt64 * 16 * (nI y).toInt64) (-((ys q1 - ys 0).toInt64) * 16) ((xs q1 - xs 0).toInt64 * 16) (bgE (xs 0) (ys 0) (xs q1) (ys q1)) (lsE (xs 0) (ys 0) (xs q1) (ys q1))), (a 12, oEd (bgE (xs q1) (ys q1) (xs q2) (ys q2) + (xs q2 - xs q1).toInt64 * 16 * (nI y).toInt64) (-((ys q2 - ys q1).toInt64) * 16) ((xs q2 - xs q1).toInt64 * 16) (bgE (xs q1) (ys q1) (xs q2) (ys q2)) (lsE (xs q1) (ys q1) (xs q2) (ys q2))), (a 13, oEd (bgE (xs q2) (ys q2) (xs 0) (ys 0) + (xs 0 - xs q2).toInt64 * 16 * (nI y).toInt64) (-((ys 0 - ys q2).toInt64) * 16) ((xs 0 - xs q2).toInt64 * 16) (bgE (xs q2) (ys q2) (xs 0) (ys 0)) (lsE (xs q2) (ys q2) (xs 0) (ys 0)))]) ?_ rfl
          refine rx_iinc C 7 rfl (nI (3)) (by decide) (Nat.le_of_ble_eq_true rfl) [1, 2, 3, 4, 5, 6, 7, 0, 8] (lv' := [(0, .ref (a 0)), (1, .int (v)), (2, .long (absA xs ys)), (4, .int (nI (cn (hitR xs ys zs q1 q2 w dep) (w * y)))), (5, .int (nI (y))), (6, .ref (a 9)), (7, .int (nI (3))), (8, .int (nI (3))), (9, .ref (a 13))]) rfl d_TR_triangle_61 ?_
          refine rx_goto C d_TR_triangle_64 ?_
          refine rx_iload C 7 rfl d_TR_triangle_40 ?_
          refine rx_iload C 6 rfl d_TR_triangle_42 ?_
          refine rx_icmp_geN C (by omega) (by omega) d_TR_triangle_44 (fun c44 => ?_) (fun c44 => by exfalso; omega)
          refine rx_iconst C (nI 0) (by decide) d_TR_triangle_67 ?_
          refine rx_istore C (Nat.le_of_ble_eq_true rfl) [1, 2, 3, 4, 5, 0, 6, 7, 8] (lv' := [(0, .ref (a 0)), (1, .int (v)), (2, .long (absA xs ys)), (4, .int (nI (cn (hitR xs ys zs q1 q2 w dep) (w * y)))), (5, .int (nI (y))), (6, .int (nI (0))), (7, .int (nI (3))), (8, .int (nI (3))), (9, .ref (a 13))]) rfl d_TR_triangle_68 ?_
          refine rx_ws (ws' := [(a 0, oTR w h a), (a 2, cI ta 576 (col9)), (a 3, cC ta 576 (dep9)), (a 6, cI ta 3 (xs)), (a 7, cI ta 3 (ys)), (a 8, cI ta 3 (zs)), (a 9, cQ ta a), (a 10, cI ta 3 (upd (upd (upd od 0 (nI 0)) 1 (nI (q1))) 2 (nI (q2)))), (a 11, oEd (nw xs ys 0 q1 0 y) (-((ys q1 - ys 0).toInt64) * 16) ((xs q1 - xs 0).toInt64 * 16) (bgE (xs 0) (ys 0) (xs q1) (ys q1)) (lsE (xs 0) (ys 0) (xs q1) (ys q1))), (a 12, oEd (nw xs ys q1 q2 0 y) (-((ys q2 - ys q1).toInt64) * 16) ((xs q2 - xs q1).toInt64 * 16) (bgE (xs q1) (ys q1) (xs q2) (ys q2)) (lsE (xs q1) (ys q1) (xs q2) (ys q2))), (a 13, oEd (nw xs ys q2 0 0 y) (-((ys 0 - ys q2).toInt64) * 16) ((xs 0 - xs q2).toInt64 * 16) (bgE (xs q2) (ys q2) (xs 0) (ys 0)) (lsE (xs q2) (ys q2) (xs 0) (ys 0)))]) ?_ (by rw [nw_0 xs ys 0 q1 (by omega), nw_0 xs ys q1 q2 (by omega), nw_0 xs ys q2 0 (by omega)])
          have loop2 : ∀ (n2 : Nat) (x : Nat) (col8 dep8 : Nat → Int32), w - x < n2 → (x ≤ w) → (pixd (hitR xs ys zs q1 q2 w dep) (fun _ => v) col col8 (w * y + x) ∧ pixd (hitR xs ys zs q1 q2 w dep) (depR xs ys zs q1 q2 w) dep dep8 (w * y + x)) → G 70 [(0, .ref (a 0)), (1, .int (v)), (2, .long (absA xs ys)), (4, .int (nI (cn (hitR xs ys zs q1 q2 w dep) (w * y + x)))), (5, .int (nI (y))), (6, .int (nI (x)))] [] [(a 0, oTR w h a), (a 2, cI ta 576 (col8)), (a 3, cC ta 576 (dep8)), (a 6, cI ta 3 (xs)), (a 7, cI ta 3 (ys)), (a 8, cI ta 3 (zs)), (a 9, cQ ta a), (a 10, cI ta 3 (upd (upd (upd od 0 (nI 0)) 1 (nI (q1))) 2 (nI (q2)))), (a 11, oEd (nw xs ys 0 q1 x y) (-((ys q1 - ys 0).toInt64) * 16) ((xs q1 - xs 0).toInt64 * 16) (bgE (xs 0) (ys 0) (xs q1) (ys q1)) (lsE (xs 0) (ys 0) (xs q1) (ys q1))), (a 12, oEd (nw xs ys q1 q2 x y) (-((ys q2 - ys q1).toInt64) * 16) ((xs q2 - xs q1).toInt64 * 16) (bgE (xs q1) (ys q1) (xs q2) (ys q2)) (lsE (xs q1) (ys q1) (xs q2) (ys q2))), (a 13, oEd (nw xs ys q2 0 x y) (-((ys 0 - ys q2).toInt64) * 16) ((xs 0 - xs q2).toInt64 * 16) (bgE (xs q2) (ys q2) (xs 0) (ys 0)) (lsE (xs q2) (ys q2) (xs 0) (ys 0)))] := by
            intro n2
            induction n2 with
            | zero => intro x col8 dep8 hm; exact absurd hm (Nat.not_lt_zero _)
            | succ n2 ih2 =>
              intro x col8 dep8 hm2 hx hJ
              refine rx_iload C 5 rfl d_TR_triangle_70 ?_
              refine rx_aload_n C 0 rfl d_TR_triangle_72 ?_
              refine rx_get C 0 0 i_TR rfl rfl (by decide) g_42 rfl rfl d_TR_triangle_73 ?_
              refine rx_icmp_geN C (by omega) (by omega) d_TR_triangle_76 (fun c76 => ?_) (fun c76 => ?_)
              · skip
                obtain rfl : w = x := by omega
                show G 189 [(0, .ref (a 0)), (1, .int (v)), (2, .long (absA xs ys)), (4, .int (nI (cn (hitR xs ys zs q1 q2 w dep) (w * y + w)))), (5, .int (nI (y))), (6, .int (nI (w)))] [] [(a 0, oTR w h a), (a 2, cI ta 576 (col8)), (a 3, cC ta 576 (dep8)), (a 6, cI ta 3 (xs)), (a 7, cI ta 3 (ys)), (a 8, cI ta 3 (zs)), (a 9, cQ ta a), (a 10, cI ta 3 (upd (upd (upd od 0 (nI 0)) 1 (nI (q1))) 2 (nI (q2)))), (a 11, oEd (nw xs ys 0 q1 w y) (-((ys q1 - ys 0).toInt64) * 16) ((xs q1 - xs 0).toInt64 * 16) (bgE (xs 0) (ys 0) (xs q1) (ys q1)) (lsE (xs 0) (ys 0) (xs q1) (ys q1))), (a 12, oEd (nw xs ys q1 q2 w y) (-((ys q2 - ys q1).toInt64) * 16) ((xs q2 - xs q1).toInt64 * 16) (bgE (xs q1) (ys q1) (xs q2) (ys q2)) (lsE (xs q1) (ys q1) (xs q2) (ys q2))), (a 13, oEd (nw xs ys q2 0 w y) (-((ys 0 - ys q2).toInt64) * 16) ((xs 0 - xs q2).toInt64 * 16) (bgE (xs q2) (ys q2) (xs 0) (ys 0)) (lsE (xs q2) (ys q2) (xs 0) (ys 0)))]
                refine rx_iinc C 4 rfl (nI (y + 1)) (nI_add _ _) (Nat.le_of_ble_eq_true rfl) [1, 2, 3, 4, 0, 5] (lv' := [(0, .ref (a 0)), (1, .int (v)), (2, .long (absA xs ys)), (4, .int (nI (cn (hitR xs ys zs q1 q2 w dep) (w * y + w)))), (5, .int (nI (y + 1))), (6, .int (nI (w)))]) rfl d_TR_triangle_189 ?_
                refine rx_goto C d_TR_triangle_192 ?_
                rw [← Nat.mul_succ] at hJ ⊢
                exact rx_lv C [0, 1, 2, 3, 4] rfl (ih (y + 1) col8 dep8 _ _ _ (by omega) (by omega) hJ)
              · skip
                have hkk : w * y + x < 576 := Nat.lt_of_lt_of_le (px_lt c76 c17) hwh
                have K : ∀ (col7 dep7 : Nat → Int32), (pixd (hitR xs ys zs q1 q2 w dep) (fun _ => v) col col7 (w * y + x + 1) ∧ pixd (hitR xs ys zs q1 q2 w dep) (depR xs ys zs q1 q2 w) dep dep7 (w * y + x + 1)) → G 144 [(0, .ref (a 0)), (1, .int (v)), (2, .long (absA xs ys)), (4, .int (nI (cn (hitR xs ys zs q1 q2 w dep) (w * y + x + 1)))), (5, .int (nI (y))), (6, .int (nI (x)))] [] [(a 0, oTR w h a), (a 2, cI ta 576 (col7)), (a 3, cC ta 576 (dep7)), (a 6, cI ta 3 (xs)), (a 7, cI ta 3 (ys)), (a 8, cI ta 3 (zs)), (a 9, cQ ta a), (a 10, cI ta 3 (upd (upd (upd od 0 (nI 0)) 1 (nI (q1))) 2 (nI (q2)))), (a 11, oEd (nw xs ys 0 q1 x y) (-((ys q1 - ys 0).toInt64) * 16) ((xs q1 - xs 0).toInt64 * 16) (bgE (xs 0) (ys 0) (xs q1) (ys q1)) (lsE (xs 0) (ys 0) (xs q1) (ys q1))), (a 12, oEd (nw xs ys q1 q2 x y) (-((ys q2 - ys q1).toInt64) * 16) ((xs q2 - xs q1).toInt64 * 16) (bgE (xs q1) (ys q1) (xs q2) (ys q2)) (lsE (xs q1) (ys q1) (xs q2) (ys q2))), (a 13, oEd (nw xs ys q2 0 x y) (-((ys 0 - ys q2).toInt64) * 16) ((xs 0 - xs q2).toInt64 * 16) (bgE (xs q2) (ys q2) (xs 0) (ys 0)) (lsE (xs q2) (ys q2) (xs 0) (ys 0)))] := by
                  intro col7 dep7 hL
                  refine rx_aload_n C 0 rfl d_TR_triangle_144 ?_
                  refine rx_get C 0 9 i_TR rfl rfl (by decide) g_51 rfl rfl d_TR_triangle_145 ?_
                  refine rx_astore C (Nat.le_of_ble_eq_true rfl) [1, 2, 3, 4, 5, 6, 0] (lv' := [(0, .ref (a 0)), (1, .int (v)), (2, .long (absA xs ys)), (4, .int (nI (cn (hitR xs ys zs q1 q2 w dep) (w * y + x + 1)))), (5, .int (nI (y))), (6, .int (nI (x))), (7, .ref (a 9))]) rfl d_TR_triangle_148 ?_
                  refine rx_aload C 6 rfl d_TR_triangle_150 ?_
                  refine rx_alen C (t0 := 4) 6 rfl rfl d_TR_triangle_152 ?_
                  refine rx_istore C (Nat.le_of_ble_eq_true rfl) [1, 2, 3, 4, 5, 6, 7, 0] (lv' := [(0, .ref (a 0)), (1, .int (v)), (2, .long (absA xs ys)), (4, .int (nI (cn (hitR xs ys zs q1 q2 w dep) (w * y + x + 1)))), (5, .int (nI (y))), (6, .int (nI (x))), (7, .ref (a 9)), (8, .int (nI (3)))]) rfl d_TR_triangle_153 ?_
                  refine rx_iconst C (nI 0) (by decide) d_TR_triangle_155 ?_
                  refine rx_istore C (Nat.le_of_ble_eq_true rfl) [1, 2, 3, 4, 5, 6, 7, 8, 0] (lv' := [(0, .ref (a 0)), (1, .int (v)), (2, .long (absA xs ys)), (4, .int (nI (cn (hitR xs ys zs q1 q2 w dep) (w * y + x + 1)))), (5, .int (nI (y))), (6, .int (nI (x))), (7, .ref (a 9)), (8, .int (nI (3))), (9, .int (nI (0)))]) rfl d_TR_triangle_156 ?_
                  refine rx_iload C 8 rfl d_TR_triangle_158 ?_
                  refine rx_iload C 7 rfl d_TR_triangle_160 ?_
                  refine rx_icmp_geN C (by omega) (by omega) d_TR_triangle_162 (fun c162 => by exfalso; omega) (fun c162 => ?_)
                  refine rx_aload C 6 rfl d_TR_triangle_165 ?_
                  refine rx_iload C 8 rfl d_TR_triangle_167 ?_
                  refine rx_aald C 6 rfl (by decide) (0) rfl (by decide) (b := a 11) rfl d_TR_triangle_169 ?_
                  refine rx_astore C (Nat.le_of_ble_eq_true rfl) [1, 2, 3, 4, 5, 6, 7, 8, 9, 0] (lv' := [(0, .ref (a 0)), (1, .int (v)), (2, .long (absA xs ys)), (4, .int (nI (cn (hitR xs ys zs q1 q2 w dep) (w * y + x + 1)))), (5, .int (nI (y))), (6, .int (nI (x))), (7, .ref (a 9)), (8, .int (nI (3))), (9, .int (nI (0))), (10, .ref (a 11))]) rfl d_TR_triangle_170 ?_
                  refine rx_aload C 9 rfl d_TR_triangle_172 ?_
                  refine rx_callVv C (c_Ed_toRight l D ta (a 11) (nw xs ys 0 q1 x y) (-((ys q1 - ys 0).toInt64) * 16) ((xs q1 - xs 0).toInt64 * 16) (bgE (xs 0) (ys 0) (xs q1) (ys q1)) (lsE (xs 0) (ys 0) (xs q1) (ys q1))) cw_TR_83 ⟨rfl, rfl, by decide, by decide⟩ rfl [8] rfl rfl (q0 := 0) rfl rfl rfl [] rfl (Nat.le_of_ble_eq_true rfl) (fun _ => rfl) d_TR_triangle_174 (fun uk0 hk0 => ?_)
                  refine rx_ws (ws' := [(a 0, oTR w h a), (a 2, cI ta 576 (col7)), (a 3, cC ta 576 (dep7)), (a 6, cI ta 3 (xs)), (a 7, cI ta 3 (ys)), (a 8, cI ta 3 (zs)), (a 9, cQ ta a), (a 10, cI ta 3 (upd (upd (upd od 0 (nI 0)) 1 (nI (q1))) 2 (nI (q2)))), (a 11, oEd (nw xs ys 0 q1 x y + -((ys q1 - ys 0).toInt64) * 16) (-((ys q1 - ys 0).toInt64) * 16) ((xs q1 - xs 0).toInt64 * 16) (bgE (xs 0) (ys 0) (xs q1) (ys q1)) (lsE (xs 0) (ys 0) (xs q1) (ys q1))), (a 12, oEd (nw xs ys q1 q2 x y) (-((ys q2 - ys q1).toInt64) * 16) ((xs q2 - xs q1).toInt64 * 16) (bgE (xs q1) (ys q1) (xs q2) (ys q2)) (lsE (xs q1) (ys q1) (xs q2) (ys q2))), (a 13, oEd (nw xs ys q2 0 x y) (-((ys 0 - ys q2).toInt64) * 16) ((xs 0 - xs q2).toInt64 * 16) (bgE (xs q2) (ys q2) (xs 0) (ys 0)) (lsE (xs q2) (ys q2) (xs 0) (ys 0)))]) ?_ rfl
                  refine rx_iinc C 8 rfl (nI (1)) (by decide) (Nat.le_of_ble_eq_true rfl) [1, 2, 3, 4, 5, 6, 7, 8, 0, 9] (lv' := [(0, .ref (a 0)), (1, .int (v)), (2, .long (absA xs ys)), (4, .int (nI (cn (hitR xs ys zs q1 q2 w dep) (w * y + x + 1)))), (5, .int (nI (y))), (6, .int (nI (x))), (7, .ref (a 9)), (8, .int (nI (3))), (9, .int (nI (1))), (10, .ref (a 11))]) rfl d_TR_triangle_177 ?_
                  refine rx_goto C d_TR_triangle_180 ?_
                  refine rx_iload C 8 rfl d_TR_triangle_158 ?_
                  refine rx_iload C 7 rfl d_TR_triangle_160 ?_
                  refine rx_icmp_geN C (by omega) (by omega) d_TR_triangle_162 (fun c162 => by exfalso; omega) (fun c162 => ?_)
                  refine rx_aload C 6 rfl d_TR_triangle_165 ?_
                  refine rx_iload C 8 rfl d_TR_triangle_167 ?_
                  refine rx_aald C 6 rfl (by decide) (1) rfl (by decide) (b := a 12) rfl d_TR_triangle_169 ?_
                  refine rx_astore C (Nat.le_of_ble_eq_true rfl) [1, 2, 3, 4, 5, 6, 7, 8, 9, 0] (lv' := [(0, .ref (a 0)), (1, .int (v)), (2, .long (absA xs ys)), (4, .int (nI (cn (hitR xs ys zs q1 q2 w dep) (w * y + x + 1)))), (5, .int (nI (y))), (6, .int (nI (x))), (7, .ref (a 9)), (8, .int (nI (3))), (9, .int (nI (1))), (10, .ref (a 12))]) rfl d_TR_triangle_170 ?_
                  refine rx_aload C 9 rfl d_TR_triangle_172 ?_
                  refine rx_callVv C (c_Ed_toRight l D ta (a 12) (nw xs ys q1 q2 x y) (-((ys q2 - ys q1).toInt64) * 16) ((xs q2 - xs q1).toInt64 * 16) (bgE (xs q1) (ys q1) (xs q2) (ys q2)) (lsE (xs q1) (ys q1) (xs q2) (ys q2))) cw_TR_83 ⟨rfl, rfl, by decide, by decide⟩ rfl [9] rfl rfl (q0 := 0) rfl rfl rfl [] rfl (Nat.le_of_ble_eq_true rfl) (fun _ => rfl) d_TR_triangle_174 (fun uk1 hk1 => ?_)
                  refine rx_ws (ws' := [(a 0, oTR w h a), (a 2, cI ta 576 (col7)), (a 3, cC ta 576 (dep7)), (a 6, cI ta 3 (xs)), (a 7, cI ta 3 (ys)), (a 8, cI ta 3 (zs)), (a 9, cQ ta a), (a 10, cI ta 3 (upd (upd (upd od 0 (nI 0)) 1 (nI (q1))) 2 (nI (q2)))), (a 11, oEd (nw xs ys 0 q1 x y + -((ys q1 - ys 0).toInt64) * 16) (-((ys q1 - ys 0).toInt64) * 16) ((xs q1 - xs 0).toInt64 * 16) (bgE (xs 0) (ys 0) (xs q1) (ys q1)) (lsE (xs 0) (ys 0) (xs q1) (ys q1))), (a 12, oEd (nw xs ys q1 q2 x y + -((ys q2 - ys q1).toInt64) * 16) (-((ys q2 - ys q1).toInt64) * 16) ((xs q2 - xs q1).toInt64 * 16) (bgE (xs q1) (ys q1) (xs q2) (ys q2)) (lsE (xs q1) (ys q1) (xs q2) (ys q2))), (a 13, oEd (nw xs ys q2 0 x y) (-((ys 0 - ys q2).toInt64) * 16) ((xs 0 - xs q2).toInt64 * 16) (bgE (xs q2) (ys q2) (xs 0) (ys 0)) (lsE (xs q2) (ys q2) (xs 0) (ys 0)))]) ?_ rfl
                  refine rx_iinc C 8 rfl (nI (2)) (by decide) (Nat.le_of_ble_eq_true rfl) [1, 2, 3, 4, 5, 6, 7, 8, 0, 9] (lv' := [(0, .ref (a 0)), (1, .int (v)), (2, .long (absA xs ys)), (4, .int (nI (cn (hitR xs ys zs q1 q2 w dep) (w * y + x + 1)))), (5, .int (nI (y))), (6, .int (nI (x))), (7, .ref (a 9)), (8, .int (nI (3))), (9, .int (nI (2))), (10, .ref (a 12))]) rfl d_TR_triangle_177 ?_
                  refine rx_goto C d_TR_triangle_180 ?_
                  refine rx_iload C 8 rfl d_TR_triangle_158 ?_
                  refine rx_iload C 7 rfl d_TR_triangle_160 ?_
                  refine rx_icmp_geN C (by omega) (by omega) d_TR_triangle_162 (fun c162 => by exfalso; omega) (fun c162 => ?_)
                  refine rx_aload C 6 rfl d_TR_triangle_165 ?_
                  refine rx_iload C 8 rfl d_TR_triangle_167 ?_
                  refine rx_aald C 6 rfl (by decide) (2) rfl (by decide) (b := a 13) rfl d_TR_triangle_169 ?_
                  refine rx_astore C (Nat.le_of_ble_eq_true rfl) [1, 2, 3, 4, 5, 6, 7, 8, 9, 0] (lv' := [(0, .ref (a 0)), (1, .int (v)), (2, .long (absA xs ys)), (4, .int (nI (cn (hitR xs ys zs q1 q2 w dep) (w * y + x + 1)))), (5, .int (nI (y))), (6, .int (nI (x))), (7, .ref (a 9)), (8, .int (nI (3))), (9, .int (nI (2))), (10, .ref (a 13))]) rfl d_TR_triangle_170 ?_
                  refine rx_aload C 9 rfl d_TR_triangle_172 ?_
                  refine rx_callVv C (c_Ed_toRight l D ta (a 13) (nw xs ys q2 0 x y) (-((ys 0 - ys q2).toInt64) * 16) ((xs 0 - xs q2).toInt64 * 16) (bgE (xs q2) (ys q2) (xs 0) (ys 0)) (lsE (xs q2) (ys q2) (xs 0) (ys 0))) cw_TR_83 ⟨rfl, rfl, by decide, by decide⟩ rfl [10] rfl rfl (q0 := 0) rfl rfl rfl [] rfl (Nat.le_of_ble_eq_true rfl) (fun _ => rfl) d_TR_triangle_174 (fun uk2 hk2 => ?_)
                  refine rx_ws (ws' := [(a 0, oTR w h a), (a 2, cI ta 576 (col7)), (a 3, cC ta 576 (dep7)), (a 6, cI ta 3 (xs)), (a 7, cI ta 3 (ys)), (a 8, cI ta 3 (zs)), (a 9, cQ ta a), (a 10, cI ta 3 (upd (upd (upd od 0 (nI 0)) 1 (nI (q1))) 2 (nI (q2)))), (a 11, oEd (nw xs ys 0 q1 x y + -((ys q1 - ys 0).toInt64) * 16) (-((ys q1 - ys 0).toInt64) * 16) ((xs q1 - xs 0).toInt64 * 16) (bgE (xs 0) (ys 0) (xs q1) (ys q1)) (lsE (xs 0) (ys 0) (xs q1) (ys q1))), (a 12, oEd (nw xs ys q1 q2 x y + -((ys q2 - ys q1).toInt64) * 16) (-((ys q2 - ys q1).toInt64) * 16) ((xs q2 - xs q1).toInt64 * 16) (bgE (xs q1) (ys q1) (xs q2) (ys q2)) (lsE (xs q1) (ys q1) (xs q2) (ys q2))), (a 13, oEd (nw xs ys q2 0 x y + -((ys 0 - ys q2).toInt64) * 16) (-((ys 0 - ys q2).toInt64) * 16) ((xs 0 - xs q2).toInt64 * 16) (bgE (xs q2) (ys q2) (xs 0) (ys 0)) (lsE (xs q2) (ys q2) (xs 0) (ys 0)))]) ?_ rfl
                  refine rx_iinc C 8 rfl (nI (3)) (by decide) (Nat.le_of_ble_eq_true rfl) [1, 2, 3, 4, 5, 6, 7, 8, 0, 9] (lv' := [(0, .ref (a 0)), (1, .int (v)), (2, .long (absA xs ys)), (4, .int (nI (cn (hitR xs ys zs q1 q2 w dep) (w * y + x + 1)))), (5, .int (nI (y))), (6, .int (nI (x))), (7, .ref (a 9)), (8, .int (nI (3))), (9, .int (nI (3))), (10, .ref (a 13))]) rfl d_TR_triangle_177 ?_
                  refine rx_goto C d_TR_triangle_180 ?_
                  refine rx_iload C 8 rfl d_TR_triangle_158 ?_
                  refine rx_iload C 7 rfl d_TR_triangle_160 ?_
                  refine rx_icmp_geN C (by omega) (by omega) d_TR_triangle_162 (fun c162 => ?_) (fun c162 => by exfalso; omega)
                  refine rx_iinc C 5 rfl (nI (x + 1)) (nI_add _ _) (Nat.le_of_ble_eq_true rfl) [1, 2, 3, 4, 5, 0, 6, 7, 8, 9] (lv' := [(0, .ref (a 0)), (1, .int (v)), (2, .long (absA xs ys)), (4, .int (nI (cn (hitR xs ys zs q1 q2 w dep) (w * y + x + 1)))), (5, .int (nI (y))), (6, .int (nI (x + 1))), (7, .ref (a 9)), (8, .int (nI (3))), (9, .int (nI (3))), (10, .ref (a 13))]) rfl d_TR_triangle_183 ?_
                  refine rx_goto C d_TR_triangle_186 ?_
                  refine rx_ws (ws' := [(a 0, oTR w h a), (a 2, cI ta 576 (col7)), (a 3, cC ta 576 (dep7)), (a 6, cI ta 3 (xs)), (a 7, cI ta 3 (ys)), (a 8, cI ta 3 (zs)), (a 9, cQ ta a), (a 10, cI ta 3 (upd (upd (upd od 0 (nI 0)) 1 (nI (q1))) 2 (nI (q2)))), (a 11, oEd (nw xs ys 0 q1 (x + 1) y) (-((ys q1 - ys 0).toInt64) * 16) ((xs q1 - xs 0).toInt64 * 16) (bgE (xs 0) (ys 0) (xs q1) (ys q1)) (lsE (xs 0) (ys 0) (xs q1) (ys q1))), (a 12, oEd (nw xs ys q1 q2 (x + 1) y) (-((ys q2 - ys q1).toInt64) * 16) ((xs q2 - xs q1).toInt64 * 16) (bgE (xs q1) (ys q1) (xs q2) (ys q2)) (lsE (xs q1) (ys q1) (xs q2) (ys q2))), (a 13, oEd (nw xs ys q2 0 (x + 1) y) (-((ys 0 - ys q2).toInt64) * 16) ((xs 0 - xs q2).toInt64 * 16) (bgE (xs q2) (ys q2) (xs 0) (ys 0)) (lsE (xs q2) (ys q2) (xs 0) (ys 0)))]) ?_ (by rw [nw_s xs ys 0 q1, nw_s xs ys q1 q2, nw_s xs ys q2 0])
                  exact rx_lv C [0, 1, 2, 3, 4, 5] rfl (ih2 (x + 1) col7 dep7 (by omega) (by omega) hL)
                refine rx_aload_n C 0 rfl d_TR_triangle_79 ?_
                refine rx_get C 0 9 i_TR rfl rfl (by decide) g_51 rfl rfl d_TR_triangle_80 ?_
                refine rx_iconst C (nI 0) (by decide) d_TR_triangle_83 ?_
                refine rx_aald C 6 rfl (by decide) (0) rfl (by decide) (b := a 11) rfl d_TR_triangle_84 ?_
                refine rx_callVi C (c_Ed_isIn l D ta (a 11) (nw xs ys 0 q1 x y) (-((ys q1 - ys 0).toInt64) * 16) ((xs q1 - xs 0).toInt64 * 16) (bgE (xs 0) (ys 0) (xs q1) (ys q1)) (lsE (xs 0) (ys 0) (xs q1) (ys q1))) cw_TR_75 ⟨rfl, rfl, by decide, by decide⟩ rfl [8] rfl rfl (q0 := 0) rfl rfl rfl [] rfl (Nat.le_of_ble_eq_true rfl) (fun _ => rfl) d_TR_triangle_85 (fun r1 u1 h1 => ?_)
                refine rx_ws (ws' := [(a 0, oTR w h a), (a 2, cI ta 576 (col8)), (a 3, cC ta 576 (dep8)), (a 6, cI ta 3 (xs)), (a 7, cI ta 3 (ys)), (a 8, cI ta 3 (zs)), (a 9, cQ ta a), (a 10, cI ta 3 (upd (upd (upd od 0 (nI 0)) 1 (nI (q1))) 2 (nI (q2)))), (a 11, oEd (nw xs ys 0 q1 x y) (-((ys q1 - ys 0).toInt64) * 16) ((xs q1 - xs 0).toInt64 * 16) (bgE (xs 0) (ys 0) (xs q1) (ys q1)) (lsE (xs 0) (ys 0) (xs q1) (ys q1))), (a 12, oEd (nw xs ys q1 q2 x y) (-((ys q2 - ys q1).toInt64) * 16) ((xs q2 - xs q1).toInt64 * 16) (bgE (xs q1) (ys q1) (xs q2) (ys q2)) (lsE (xs q1) (ys q1) (xs q2) (ys q2))), (a 13, oEd (nw xs ys q2 0 x y) (-((ys 0 - ys q2).toInt64) * 16) ((xs 0 - xs q2).toInt64 * 16) (bgE (xs q2) (ys q2) (xs 0) (ys 0)) (lsE (xs q2) (ys q2) (xs 0) (ys 0)))]) ?_ rfl
                rcases h1 with ⟨rfl, p1⟩ | ⟨rfl, p1⟩
                · skip
                  show G 88 [(0, .ref (a 0)), (1, .int (v)), (2, .long (absA xs ys)), (4, .int (nI (cn (hitR xs ys zs q1 q2 w dep) (w * y + x)))), (5, .int (nI (y))), (6, .int (nI (x)))] [.int (nI (1))] [(a 0, oTR w h a), (a 2, cI ta 576 (col8)), (a 3, cC ta 576 (dep8)), (a 6, cI ta 3 (xs)), (a 7, cI ta 3 (ys)), (a 8, cI ta 3 (zs)), (a 9, cQ ta a), (a 10, cI ta 3 (upd (upd (upd od 0 (nI 0)) 1 (nI (q1))) 2 (nI (q2)))), (a 11, oEd (nw xs ys 0 q1 x y) (-((ys q1 - ys 0).toInt64) * 16) ((xs q1 - xs 0).toInt64 * 16) (bgE (xs 0) (ys 0) (xs q1) (ys q1)) (lsE (xs 0) (ys 0) (xs q1) (ys q1))), (a 12, oEd (nw xs ys q1 q2 x y) (-((ys q2 - ys q1).toInt64) * 16) ((xs q2 - xs q1).toInt64 * 16) (bgE (xs q1) (ys q1) (xs q2) (ys q2)) (lsE (xs q1) (ys q1) (xs q2) (ys q2))), (a 13, oEd (nw xs ys q2 0 x y) (-((ys 0 - ys q2).toInt64) * 16) ((xs 0 - xs q2).toInt64 * 16) (bgE (xs q2) (ys q2) (xs 0) (ys 0)) (lsE (xs q2) (ys q2) (xs 0) (ys 0)))]
                  refine rx_if_eqN C (by omega) d_TR_triangle_88 (fun c88 => by exfalso; omega) (fun c88 => ?_)
                  refine rx_aload_n C 0 rfl d_TR_triangle_91 ?_
                  refine rx_get C 0 9 i_TR rfl rfl (by decide) g_51 rfl rfl d_TR_triangle_92 ?_
                  refine rx_iconst C (nI 1) (by decide) d_TR_triangle_95 ?_
                  refine rx_aald C 6 rfl (by decide) (1) rfl (by decide) (b := a 12) rfl d_TR_triangle_96 ?_
                  refine rx_callVi C (c_Ed_isIn l D ta (a 12) (nw xs ys q1 q2 x y) (-((ys q2 - ys q1).toInt64) * 16) ((xs q2 - xs q1).toInt64 * 16) (bgE (xs q1) (ys q1) (xs q2) (ys q2)) (lsE (xs q1) (ys q1) (xs q2) (ys q2))) cw_TR_75 ⟨rfl, rfl, by decide, by decide⟩ rfl [9] rfl rfl (q0 := 0) rfl rfl rfl [] rfl (Nat.le_of_ble_eq_true rfl) (fun _ => rfl) d_TR_triangle_97 (fun r2 u2 h2 => ?_)
                  refine rx_ws (ws' := [(a 0, oTR w h a), (a 2, cI ta 576 (col8)), (a 3, cC ta 576 (dep8)), (a 6, cI ta 3 (xs)), (a 7, cI ta 3 (ys)), (a 8, cI ta 3 (zs)), (a 9, cQ ta a), (a 10, cI ta 3 (upd (upd (upd od 0 (nI 0)) 1 (nI (q1))) 2 (nI (q2)))), (a 11, oEd (nw xs ys 0 q1 x y) (-((ys q1 - ys 0).toInt64) * 16) ((xs q1 - xs 0).toInt64 * 16) (bgE (xs 0) (ys 0) (xs q1) (ys q1)) (lsE (xs 0) (ys 0) (xs q1) (ys q1))), (a 12, oEd (nw xs ys q1 q2 x y) (-((ys q2 - ys q1).toInt64) * 16) ((xs q2 - xs q1).toInt64 * 16) (bgE (xs q1) (ys q1) (xs q2) (ys q2)) (lsE (xs q1) (ys q1) (xs q2) (ys q2))), (a 13, oEd (nw xs ys q2 0 x y) (-((ys 0 - ys q2).toInt64) * 16) ((xs 0 - xs q2).toInt64 * 16) (bgE (xs q2) (ys q2) (xs 0) (ys 0)) (lsE (xs q2) (ys q2) (xs 0) (ys 0)))]) ?_ rfl
                  rcases h2 with ⟨rfl, p2⟩ | ⟨rfl, p2⟩
                  · skip
                    show G 100 [(0, .ref (a 0)), (1, .int (v)), (2, .long (absA xs ys)), (4, .int (nI (cn (hitR xs ys zs q1 q2 w dep) (w * y + x)))), (5, .int (nI (y))), (6, .int (nI (x)))] [.int (nI (1))] [(a 0, oTR w h a), (a 2, cI ta 576 (col8)), (a 3, cC ta 576 (dep8)), (a 6, cI ta 3 (xs)), (a 7, cI ta 3 (ys)), (a 8, cI ta 3 (zs)), (a 9, cQ ta a), (a 10, cI ta 3 (upd (upd (upd od 0 (nI 0)) 1 (nI (q1))) 2 (nI (q2)))), (a 11, oEd (nw xs ys 0 q1 x y) (-((ys q1 - ys 0).toInt64) * 16) ((xs q1 - xs 0).toInt64 * 16) (bgE (xs 0) (ys 0) (xs q1) (ys q1)) (lsE (xs 0) (ys 0) (xs q1) (ys q1))), (a 12, oEd (nw xs ys q1 q2 x y) (-((ys q2 - ys q1).toInt64) * 16) ((xs q2 - xs q1).toInt64 * 16) (bgE (xs q1) (ys q1) (xs q2) (ys q2)) (lsE (xs q1) (ys q1) (xs q2) (ys q2))), (a 13, oEd (nw xs ys q2 0 x y) (-((ys 0 - ys q2).toInt64) * 16) ((xs 0 - xs q2).toInt64 * 16) (bgE (xs q2) (ys q2) (xs 0) (ys 0)) (lsE (xs q2) (ys q2) (xs 0) (ys 0)))]
                    refine rx_if_eqN C (by omega) d_TR_triangle_100 (fun c100 => by exfalso; omega) (fun c100 => ?_)
                    refine rx_aload_n C 0 rfl d_TR_triangle_103 ?_
                    refine rx_get C 0 9 i_TR rfl rfl (by decide) g_51 rfl rfl d_TR_triangle_104 ?_
                    refine rx_iconst C (nI 2) (by decide) d_TR_triangle_107 ?_
                    refine rx_aald C 6 rfl (by decide) (2) rfl (by decide) (b := a 13) rfl d_TR_triangle_108 ?_
                    refine rx_callVi C (c_Ed_isIn l D ta (a 13) (nw xs ys q2 0 x y) (-((ys 0 - ys q2).toInt64) * 16) ((xs 0 - xs q2).toInt64 * 16) (bgE (xs q2) (ys q2) (xs 0) (ys 0)) (lsE (xs q2) (ys q2) (xs 0) (ys 0))) cw_TR_75 ⟨rfl, rfl, by decide, by decide⟩ rfl [10] rfl rfl (q0 := 0) rfl rfl rfl [] rfl (Nat.le_of_ble_eq_true rfl) (fun _ => rfl) d_TR_triangle_109 (fun r3 u3 h3 => ?_)
                    refine rx_ws (ws' := [(a 0, oTR w h a), (a 2, cI ta 576 (col8)), (a 3, cC ta 576 (dep8)), (a 6, cI ta 3 (xs)), (a 7, cI ta 3 (ys)), (a 8, cI ta 3 (zs)), (a 9, cQ ta a), (a 10, cI ta 3 (upd (upd (upd od 0 (nI 0)) 1 (nI (q1))) 2 (nI (q2)))), (a 11, oEd (nw xs ys 0 q1 x y) (-((ys q1 - ys 0).toInt64) * 16) ((xs q1 - xs 0).toInt64 * 16) (bgE (xs 0) (ys 0) (xs q1) (ys q1)) (lsE (xs 0) (ys 0) (xs q1) (ys q1))), (a 12, oEd (nw xs ys q1 q2 x y) (-((ys q2 - ys q1).toInt64) * 16) ((xs q2 - xs q1).toInt64 * 16) (bgE (xs q1) (ys q1) (xs q2) (ys q2)) (lsE (xs q1) (ys q1) (xs q2) (ys q2))), (a 13, oEd (nw xs ys q2 0 x y) (-((ys 0 - ys q2).toInt64) * 16) ((xs 0 - xs q2).toInt64 * 16) (bgE (xs q2) (ys q2) (xs 0) (ys 0)) (lsE (xs q2) (ys q2) (xs 0) (ys 0)))]) ?_ rfl
                    rcases h3 with ⟨rfl, p3⟩ | ⟨rfl, p3⟩
                    · skip
                      show G 112 [(0, .ref (a 0)), (1, .int (v)), (2, .long (absA xs ys)), (4, .int (nI (cn (hitR xs ys zs q1 q2 w dep) (w * y + x)))), (5, .int (nI (y))), (6, .int (nI (x)))] [.int (nI (1))] [(a 0, oTR w h a), (a 2, cI ta 576 (col8)), (a 3, cC ta 576 (dep8)), (a 6, cI ta 3 (xs)), (a 7, cI ta 3 (ys)), (a 8, cI ta 3 (zs)), (a 9, cQ ta a), (a 10, cI ta 3 (upd (upd (upd od 0 (nI 0)) 1 (nI (q1))) 2 (nI (q2)))), (a 11, oEd (nw xs ys 0 q1 x y) (-((ys q1 - ys 0).toInt64) * 16) ((xs q1 - xs 0).toInt64 * 16) (bgE (xs 0) (ys 0) (xs q1) (ys q1)) (lsE (xs 0) (ys 0) (xs q1) (ys q1))), (a 12, oEd (nw xs ys q1 q2 x y) (-((ys q2 - ys q1).toInt64) * 16) ((xs q2 - xs q1).toInt64 * 16) (bgE (xs q1) (ys q1) (xs q2) (ys q2)) (lsE (xs q1) (ys q1) (xs q2) (ys q2))), (a 13, oEd (nw xs ys q2 0 x y) (-((ys 0 - ys q2).toInt64) * 16) ((xs 0 - xs q2).toInt64 * 16) (bgE (xs q2) (ys q2) (xs 0) (ys 0)) (lsE (xs q2) (ys q2) (xs 0) (ys 0)))]
                      refine rx_if_eqN C (by omega) d_TR_triangle_112 (fun c112 => by exfalso; omega) (fun c112 => ?_)
                      refine rx_iload C 3 rfl d_TR_triangle_115 ?_
                      refine rx_aload_n C 0 rfl d_TR_triangle_117 ?_
                      refine rx_aload_n C 0 rfl d_TR_triangle_118 ?_
                      refine rx_get C 0 0 i_TR rfl rfl (by decide) g_42 rfl rfl d_TR_triangle_119 ?_
                      refine rx_iload C 4 rfl d_TR_triangle_122 ?_
                      refine rx_imulN C d_TR_triangle_124 ?_
                      refine rx_iload C 5 rfl d_TR_triangle_125 ?_
                      refine rx_iaddN C d_TR_triangle_127 ?_
                      refine rx_lload_n C 2 rfl d_TR_triangle_128 ?_
                      refine rx_iload_n C 1 rfl d_TR_triangle_129 ?_
                      refine rx_callVi C (c_TR_write l D ta w h a col8 dep8 zs (upd (upd (upd od 0 (nI 0)) 1 (nI (q1))) 2 (nI (q2))) (nw xs ys 0 q1 x y) (-((ys q1 - ys 0).toInt64) * 16) ((xs q1 - xs 0).toInt64 * 16) (bgE (xs 0) (ys 0) (xs q1) (ys q1)) (nw xs ys q1 q2 x y) (-((ys q2 - ys q1).toInt64) * 16) ((xs q2 - xs q1).toInt64 * 16) (bgE (xs q1) (ys q1) (xs q2) (ys q2)) (nw xs ys q2 0 x y) (-((ys 0 - ys q2).toInt64) * 16) ((xs 0 - xs q2).toInt64 * 16) (bgE (xs q2) (ys q2) (xs 0) (ys 0)) (lsE (xs 0) (ys 0) (xs q1) (ys q1)) (lsE (xs q1) (ys q1) (xs q2) (ys q2)) (lsE (xs q2) (ys q2) (xs 0) (ys 0)) (w * y + x) (absA xs ys) v 0 q1 q2 hkk hA0 rfl rfl rfl (by decide) hq1 hq2) cw_TR_79 ⟨rfl, rfl, by decide, by decide⟩ rfl [0, 1, 2, 5, 6, 7, 8, 9, 10] rfl rfl (q0 := 0) rfl rfl rfl [.int (nI (cn (hitR xs ys zs q1 q2 w dep) (w * y + x)))] rfl (Nat.le_of_ble_eq_true rfl) (fun _ => rfl) d_TR_triangle_130 (fun r4 u4 h4 => ?_)
                      refine rx_ws (ws' := [(a 0, oTR w h a), (a 2, cI ta 576 (u4.1)), (a 3, cC ta 576 (u4.2)), (a 6, cI ta 3 (xs)), (a 7, cI ta 3 (ys)), (a 8, cI ta 3 (zs)), (a 9, cQ ta a), (a 10, cI ta 3 (upd (upd (upd od 0 (nI 0)) 1 (nI (q1))) 2 (nI (q2)))), (a 11, oEd (nw xs ys 0 q1 x y) (-((ys q1 - ys 0).toInt64) * 16) ((xs q1 - xs 0).toInt64 * 16) (bgE (xs 0) (ys 0) (xs q1) (ys q1)) (lsE (xs 0) (ys 0) (xs q1) (ys q1))), (a 12, oEd (nw xs ys q1 q2 x y) (-((ys q2 - ys q1).toInt64) * 16) ((xs q2 - xs q1).toInt64 * 16) (bgE (xs q1) (ys q1) (xs q2) (ys q2)) (lsE (xs q1) (ys q1) (xs q2) (ys q2))), (a 13, oEd (nw xs ys q2 0 x y) (-((ys 0 - ys q2).toInt64) * 16) ((xs 0 - xs q2).toInt64 * 16) (bgE (xs q2) (ys q2) (xs 0) (ys 0)) (lsE (xs q2) (ys q2) (xs 0) (ys 0)))]) ?_ rfl
                      have hd8 : dep8 (w * y + x) = dep (w * y + x) := (hJ.2 (w * y + x)).2 (fun q => absurd q.1 (Nat.lt_irrefl _))
                      rw [hd8] at h4
                      rcases h4 with ⟨p4, rfl, rfl⟩ | ⟨p4, rfl, rfl⟩
                      · skip
                        show G 133 [(0, .ref (a 0)), (1, .int (v)), (2, .long (absA xs ys)), (4, .int (nI (cn (hitR xs ys zs q1 q2 w dep) (w * y + x)))), (5, .int (nI (y))), (6, .int (nI (x)))] [.int (nI (1)), .int (nI (cn (hitR xs ys zs q1 q2 w dep) (w * y + x)))] [(a 0, oTR w h a), (a 2, cI ta 576 (upd col8 (w * y + x) v)), (a 3, cC ta 576 (upd dep8 (w * y + x) (chr (dpR xs ys zs q1 q2 x y)))), (a 6, cI ta 3 (xs)), (a 7, cI ta 3 (ys)), (a 8, cI ta 3 (zs)), (a 9, cQ ta a), (a 10, cI ta 3 (upd (upd (upd od 0 (nI 0)) 1 (nI (q1))) 2 (nI (q2)))), (a 11, oEd (nw xs ys 0 q1 x y) (-((ys q1 - ys 0).toInt64) * 16) ((xs q1 - xs 0).toInt64 * 16) (bgE (xs 0) (ys 0) (xs q1) (ys q1)) (lsE (xs 0) (ys 0) (xs q1) (ys q1))), (a 12, oEd (nw xs ys q1 q2 x y) (-((ys q2 - ys q1).toInt64) * 16) ((xs q2 - xs q1).toInt64 * 16) (bgE (xs q1) (ys q1) (xs q2) (ys q2)) (lsE (xs q1) (ys q1) (xs q2) (ys q2))), (a 13, oEd (nw xs ys q2 0 x y) (-((ys 0 - ys q2).toInt64) * 16) ((xs 0 - xs q2).toInt64 * 16) (bgE (xs q2) (ys q2) (xs 0) (ys 0)) (lsE (xs q2) (ys q2) (xs 0) (ys 0)))]
                        refine rx_if_eqN C (by omega) d_TR_triangle_133 (fun c133 => by exfalso; omega) (fun c133 => ?_)
                        refine rx_iconst C (nI 1) (by decide) d_TR_triangle_136 ?_
                        refine rx_goto C d_TR_triangle_137 ?_
                        refine rx_iaddN C d_TR_triangle_141 ?_
                        refine rx_istore C (Nat.le_of_ble_eq_true rfl) [1, 2, 3, 0, 4, 5] (lv' := [(0, .ref (a 0)), (1, .int (v)), (2, .long (absA xs ys)), (4, .int (nI ((cn (hitR xs ys zs q1 q2 w dep) (w * y + x)) + 1))), (5, .int (nI (y))), (6, .int (nI (x)))]) rfl d_TR_triangle_142 ?_
                        have hh9 : hitR xs ys zs q1 q2 w dep (w * y + x) := (hitR_at c76).mpr ⟨p1, p2, p3, p4⟩
                        rw [← cn_y hh9]
                        exact K _ _ ⟨pixd_y hJ.1 hh9 pk_us (fun k hk => pk_un hk), pixd_y hJ.2 hh9 (by rw [pk_us, depR_at c76]) (fun k hk => pk_un hk)⟩
                      · skip
                        show G 133 [(0, .ref (a 0)), (1, .int (v)), (2, .long (absA xs ys)), (4, .int (nI (cn (hitR xs ys zs q1 q2 w dep) (w * y + x)))), (5, .int (nI (y))), (6, .int (nI (x)))] [.int (nI (0)), .int (nI (cn (hitR xs ys zs q1 q2 w dep) (w * y + x)))] [(a 0, oTR w h a), (a 2, cI ta 576 (col8)), (a 3, cC ta 576 (dep8)), (a 6, cI ta 3 (xs)), (a 7, cI ta 3 (ys)), (a 8, cI ta 3 (zs)), (a 9, cQ ta a), (a 10, cI ta 3 (upd (upd (upd od 0 (nI 0)) 1 (nI (q1))) 2 (nI (q2)))), (a 11, oEd (nw xs ys 0 q1 x y) (-((ys q1 - ys 0).toInt64) * 16) ((xs q1 - xs 0).toInt64 * 16) (bgE (xs 0) (ys 0) (xs q1) (ys q1)) (lsE (xs 0) (ys 0) (xs q1) (ys q1))), (a 12, oEd (nw xs ys q1 q2 x y) (-((ys q2 - ys q1).toInt64) * 16) ((xs q2 - xs q1).toInt64 * 16) (bgE (xs q1) (ys q1) (xs q2) (ys q2)) (lsE (xs q1) (ys q1) (xs q2) (ys q2))), (a 13, oEd (nw xs ys q2 0 x y) (-((ys 0 - ys q2).toInt64) * 16) ((xs 0 - xs q2).toInt64 * 16) (bgE (xs q2) (ys q2) (xs 0) (ys 0)) (lsE (xs q2) (ys q2) (xs 0) (ys 0)))]
                        refine rx_if_eqN C (by omega) d_TR_triangle_133 (fun c133 => ?_) (fun c133 => by exfalso; omega)
                        refine rx_iconst C (nI 0) (by decide) d_TR_triangle_140 ?_
                        refine rx_iaddN C d_TR_triangle_141 ?_
                        refine rx_istore C (Nat.le_of_ble_eq_true rfl) [1, 2, 3, 0, 4, 5] (lv' := [(0, .ref (a 0)), (1, .int (v)), (2, .long (absA xs ys)), (4, .int (nI ((cn (hitR xs ys zs q1 q2 w dep) (w * y + x)) + 0))), (5, .int (nI (y))), (6, .int (nI (x)))]) rfl d_TR_triangle_142 ?_
                        have hh9 : ¬ hitR xs ys zs q1 q2 w dep (w * y + x) := fun q => p4 ((hitR_at c76).mp q).2.2.2
                        rw [Nat.add_zero, ← cn_n hh9]
                        exact K _ _ ⟨pixd_n hJ.1 hh9, pixd_n hJ.2 hh9⟩
                    · skip
                      show G 112 [(0, .ref (a 0)), (1, .int (v)), (2, .long (absA xs ys)), (4, .int (nI (cn (hitR xs ys zs q1 q2 w dep) (w * y + x)))), (5, .int (nI (y))), (6, .int (nI (x)))] [.int (nI (0))] [(a 0, oTR w h a), (a 2, cI ta 576 (col8)), (a 3, cC ta 576 (dep8)), (a 6, cI ta 3 (xs)), (a 7, cI ta 3 (ys)), (a 8, cI ta 3 (zs)), (a 9, cQ ta a), (a 10, cI ta 3 (upd (upd (upd od 0 (nI 0)) 1 (nI (q1))) 2 (nI (q2)))), (a 11, oEd (nw xs ys 0 q1 x y) (-((ys q1 - ys 0).toInt64) * 16) ((xs q1 - xs 0).toInt64 * 16) (bgE (xs 0) (ys 0) (xs q1) (ys q1)) (lsE (xs 0) (ys 0) (xs q1) (ys q1))), (a 12, oEd (nw xs ys q1 q2 x y) (-((ys q2 - ys q1).toInt64) * 16) ((xs q2 - xs q1).toInt64 * 16) (bgE (xs q1) (ys q1) (xs q2) (ys q2)) (lsE (xs q1) (ys q1) (xs q2) (ys q2))), (a 13, oEd (nw xs ys q2 0 x y) (-((ys 0 - ys q2).toInt64) * 16) ((xs 0 - xs q2).toInt64 * 16) (bgE (xs q2) (ys q2) (xs 0) (ys 0)) (lsE (xs q2) (ys q2) (xs 0) (ys 0)))]
                      refine rx_if_eqN C (by omega) d_TR_triangle_112 (fun c112 => ?_) (fun c112 => by exfalso; omega)
                      have hh9 : ¬ hitR xs ys zs q1 q2 w dep (w * y + x) := fun q => p3 ((hitR_at c76).mp q).2.2.1
                      rw [← cn_n hh9]
                      exact K _ _ ⟨pixd_n hJ.1 hh9, pixd_n hJ.2 hh9⟩
                  · skip
                    show G 100 [(0, .ref (a 0)), (1, .int (v)), (2, .long (absA xs ys)), (4, .int (nI (cn (hitR xs ys zs q1 q2 w dep) (w * y + x)))), (5, .int (nI (y))), (6, .int (nI (x)))] [.int (nI (0))] [(a 0, oTR w h a), (a 2, cI ta 576 (col8)), (a 3, cC ta 576 (dep8)), (a 6, cI ta 3 (xs)), (a 7, cI ta 3 (ys)), (a 8, cI ta 3 (zs)), (a 9, cQ ta a), (a 10, cI ta 3 (upd (upd (upd od 0 (nI 0)) 1 (nI (q1))) 2 (nI (q2)))), (a 11, oEd (nw xs ys 0 q1 x y) (-((ys q1 - ys 0).toInt64) * 16) ((xs q1 - xs 0).toInt64 * 16) (bgE (xs 0) (ys 0) (xs q1) (ys q1)) (lsE (xs 0) (ys 0) (xs q1) (ys q1))), (a 12, oEd (nw xs ys q1 q2 x y) (-((ys q2 - ys q1).toInt64) * 16) ((xs q2 - xs q1).toInt64 * 16) (bgE (xs q1) (ys q1) (xs q2) (ys q2)) (lsE (xs q1) (ys q1) (xs q2) (ys q2))), (a 13, oEd (nw xs ys q2 0 x y) (-((ys 0 - ys q2).toInt64) * 16) ((xs 0 - xs q2).toInt64 * 16) (bgE (xs q2) (ys q2) (xs 0) (ys 0)) (lsE (xs q2) (ys q2) (xs 0) (ys 0)))]
                    refine rx_if_eqN C (by omega) d_TR_triangle_100 (fun c100 => ?_) (fun c100 => by exfalso; omega)
                    have hh9 : ¬ hitR xs ys zs q1 q2 w dep (w * y + x) := fun q => p2 ((hitR_at c76).mp q).2.1
                    rw [← cn_n hh9]
                    exact K _ _ ⟨pixd_n hJ.1 hh9, pixd_n hJ.2 hh9⟩
                · skip
                  show G 88 [(0, .ref (a 0)), (1, .int (v)), (2, .long (absA xs ys)), (4, .int (nI (cn (hitR xs ys zs q1 q2 w dep) (w * y + x)))), (5, .int (nI (y))), (6, .int (nI (x)))] [.int (nI (0))] [(a 0, oTR w h a), (a 2, cI ta 576 (col8)), (a 3, cC ta 576 (dep8)), (a 6, cI ta 3 (xs)), (a 7, cI ta 3 (ys)), (a 8, cI ta 3 (zs)), (a 9, cQ ta a), (a 10, cI ta 3 (upd (upd (upd od 0 (nI 0)) 1 (nI (q1))) 2 (nI (q2)))), (a 11, oEd (nw xs ys 0 q1 x y) (-((ys q1 - ys 0).toInt64) * 16) ((xs q1 - xs 0).toInt64 * 16) (bgE (xs 0) (ys 0) (xs q1) (ys q1)) (lsE (xs 0) (ys 0) (xs q1) (ys q1))), (a 12, oEd (nw xs ys q1 q2 x y) (-((ys q2 - ys q1).toInt64) * 16) ((xs q2 - xs q1).toInt64 * 16) (bgE (xs q1) (ys q1) (xs q2) (ys q2)) (lsE (xs q1) (ys q1) (xs q2) (ys q2))), (a 13, oEd (nw xs ys q2 0 x y) (-((ys 0 - ys q2).toInt64) * 16) ((xs 0 - xs q2).toInt64 * 16) (bgE (xs q2) (ys q2) (xs 0) (ys 0)) (lsE (xs q2) (ys q2) (xs 0) (ys 0)))]
                  refine rx_if_eqN C (by omega) d_TR_triangle_88 (fun c88 => ?_) (fun c88 => by exfalso; omega)
                  have hh9 : ¬ hitR xs ys zs q1 q2 w dep (w * y + x) := fun q => p1 ((hitR_at c76).mp q).1
                  rw [← cn_n hh9]
                  exact K _ _ ⟨pixd_n hJ.1 hh9, pixd_n hJ.2 hh9⟩
          exact rx_lv C [0, 1, 2, 3, 4, 5] rfl (loop2 _ 0 col9 dep9 (Nat.lt_succ_self _) (Nat.zero_le _) hI)
    exact loop _ 0 col dep _ _ _ (Nat.lt_succ_self _) (Nat.zero_le _) ⟨pixd_0, pixd_0⟩
  · skip
    refine rx_iload C 4 rfl d_TR_triangle_11 ?_
    refine rx_aload_n C 0 rfl d_TR_triangle_13 ?_
    refine rx_get C 0 1 i_TR rfl rfl (by decide) g_43 rfl rfl d_TR_triangle_14 ?_
    refine rx_icmp_geN C (by omega) (by omega) d_TR_triangle_17 (fun c17 => ?_) (fun c17 => ?_)
    · skip
      refine rx_iload C 3 rfl d_TR_triangle_195 ?_
      exact hret _ _ _ _ (col, dep, (q1, q2), eN 0, eN 1, eN 2) d_TR_triangle_197 (rfl) (⟨h0, Or.inl ⟨hA, rfl, rfl, rfl⟩⟩)
    · skip
      refine rx_lload_n C 2 rfl d_TR_triangle_20 ?_
      refine rx_lconst C 0 (by decide) d_TR_triangle_21 ?_
      refine rx_lcmp_le C d_TR_triangle_22 d_TR_triangle_23 (fun c22 => ?_) (fun c22 => absurd (Int64.not_lt.mp hA) c22)
      refine rx_iload C 3 rfl d_TR_triangle_195 ?_
      exact hret _ _ _ _ (col, dep, (q1, q2), eN 0, eN 1, eN 2) d_TR_triangle_197 (rfl) (⟨h0, Or.inl ⟨hA, rfl, rfl, rfl⟩⟩)
def hitMXY (X Y Z : Nat → Int32) (d : Int32) (x y : Nat) : Prop := CV X Y (16 * (nI x).toInt64 + 8) (16 * (nI y).toInt64 + 8) ∧ (DP X Y Z (16 * (nI x).toInt64 + 8) (16 * (nI y).toInt64 + 8)).toInt32 < d
def hitM (X Y Z : Nat → Int32) (w : Nat) (dep : Nat → Int32) (k : Nat) : Prop := hitMXY X Y Z (dep k) (k % w) (k / w)
def depM (X Y Z : Nat → Int32) (w k : Nat) : Int32 := (DP X Y Z (16 * (nI (k % w)).toInt64 + 8) (16 * (nI (k / w)).toInt64 + 8)).toInt32
theorem hitM_at {X Y Z : Nat → Int32} {w x y : Nat} {dep : Nat → Int32} (hx : x < w) : hitM X Y Z w dep (w * y + x) ↔ hitMXY X Y Z (dep (w * y + x)) x y := by
  unfold hitM; rw [px_mod y hx, px_div y hx]
theorem depM_at {X Y Z : Nat → Int32} {w x y : Nat} (hx : x < w) : depM X Y Z w (w * y + x) = (DP X Y Z (16 * (nI x).toInt64 + 8) (16 * (nI y).toInt64 + 8)).toInt32 := by
  unfold depM; rw [px_mod y hx, px_div y hx]
theorem mx_inj {w k n : Nat} (hw0 : 0 < w) (hw : w ≤ 24) (h : mx w k = mx w n) : k = n := by
  unfold mx at h
  have h1 := Nat.mod_lt k hw0
  have h2 := Nat.mod_lt n hw0
  have h3 : k / w = n / w := by omega
  have h4 : k % w = n % w := by omega
  rw [← Nat.div_add_mod k w, ← Nat.div_add_mod n w, h3, h4]
theorem CV_A {X Y : Nat → Int32} {px py : Int64} (h : CV X Y px py) : ¬ AZ X Y = 0 := fun q => by
  rcases h with h | h
  · have := h.1; rw [q] at this; exact absurd this (by decide)
  · have := h.2.1; rw [q] at this; exact absurd this (by decide)
set_option maxHeartbeats 4000000 in
set_option maxRecDepth 100000 in
theorem c_TM_triangle (l : Launch) (D : va_G) (ta : Nat → ClassId) (w h : Nat) (a : Nat → Nat) (col dep xs ys zs : Nat → Int32) (v : Int32) (hw0 : 0 < w) (hw : w ≤ 24) (hh : h ≤ 24) : Cti l y_TM_triangle b_TM_triangle 5 .int rm_TM_triangle D ta [.ref (a 0), .int (v)] [(a 0, oTM w h a), (a 2, cI ta 576 (col)), (a 3, cI ta 576 (dep)), (a 4, cI ta 3 (xs)), (a 5, cI ta 3 (ys)), (a 6, cI ta 3 (zs))] (fun u : (Nat → Int32) × (Nat → Int32) => [(a 0, oTM w h a), (a 2, cI ta 576 (u.1)), (a 3, cI ta 576 (u.2)), (a 4, cI ta 3 (xs)), (a 5, cI ta 3 (ys)), (a 6, cI ta 3 (zs))]) (fun r u => r = nI (cn (hitM xs ys zs w (fun k => dep (mx w k))) (w * h)) ∧ pixd (hitM xs ys zs w (fun k => dep (mx w k))) (fun _ => v) (fun k => col (mx w k)) (fun k => u.1 (mx w k)) (w * h) ∧ pixd (hitM xs ys zs w (fun k => dep (mx w k))) (depM xs ys zs w) (fun k => dep (mx w k)) (fun k => u.2 (mx w k)) (w * h)) := by
  have hwh : w * h ≤ 576 := Nat.mul_le_mul hw hh
  refine start_i rfl (Nat.le_of_ble_eq_true rfl) (fun G C hret => ?_)
  show G 0 [(0, .ref (a 0)), (1, .int (v))] [] [(a 0, oTM w h a), (a 2, cI ta 576 (col)), (a 3, cI ta 576 (dep)), (a 4, cI ta 3 (xs)), (a 5, cI ta 3 (ys)), (a 6, cI ta 3 (zs))]
  refine rx_iconst C (nI 0) (by decide) d_TM_triangle_0 ?_
  refine rx_istore_n C (Nat.le_of_ble_eq_true rfl) [1, 2, 0] (lv' := [(0, .ref (a 0)), (1, .int (v)), (2, .int (nI (0)))]) rfl d_TM_triangle_1 ?_
  refine rx_iconst C (nI 0) (by decide) d_TM_triangle_2 ?_
  refine rx_istore_n C (Nat.le_of_ble_eq_true rfl) [1, 2, 3, 0] (lv' := [(0, .ref (a 0)), (1, .int (v)), (2, .int (nI (0))), (3, .int (nI (0)))]) rfl d_TM_triangle_3 ?_
  have loop : ∀ (n : Nat) (y : Nat) (col9 dep9 : Nat → Int32), h - y < n → (y ≤ h) → (pixd (hitM xs ys zs w (fun k => dep (mx w k))) (fun _ => v) (fun k => col (mx w k)) (fun k => col9 (mx w k)) (w * y) ∧ pixd (hitM xs ys zs w (fun k => dep (mx w k))) (depM xs ys zs w) (fun k => dep (mx w k)) (fun k => dep9 (mx w k)) (w * y)) → G 4 [(0, .ref (a 0)), (1, .int (v)), (2, .int (nI (cn (hitM xs ys zs w (fun k => dep (mx w k))) (w * y)))), (3, .int (nI (y)))] [] [(a 0, oTM w h a), (a 2, cI ta 576 (col9)), (a 3, cI ta 576 (dep9)), (a 4, cI ta 3 (xs)), (a 5, cI ta 3 (ys)), (a 6, cI ta 3 (zs))] := by
    intro n
    induction n with
    | zero => intro y col9 dep9 hm; exact absurd hm (Nat.not_lt_zero _)
    | succ n ih =>
      intro y col9 dep9 hm hy hI
      refine rx_iload_n C 3 rfl d_TM_triangle_4 ?_
      refine rx_aload_n C 0 rfl d_TM_triangle_5 ?_
      refine rx_get C 0 1 i_TM rfl rfl (by decide) g_189 rfl rfl d_TM_triangle_6 ?_
      refine rx_icmp_geN C (by omega) (by omega) d_TM_triangle_9 (fun c9 => ?_) (fun c9 => ?_)
      · skip
        refine rx_iload_n C 2 rfl d_TM_triangle_103 ?_
        obtain rfl : y = h := by omega
        exact hret _ _ _ _ (col9, dep9) d_TM_triangle_104 (rfl) (⟨rfl, hI⟩)
      · skip
        refine rx_iconst C (nI 0) (by decide) d_TM_triangle_12 ?_
        refine rx_istore C (Nat.le_of_ble_eq_true rfl) [1, 2, 3, 4, 0] (lv' := [(0, .ref (a 0)), (1, .int (v)), (2, .int (nI (cn (hitM xs ys zs w (fun k => dep (mx w k))) (w * y)))), (3, .int (nI (y))), (4, .int (nI (0)))]) rfl d_TM_triangle_13 ?_
        have loop2 : ∀ (n2 : Nat) (x : Nat) (col8 dep8 : Nat → Int32), w - x < n2 → (x ≤ w) → (pixd (hitM xs ys zs w (fun k => dep (mx w k))) (fun _ => v) (fun k => col (mx w k)) (fun k => col8 (mx w k)) (w * y + x) ∧ pixd (hitM xs ys zs w (fun k => dep (mx w k))) (depM xs ys zs w) (fun k => dep (mx w k)) (fun k => dep8 (mx w k)) (w * y + x)) → G 15 [(0, .ref (a 0)), (1, .int (v)), (2, .int (nI (cn (hitM xs ys zs w (fun k => dep (mx w k))) (w * y + x)))), (3, .int (nI (y))), (4, .int (nI (x)))] [] [(a 0, oTM w h a), (a 2, cI ta 576 (col8)), (a 3, cI ta 576 (dep8)), (a 4, cI ta 3 (xs)), (a 5, cI ta 3 (ys)), (a 6, cI ta 3 (zs))] := by
          intro n2
          induction n2 with
          | zero => intro x col8 dep8 hm; exact absurd hm (Nat.not_lt_zero _)
          | succ n2 ih2 =>
            intro x col8 dep8 hm2 hx hJ
            refine rx_iload C 4 rfl d_TM_triangle_15 ?_
            refine rx_aload_n C 0 rfl d_TM_triangle_17 ?_
            refine rx_get C 0 0 i_TM rfl rfl (by decide) g_188 rfl rfl d_TM_triangle_18 ?_
            refine rx_icmp_geN C (by omega) (by omega) d_TM_triangle_21 (fun c21 => ?_) (fun c21 => ?_)
            · skip
              obtain rfl : w = x := by omega
              show G 97 [(0, .ref (a 0)), (1, .int (v)), (2, .int (nI (cn (hitM xs ys zs w (fun k => dep (mx w k))) (w * y + w)))), (3, .int (nI (y))), (4, .int (nI (w)))] [] [(a 0, oTM w h a), (a 2, cI ta 576 (col8)), (a 3, cI ta 576 (dep8)), (a 4, cI ta 3 (xs)), (a 5, cI ta 3 (ys)), (a 6, cI ta 3 (zs))]
              refine rx_iinc C 3 rfl (nI (y + 1)) (nI_add _ _) (Nat.le_of_ble_eq_true rfl) [1, 2, 3, 0, 4] (lv' := [(0, .ref (a 0)), (1, .int (v)), (2, .int (nI (cn (hitM xs ys zs w (fun k => dep (mx w k))) (w * y + w)))), (3, .int (nI (y + 1))), (4, .int (nI (w)))]) rfl d_TM_triangle_97 ?_
              refine rx_goto C d_TM_triangle_100 ?_
              rw [← Nat.mul_succ] at hJ ⊢
              exact rx_lv C [0, 1, 2, 3] rfl (ih (y + 1) col8 dep8 (by omega) (by omega) hJ)
            · skip
              have hmx : mx w (w * y + x) = 24 * y + x := mx_eq y c21
              have K : ∀ (col7 dep7 : Nat → Int32), (pixd (hitM xs ys zs w (fun k => dep (mx w k))) (fun _ => v) (fun k => col (mx w k)) (fun k => col7 (mx w k)) (w * y + x + 1) ∧ pixd (hitM xs ys zs w (fun k => dep (mx w k))) (depM xs ys zs w) (fun k => dep (mx w k)) (fun k => dep7 (mx w k)) (w * y + x + 1)) → G 91 [(0, .ref (a 0)), (1, .int (v)), (2, .int (nI (cn (hitM xs ys zs w (fun k => dep (mx w k))) (w * y + x + 1)))), (3, .int (nI (y))), (4, .int (nI (x)))] [] [(a 0, oTM w h a), (a 2, cI ta 576 (col7)), (a 3, cI ta 576 (dep7)), (a 4, cI ta 3 (xs)), (a 5, cI ta 3 (ys)), (a 6, cI ta 3 (zs))] := by
                intro col7 dep7 hL
                refine rx_iinc C 4 rfl (nI (x + 1)) (nI_add _ _) (Nat.le_of_ble_eq_true rfl) [1, 2, 3, 4, 0] (lv' := [(0, .ref (a 0)), (1, .int (v)), (2, .int (nI (cn (hitM xs ys zs w (fun k => dep (mx w k))) (w * y + x + 1)))), (3, .int (nI (y))), (4, .int (nI (x + 1)))]) rfl d_TM_triangle_91 ?_
                refine rx_goto C d_TM_triangle_94 ?_
                exact ih2 (x + 1) col7 dep7 (by omega) (by omega) hL
              refine rx_aload_n C 0 rfl d_TM_triangle_24 ?_
              refine rx_iload C 4 rfl d_TM_triangle_25 ?_
              refine rx_iload_n C 3 rfl d_TM_triangle_27 ?_
              refine rx_callVi C (c_TM_isCovered l D ta w h a xs ys (nI x) (nI y)) cw_TM_62 ⟨rfl, rfl, by decide, by decide⟩ rfl [0, 3, 4] rfl rfl (q0 := 0) rfl rfl rfl [] rfl (Nat.le_of_ble_eq_true rfl) (fun _ => rfl) d_TM_triangle_28 (fun r0 u0 h0 => ?_)
              refine rx_ws (ws' := [(a 0, oTM w h a), (a 2, cI ta 576 (col8)), (a 3, cI ta 576 (dep8)), (a 4, cI ta 3 (xs)), (a 5, cI ta 3 (ys)), (a 6, cI ta 3 (zs))]) ?_ rfl
              rcases h0 with ⟨rfl, p0⟩ | ⟨rfl, p0⟩
              · skip
                show G 31 [(0, .ref (a 0)), (1, .int (v)), (2, .int (nI (cn (hitM xs ys zs w (fun k => dep (mx w k))) (w * y + x)))), (3, .int (nI (y))), (4, .int (nI (x)))] [.int (nI (1))] [(a 0, oTM w h a), (a 2, cI ta 576 (col8)), (a 3, cI ta 576 (dep8)), (a 4, cI ta 3 (xs)), (a 5, cI ta 3 (ys)), (a 6, cI ta 3 (zs))]
                refine rx_if_eqN C (by omega) d_TM_triangle_31 (fun c31 => by exfalso; omega) (fun c31 => ?_)
                refine rx_aload_n C 0 rfl d_TM_triangle_34 ?_
                refine rx_get C 0 3 i_TM rfl rfl (by decide) g_191 rfl rfl d_TM_triangle_35 ?_
                refine rx_bipush C (nI 24) (by decide) d_TM_triangle_38 ?_
                refine rx_iload_n C 3 rfl d_TM_triangle_40 ?_
                refine rx_imulN C d_TM_triangle_41 ?_
                refine rx_iload C 4 rfl d_TM_triangle_42 ?_
                refine rx_iaddN C d_TM_triangle_44 ?_
                refine rx_iald C 2 rfl (by decide) ((24 * y) + x) (rfl) (by omega) d_TM_triangle_45 ?_
                refine rx_aload_n C 0 rfl d_TM_triangle_46 ?_
                refine rx_iload C 4 rfl d_TM_triangle_47 ?_
                refine rx_iload_n C 3 rfl d_TM_triangle_49 ?_
                refine rx_callVi C (c_TM_depthOf l D ta w h a xs ys zs (nI x) (nI y) (CV_A p0)) cw_TM_65 ⟨rfl, rfl, by decide, by decide⟩ rfl [0, 3, 4, 5] rfl rfl (q0 := 0) rfl rfl rfl [.int (dep8 ((24 * y) + x))] rfl (Nat.le_of_ble_eq_true rfl) (fun _ => rfl) d_TM_triangle_50 (fun r1 u1 h1 => ?_)
                subst h1
                refine rx_ws (ws' := [(a 0, oTM w h a), (a 2, cI ta 576 (col8)), (a 3, cI ta 576 (dep8)), (a 4, cI ta 3 (xs)), (a 5, cI ta 3 (ys)), (a 6, cI ta 3 (zs))]) ?_ rfl
                have hd8 : dep8 (24 * y + x) = dep (mx w (w * y + x)) := by rw [← hmx]; exact (hJ.2 (w * y + x)).2 (fun q => absurd q.1 (Nat.lt_irrefl _))
                refine rx_icmp_le C d_TM_triangle_53 (fun c53 => ?_) (fun c53 => ?_)
                · skip
                  have hh9 : ¬ hitM xs ys zs w (fun k => dep (mx w k)) (w * y + x) := fun q => absurd ((hitM_at c21).mp q).2 (tlt32 (by rw [← hd8]; exact c53))
                  rw [← cn_n hh9]
                  exact K _ _ ⟨pixd_n hJ.1 hh9, pixd_n hJ.2 hh9⟩
                · skip
                  refine rx_aload_n C 0 rfl d_TM_triangle_56 ?_
                  refine rx_get C 0 2 i_TM rfl rfl (by decide) g_190 rfl rfl d_TM_triangle_57 ?_
                  refine rx_bipush C (nI 24) (by decide) d_TM_triangle_60 ?_
                  refine rx_iload_n C 3 rfl d_TM_triangle_62 ?_
                  refine rx_imulN C d_TM_triangle_63 ?_
                  refine rx_iload C 4 rfl d_TM_triangle_64 ?_
                  refine rx_iaddN C d_TM_triangle_66 ?_
                  refine rx_iload_n C 1 rfl d_TM_triangle_67 ?_
                  refine rx_iast C 1 rfl (by decide) ((24 * y) + x) (rfl) (by omega) (ws' := [(a 0, oTM w h a), (a 2, cI ta 576 (upd col8 ((24 * y) + x) v)), (a 3, cI ta 576 (dep8)), (a 4, cI ta 3 (xs)), (a 5, cI ta 3 (ys)), (a 6, cI ta 3 (zs))]) rfl d_TM_triangle_68 ?_
                  refine rx_aload_n C 0 rfl d_TM_triangle_69 ?_
                  refine rx_get C 0 3 i_TM rfl rfl (by decide) g_191 rfl rfl d_TM_triangle_70 ?_
                  refine rx_bipush C (nI 24) (by decide) d_TM_triangle_73 ?_
                  refine rx_iload_n C 3 rfl d_TM_triangle_75 ?_
                  refine rx_imulN C d_TM_triangle_76 ?_
                  refine rx_iload C 4 rfl d_TM_triangle_77 ?_
                  refine rx_iaddN C d_TM_triangle_79 ?_
                  refine rx_aload_n C 0 rfl d_TM_triangle_80 ?_
                  refine rx_iload C 4 rfl d_TM_triangle_81 ?_
                  refine rx_iload_n C 3 rfl d_TM_triangle_83 ?_
                  refine rx_callVi C (c_TM_depthOf l D ta w h a xs ys zs (nI x) (nI y) (CV_A p0)) cw_TM_65 ⟨rfl, rfl, by decide, by decide⟩ rfl [0, 3, 4, 5] rfl rfl (q0 := 0) rfl rfl rfl [.int (nI ((24 * y) + x)), .ref (a 3)] rfl (Nat.le_of_ble_eq_true rfl) (fun _ => rfl) d_TM_triangle_84 (fun r2 u2 h2 => ?_)
                  subst h2
                  refine rx_ws (ws' := [(a 0, oTM w h a), (a 2, cI ta 576 (upd col8 ((24 * y) + x) v)), (a 3, cI ta 576 (dep8)), (a 4, cI ta 3 (xs)), (a 5, cI ta 3 (ys)), (a 6, cI ta 3 (zs))]) ?_ rfl
                  refine rx_iast C 2 rfl (by decide) ((24 * y) + x) (rfl) (by omega) (ws' := [(a 0, oTM w h a), (a 2, cI ta 576 (upd col8 ((24 * y) + x) v)), (a 3, cI ta 576 (upd dep8 ((24 * y) + x) ((DP xs ys zs (16 * (nI x).toInt64 + 8) (16 * (nI y).toInt64 + 8)).toInt32))), (a 4, cI ta 3 (xs)), (a 5, cI ta 3 (ys)), (a 6, cI ta 3 (zs))]) rfl d_TM_triangle_87 ?_
                  refine rx_iinc C 2 rfl (nI (cn (hitM xs ys zs w (fun k => dep (mx w k))) (w * y + x) + 1)) (nI_add _ _) (Nat.le_of_ble_eq_true rfl) [1, 2, 0, 3, 4] (lv' := [(0, .ref (a 0)), (1, .int (v)), (2, .int (nI (cn (hitM xs ys zs w (fun k => dep (mx w k))) (w * y + x) + 1))), (3, .int (nI (y))), (4, .int (nI (x)))]) rfl d_TM_triangle_88 ?_
                  have hh9 : hitM xs ys zs w (fun k => dep (mx w k)) (w * y + x) := (hitM_at c21).mpr ⟨p0, by rw [← hd8]; exact nle32 c53⟩
                  have e1 : ∀ k, k ≠ w * y + x → mx w k ≠ 24 * y + x := fun k hk q => hk (mx_inj hw0 hw (q.trans hmx.symm))
                  rw [← cn_y hh9]
                  exact K _ _ ⟨pixd_y hJ.1 hh9 (by show upd _ _ _ _ = _; rw [hmx, pk_us]) (fun k hk => pk_un (e1 k hk)), pixd_y hJ.2 hh9 (by show upd _ _ _ _ = _; rw [hmx, pk_us, depM_at c21]) (fun k hk => pk_un (e1 k hk))⟩
              · skip
                show G 31 [(0, .ref (a 0)), (1, .int (v)), (2, .int (nI (cn (hitM xs ys zs w (fun k => dep (mx w k))) (w * y + x)))), (3, .int (nI (y))), (4, .int (nI (x)))] [.int (nI (0))] [(a 0, oTM w h a), (a 2, cI ta 576 (col8)), (a 3, cI ta 576 (dep8)), (a 4, cI ta 3 (xs)), (a 5, cI ta 3 (ys)), (a 6, cI ta 3 (zs))]
                refine rx_if_eqN C (by omega) d_TM_triangle_31 (fun c31 => ?_) (fun c31 => by exfalso; omega)
                have hh9 : ¬ hitM xs ys zs w (fun k => dep (mx w k)) (w * y + x) := fun q => p0 ((hitM_at c21).mp q).1
                rw [← cn_n hh9]
                exact K _ _ ⟨pixd_n hJ.1 hh9, pixd_n hJ.2 hh9⟩
        exact loop2 _ 0 col9 dep9 (Nat.lt_succ_self _) (Nat.zero_le _) hI
  exact loop _ 0 col dep (Nat.lt_succ_self _) (Nat.zero_le _) ⟨pixd_0, pixd_0⟩
end
section
/-! ===== lines, plainly ===== -/
theorem rx_gen {G : GT} {pc : Nat} {lv : List (Nat × Value)} {st : List Value} {ws : va_W} {x : Int32} (k : ∀ y : Int32, y = x → G pc lv (.int y :: st) ws) : G pc lv (.int x :: st) ws := k x rfl
theorem add_toInt {x y : Int32} (h1 : -2147483648 ≤ x.toInt + y.toInt) (h2 : x.toInt + y.toInt < 2147483648) : (x + y).toInt = x.toInt + y.toInt := by
  rw [Int32.toInt_add, Int.bmod_eq_of_le] <;> omega
theorem sub_toInt {x y : Int32} (h1 : -2147483648 ≤ x.toInt - y.toInt) (h2 : x.toInt - y.toInt < 2147483648) : (x - y).toInt = x.toInt - y.toInt := by
  rw [Int32.toInt_sub, Int.bmod_eq_of_le] <;> omega
theorem far_toInt {x : Int32} (h : ¬ farP x) : -16384 ≤ x.toInt ∧ x.toInt ≤ 16384 := by
  have h1 := mt Or.inl h
  have h2 := mt Or.inr h
  have h3 := Int32.le_iff_toInt_le.mp (nlt32 h1)
  have h4 := Int32.le_iff_toInt_le.mp (nlt32 h2)
  exact ⟨h3, h4⟩
def adN (x0 x1 : Int32) : Nat := (x1 - x0).toInt.natAbs
theorem dif_toInt {x0 x1 : Int32} (h0 : ¬ farP x0) (h1 : ¬ farP x1) : (x1 - x0).toInt = x1.toInt - x0.toInt := by
  have a0 := far_toInt h0
  have a1 := far_toInt h1
  exact sub_toInt (by omega) (by omega)
theorem dif_le {x0 x1 : Int32} (h0 : ¬ farP x0) (h1 : ¬ farP x1) : -32768 ≤ (x1 - x0).toInt ∧ (x1 - x0).toInt ≤ 32768 := by
  have a0 := far_toInt h0
  have a1 := far_toInt h1
  rw [dif_toInt h0 h1]; omega
theorem adN_le {x0 x1 : Int32} (h0 : ¬ farP x0) (h1 : ¬ farP x1) : adN x0 x1 ≤ 32768 := by
  have := dif_le h0 h1
  unfold adN; omega
theorem of_toInt {x : Int32} {n : Nat} (h : x.toInt = n) (hn : n < 2 ^ 31) : x = nI n := Int32.toInt_inj.mp (by rw [h, nI_toInt hn])
theorem abs_ad {x0 x1 : Int32} (h0 : ¬ farP x0) (h1 : ¬ farP x1) : (if 0 ≤ x1 - x0 then x1 - x0 else 0 - (x1 - x0)) = nI (adN x0 x1) := by
  have hl := dif_le h0 h1
  have hz : (0 : Int32).toInt = 0 := rfl
  split
  · rename_i h
    have h := Int32.le_iff_toInt_le.mp h
    exact of_toInt (by unfold adN; omega) (by unfold adN; omega)
  · rename_i h
    have h : ¬ (0 : Int32).toInt ≤ (x1 - x0).toInt := fun q => h (Int32.le_iff_toInt_le.mpr q)
    refine of_toInt ?_ (by unfold adN; omega)
    rw [sub_toInt (by omega) (by omega)]
    unfold adN; omega
theorem abs_ad2 {x0 x1 : Int32} (h0 : ¬ farP x0) (h1 : ¬ farP x1) (h : ¬ x0 ≤ x1) : x0 - x1 = nI (adN x0 x1) := by
  have a0 := far_toInt h0
  have a1 := far_toInt h1
  have h : ¬ x0.toInt ≤ x1.toInt := fun q => h (Int32.le_iff_toInt_le.mpr q)
  have e1 := dif_toInt h0 h1
  have e2 := dif_toInt h1 h0
  exact of_toInt (by unfold adN; omega) (by unfold adN; omega)
theorem abs_ad3 {x0 x1 : Int32} (h0 : ¬ farP x0) (h1 : ¬ farP x1) (h : x0 ≤ x1) : x1 - x0 = nI (adN x0 x1) := by
  have a0 := far_toInt h0
  have a1 := far_toInt h1
  have h : x0.toInt ≤ x1.toInt := Int32.le_iff_toInt_le.mp h
  have e1 := dif_toInt h0 h1
  exact of_toInt (by unfold adN; omega) (by unfold adN; omega)
theorem sgn_bits {v : Int32} (h1 : -32768 ≤ v.toInt) (h2 : v.toInt ≤ 32768) : ((v >>> (nI 31 &&& 31)) ||| ((-v).toUInt32 >>> ((nI 31).toUInt32 &&& Int32.toUInt32 31)).toInt32) = sgn v := by
  have hz : (0 : Int32).toInt = 0 := rfl
  have hb : ((-v).toUInt32 >>> ((nI 31).toUInt32 &&& Int32.toUInt32 31)).toInt32.toBitVec.toNat = (-v).toBitVec.toNat / 2 ^ 31 := pk_ushr (-v) (nI 31) 31 (by decide)
  have ha : (v >>> (nI 31 &&& 31)).toInt = v.toInt >>> 31 := pk_shr v (nI 31 &&& 31) 31 (by decide)
  have hn : (-v).toBitVec.toNat = (4294967296 - v.toBitVec.toNat) % 4294967296 := by
    show (-v.toBitVec).toNat = _
    rw [BitVec.toNat_neg]
  have hv : v.toInt = if 2 * v.toBitVec.toNat < 2 ^ 32 then (v.toBitVec.toNat : Int) else (v.toBitVec.toNat : Int) - 2 ^ 32 := BitVec.toInt_eq_toNat_cond v.toBitVec
  have hlt : v.toBitVec.toNat < 4294967296 := v.toBitVec.isLt
  have sh : v.toInt >>> 31 = v.toInt / 2147483648 := by rw [Int.shiftRight_eq_div_pow]; rfl
  rw [sh] at ha
  unfold sgn
  by_cases c1 : v < 0
  · rw [if_pos c1]
    have c1 := Int32.lt_iff_toInt_lt.mp c1
    rw [hz] at c1
    have e1 : v >>> (nI 31 &&& 31) = -1 := Int32.toInt_inj.mp (by rw [ha]; show _ = (-1 : Int); omega)
    rw [e1]
    apply Int32.toBitVec_inj.mp
    show (-1 : Int32).toBitVec ||| _ = _
    rw [show (-1 : Int32).toBitVec = BitVec.allOnes 32 from by decide, BitVec.allOnes_or]
  · rw [if_neg c1]
    have c1 := mt Int32.lt_iff_toInt_lt.mpr c1
    rw [hz] at c1
    have e1 : v >>> (nI 31 &&& 31) = 0 := Int32.toInt_inj.mp (by rw [ha]; show _ = (0 : Int); omega)
    rw [e1]
    have e3 : ∀ z : Int32, (0 : Int32) ||| z = z := fun z => Int32.toBitVec_inj.mp (by show (0 : BitVec 32) ||| _ = _; exact BitVec.zero_or)
    rw [e3]
    split at hv
    · by_cases c2 : 0 < v
      · rw [if_pos c2]
        have c2 := Int32.lt_iff_toInt_lt.mp c2
        rw [hz] at c2
        apply Int32.toBitVec_inj.mp
        apply BitVec.eq_of_toNat_eq
        rw [hb, hn]
        show _ = 1
        omega
      · rw [if_neg c2]
        have c2 := mt Int32.lt_iff_toInt_lt.mpr c2
        rw [hz] at c2
        apply Int32.toBitVec_inj.mp
        apply BitVec.eq_of_toNat_eq
        rw [hb, hn]
        show _ = 0
        omega
    · omega
def othN (n m k : Nat) : Nat := if n = 0 then 0 else (2 * k * m + n - 1) / (2 * n)
def lnP (z0 z1 : Int32) (j : Nat) : Int32 := z0 + sgn (z1 - z0) * nI j
theorem lnP_0 (z0 z1 : Int32) : z0 = lnP z0 z1 0 := by unfold lnP; rw [nI_0, Int32.mul_zero, Int32.add_zero]
theorem lnP_s (z0 z1 : Int32) (j : Nat) : lnP z0 z1 j + sgn (z1 - z0) = lnP z0 z1 (j + 1) := by
  unfold lnP; rw [nI_succ, Int32.mul_add, Int32.mul_one, Int32.add_assoc]
/-- the error carried along -/
def erI (n m k : Nat) (e : Int32) (O : Nat) : Prop := e.toInt + 2 * (n * O : Nat) = n - 1 + 2 * (k * m : Nat) ∧ (n = 0 → O = 0 ∧ e.toInt = -1) ∧ (0 < n → 0 ≤ e.toInt ∧ e.toInt < 2 * n)
theorem erI_0 {n m : Nat} {e : Int32} (hn : n ≤ 32768) (he : e = nI n - nI 1) : erI n m 0 e 0 := by
  subst he
  have h1 : (nI n - nI 1).toInt = n - 1 := by
    rw [sub_toInt] <;> rw [nI_toInt (by omega), nI_toInt (by omega)] <;> omega
  unfold erI
  rw [h1, Nat.mul_zero, Nat.zero_mul]
  refine ⟨by omega, fun h => ⟨rfl, by omega⟩, fun h => ⟨by omega, by omega⟩⟩
theorem erI_oth {n m k O : Nat} {e : Int32} (h : erI n m k e O) : O = othN n m k := by
  unfold othN
  obtain ⟨h1, h2, h3⟩ := h
  split
  · rename_i hn; exact (h2 hn).1
  · rename_i hn
    have h3 := h3 (by omega)
    have e1 : 2 * k * m = 2 * (k * m) := Nat.mul_assoc 2 k m
    rw [e1]
    symm
    apply Nat.div_eq_of_lt_le
    · rw [Nat.mul_comm O, Nat.mul_assoc]; omega
    · rw [Nat.add_mul, Nat.one_mul, Nat.mul_comm O, Nat.mul_assoc]; omega
theorem er_add {n m k O : Nat} {e : Int32} (hn : n ≤ 32768) (hm : m ≤ n) (h : erI n m k e O) : (e + nI (2 * m)).toInt = e.toInt + 2 * m := by
  obtain ⟨h1, h2, h3⟩ := h
  have hb : -1 ≤ e.toInt ∧ e.toInt < 65537 := by
    rcases Nat.eq_zero_or_pos n with q | q
    · have := h2 q; omega
    · have := h3 q; omega
  rw [add_toInt] <;> rw [nI_toInt (by omega)] <;> omega
theorem erI_lo {n m k O : Nat} {e : Int32} (hn : n ≤ 32768) (hm : m ≤ n) (h : erI n m k e O) (c : e + nI (2 * m) < nI (2 * n)) : erI n m (k + 1) (e + nI (2 * m)) O := by
  have h0 := er_add hn hm h
  have c := Int32.lt_iff_toInt_lt.mp c
  rw [h0, nI_toInt (by omega)] at c
  obtain ⟨h1, h2, h3⟩ := h
  unfold erI
  rw [h0, Nat.succ_mul]
  refine ⟨by omega, fun q => ?_, fun q => ?_⟩
  · have := h2 q; omega
  · have := h3 q; omega
theorem erI_hi {n m k O : Nat} {e : Int32} (hn : n ≤ 32768) (hm : m ≤ n) (h : erI n m k e O) (c : nI (2 * n) ≤ e + nI (2 * m)) : erI n m (k + 1) (e + nI (2 * m) - nI (2 * n)) (O + 1) := by
  have h0 := er_add hn hm h
  have c := Int32.le_iff_toInt_le.mp c
  rw [h0, nI_toInt (by omega)] at c
  obtain ⟨h1, h2, h3⟩ := h
  have hb : -1 ≤ e.toInt ∧ e.toInt < 65537 := by
    rcases Nat.eq_zero_or_pos n with q | q
    · have := h2 q; omega
    · have := h3 q; omega
  have e9 : (e + nI (2 * m) - nI (2 * n)).toInt = e.toInt + 2 * m - 2 * n := by
    rw [sub_toInt] <;> rw [h0, nI_toInt (by omega)] <;> omega
  unfold erI
  rw [e9, Nat.succ_mul, Nat.mul_succ]
  refine ⟨by omega, fun q => ?_, fun q => ?_⟩
  · have := h2 q; omega
  · have := h3 q; omega
/-- pixel p is met by one of the first k points -/
def LHIT (LX LY : Nat → Int32) (w k p : Nat) : Prop := ∃ j, j < k ∧ LX j = nI (p % w) ∧ LY j = nI (p / w)
def pnt (LX LY : Nat → Int32) (w h : Nat) (v : Int32) (f0 f : Nat → Int32) (k : Nat) : Prop := ∀ p, p < w * h → (LHIT LX LY w k p → f p = v) ∧ (¬ LHIT LX LY w k p → f p = f0 p)
theorem pnt_0 {LX LY : Nat → Int32} {w h : Nat} {v : Int32} {f0 : Nat → Int32} : pnt LX LY w h v f0 f0 0 := fun p _ => ⟨fun ⟨j, hj, _⟩ => absurd hj (Nat.not_lt_zero _), fun _ => rfl⟩
theorem pnt_n {LX LY : Nat → Int32} {w h k : Nat} {v : Int32} {f0 f : Nat → Int32} (hw0 : 0 < w) (hp : pnt LX LY w h v f0 f k) (hn : ¬ isPx w h (LX k) (LY k)) : pnt LX LY w h v f0 f (k + 1) := fun p hlt => by
  refine ⟨fun ⟨j, hj, e1, e2⟩ => ?_, fun q => (hp p hlt).2 (fun ⟨j, hj, e⟩ => q ⟨j, by omega, e⟩)⟩
  rcases Nat.lt_or_ge j k with c | c
  · exact (hp p hlt).1 ⟨j, c, e1, e2⟩
  · rw [show j = k by omega] at e1 e2
    exact absurd ⟨p % w, p / w, Nat.mod_lt _ hw0, Nat.div_lt_of_lt_mul hlt, e1, e2⟩ hn
theorem pnt_y {LX LY : Nat → Int32} {w h k i j : Nat} {v : Int32} {f0 f f' : Nat → Int32} (hw0 : 0 < w) (hw : w ≤ 24) (hh : h ≤ 24) (hp : pnt LX LY w h v f0 f k) (hi : i < w) (hj : j < h) (e1 : LX k = nI i) (e2 : LY k = nI j) (u1 : f' (w * j + i) = v) (u2 : ∀ p, p ≠ w * j + i → f' p = f p) : pnt LX LY w h v f0 f' (k + 1) := fun p hlt => by
  have m1 := Nat.mod_lt p hw0
  have m2 : p / w < h := Nat.div_lt_of_lt_mul hlt
  by_cases hpk : p = w * j + i
  · subst hpk
    refine ⟨fun _ => u1, fun q => absurd ⟨k, by omega, ?_, ?_⟩ q⟩
    · rw [px_mod j hi]; exact e1
    · rw [px_div j hi]; exact e2
  · rw [u2 p hpk]
    refine ⟨fun ⟨t, ht, c1, c2⟩ => ?_, fun q => (hp p hlt).2 (fun ⟨t, ht, e⟩ => q ⟨t, by omega, e⟩)⟩
    rcases Nat.lt_or_ge t k with c | c
    · exact (hp p hlt).1 ⟨t, c, c1, c2⟩
    · rw [show t = k by omega, e1, nI_eq (by omega) (by omega)] at c1
      rw [show t = k by omega, e2, nI_eq (by omega) (by omega)] at c2
      exact absurd (by rw [← Nat.div_add_mod p w, ← c1, ← c2]) hpk
def flB (x0 y0 x1 y1 : Int32) : Prop := adN y0 y1 ≤ adN x0 x1
/-- the law of a line: what it answers, what it paints (f, f' by pixels) -/
def lineP (w h : Nat) (x0 y0 x1 y1 v : Int32) (f0 f : Nat → Int32) (r : Int32) : Prop :=
  ((farP x0 ∨ farP y0 ∨ farP x1 ∨ farP y1) ∧ r = -1 ∧ f = f0) ∨
  (¬ farP x0 ∧ ¬ farP y0 ∧ ¬ farP x1 ∧ ¬ farP y1 ∧
    ((flB x0 y0 x1 y1 ∧ r = nI (cn (fun k => isPx w h (lnP x0 x1 k) (lnP y0 y1 (othN (adN x0 x1) (adN y0 y1) k))) (adN x0 x1 + 1)) ∧ pnt (fun k => lnP x0 x1 k) (fun k => lnP y0 y1 (othN (adN x0 x1) (adN y0 y1) k)) w h v f0 f (adN x0 x1 + 1)) ∨
     (¬ flB x0 y0 x1 y1 ∧ r = nI (cn (fun k => isPx w h (lnP x0 x1 (othN (adN y0 y1) (adN x0 x1) k)) (lnP y0 y1 k)) (adN y0 y1 + 1)) ∧ pnt (fun k => lnP x0 x1 (othN (adN y0 y1) (adN x0 x1) k)) (fun k => lnP y0 y1 k) w h v f0 f (adN y0 y1 + 1))))
set_option maxHeartbeats 4000000 in
set_option maxRecDepth 100000 in
theorem c_TR_line (l : Launch) (D : va_G) (ta : Nat → ClassId) (w h : Nat) (a : Nat → Nat) (f : Nat → Int32) (x0 y0 x1 y1 v : Int32) (hw0 : 0 < w) (hw : w ≤ 24) (hh : h ≤ 24) : Cti l y_TR_line b_TR_line 19 .int rm_TR_line D ta [.ref (a 0), .int (x0), .int (y0), .int (x1), .int (y1), .int (v)] [(a 0, oTR w h a), (a 2, cI ta 576 (f))] (fun u : Nat → Int32 => [(a 0, oTR w h a), (a 2, cI ta 576 (u))]) (fun r u => lineP w h x0 y0 x1 y1 v f u r) := by
  have hwh : w * h ≤ 576 := Nat.mul_le_mul hw hh
  refine start_i rfl (Nat.le_of_ble_eq_true rfl) (fun G C hret => ?_)
  show G 0 [(0, .ref (a 0)), (1, .int (x0)), (2, .int (y0)), (3, .int (x1)), (4, .int (y1)), (5, .int (v))] [] [(a 0, oTR w h a), (a 2, cI ta 576 (f))]
  refine rx_iload_n C 1 rfl d_TR_line_0 ?_
  refine rx_callSi C (c_TR_isFar l D ta x0) cw_TR_52 ⟨rfl, rfl, by decide, by decide⟩ rfl [] rfl rfl [] rfl (Nat.le_of_ble_eq_true rfl) (fun _ => rfl) d_TR_line_1 (fun r0 u0 h0 => ?_)
  refine rx_ws (ws' := [(a 0, oTR w h a), (a 2, cI ta 576 (f))]) ?_ rfl
  rcases h0 with ⟨rfl, p0⟩ | ⟨rfl, p0⟩
  · skip
    show G 4 [(0, .ref (a 0)), (1, .int (x0)), (2, .int (y0)), (3, .int (x1)), (4, .int (y1)), (5, .int (v))] [.int (nI (1))] [(a 0, oTR w h a), (a 2, cI ta 576 (f))]
    refine rx_if_neN C (by omega) d_TR_line_4 (fun c4 => ?_) (fun c4 => by exfalso; omega)
    refine rx_iconst C (-1) (by decide) d_TR_line_29 ?_
    exact hret _ _ _ _ _ d_TR_line_30 (rfl) (Or.inl ⟨Or.inl p0, rfl, rfl⟩)
  · skip
    show G 4 [(0, .ref (a 0)), (1, .int (x0)), (2, .int (y0)), (3, .int (x1)), (4, .int (y1)), (5, .int (v))] [.int (nI (0))] [(a 0, oTR w h a), (a 2, cI ta 576 (f))]
    refine rx_if_neN C (by omega) d_TR_line_4 (fun c4 => by exfalso; omega) (fun c4 => ?_)
    refine rx_iload_n C 2 rfl d_TR_line_7 ?_
    refine rx_callSi C (c_TR_isFar l D ta y0) cw_TR_52 ⟨rfl, rfl, by decide, by decide⟩ rfl [] rfl rfl [] rfl (Nat.le_of_ble_eq_true rfl) (fun _ => rfl) d_TR_line_8 (fun r1 u1 h1 => ?_)
    refine rx_ws (ws' := [(a 0, oTR w h a), (a 2, cI ta 576 (f))]) ?_ rfl
    rcases h1 with ⟨rfl, p1⟩ | ⟨rfl, p1⟩
    · skip
      show G 11 [(0, .ref (a 0)), (1, .int (x0)), (2, .int (y0)), (3, .int (x1)), (4, .int (y1)), (5, .int (v))] [.int (nI (1))] [(a 0, oTR w h a), (a 2, cI ta 576 (f))]
      refine rx_if_neN C (by omega) d_TR_line_11 (fun c11 => ?_) (fun c11 => by exfalso; omega)
      refine rx_iconst C (-1) (by decide) d_TR_line_29 ?_
      exact hret _ _ _ _ _ d_TR_line_30 (rfl) (Or.inl ⟨Or.inr (Or.inl p1), rfl, rfl⟩)
    · skip
      show G 11 [(0, .ref (a 0)), (1, .int (x0)), (2, .int (y0)), (3, .int (x1)), (4, .int (y1)), (5, .int (v))] [.int (nI (0))] [(a 0, oTR w h a), (a 2, cI ta 576 (f))]
      refine rx_if_neN C (by omega) d_TR_line_11 (fun c11 => by exfalso; omega) (fun c11 => ?_)
      refine rx_iload_n C 3 rfl d_TR_line_14 ?_
      refine rx_callSi C (c_TR_isFar l D ta x1) cw_TR_52 ⟨rfl, rfl, by decide, by decide⟩ rfl [] rfl rfl [] rfl (Nat.le_of_ble_eq_true rfl) (fun _ => rfl) d_TR_line_15 (fun r2 u2 h2 => ?_)
      refine rx_ws (ws' := [(a 0, oTR w h a), (a 2, cI ta 576 (f))]) ?_ rfl
      rcases h2 with ⟨rfl, p2⟩ | ⟨rfl, p2⟩
      · skip
        show G 18 [(0, .ref (a 0)), (1, .int (x0)), (2, .int (y0)), (3, .int (x1)), (4, .int (y1)), (5, .int (v))] [.int (nI (1))] [(a 0, oTR w h a), (a 2, cI ta 576 (f))]
        refine rx_if_neN C (by omega) d_TR_line_18 (fun c18 => ?_) (fun c18 => by exfalso; omega)
        refine rx_iconst C (-1) (by decide) d_TR_line_29 ?_
        exact hret _ _ _ _ _ d_TR_line_30 (rfl) (Or.inl ⟨Or.inr (Or.inr (Or.inl p2)), rfl, rfl⟩)
      · skip
        show G 18 [(0, .ref (a 0)), (1, .int (x0)), (2, .int (y0)), (3, .int (x1)), (4, .int (y1)), (5, .int (v))] [.int (nI (0))] [(a 0, oTR w h a), (a 2, cI ta 576 (f))]
        refine rx_if_neN C (by omega) d_TR_line_18 (fun c18 => by exfalso; omega) (fun c18 => ?_)
        refine rx_iload C 4 rfl d_TR_line_21 ?_
        refine rx_callSi C (c_TR_isFar l D ta y1) cw_TR_52 ⟨rfl, rfl, by decide, by decide⟩ rfl [] rfl rfl [] rfl (Nat.le_of_ble_eq_true rfl) (fun _ => rfl) d_TR_line_23 (fun r3 u3 h3 => ?_)
        refine rx_ws (ws' := [(a 0, oTR w h a), (a 2, cI ta 576 (f))]) ?_ rfl
        rcases h3 with ⟨rfl, p3⟩ | ⟨rfl, p3⟩
        · skip
          show G 26 [(0, .ref (a 0)), (1, .int (x0)), (2, .int (y0)), (3, .int (x1)), (4, .int (y1)), (5, .int (v))] [.int (nI (1))] [(a 0, oTR w h a), (a 2, cI ta 576 (f))]
          refine rx_if_eqN C (by omega) d_TR_line_26 (fun c26 => by exfalso; omega) (fun c26 => ?_)
          refine rx_iconst C (-1) (by decide) d_TR_line_29 ?_
          exact hret _ _ _ _ _ d_TR_line_30 (rfl) (Or.inl ⟨Or.inr (Or.inr (Or.inr p3)), rfl, rfl⟩)
        · skip
          show G 26 [(0, .ref (a 0)), (1, .int (x0)), (2, .int (y0)), (3, .int (x1)), (4, .int (y1)), (5, .int (v))] [.int (nI (0))] [(a 0, oTR w h a), (a 2, cI ta 576 (f))]
          refine rx_if_eqN C (by omega) d_TR_line_26 (fun c26 => ?_) (fun c26 => by exfalso; omega)
          have hdx := adN_le p0 p2
          have hdy := adN_le p1 p3
          refine rx_iload_n C 3 rfl d_TR_line_31 ?_
          refine rx_iload_n C 1 rfl d_TR_line_32 ?_
          refine rx_isub C d_TR_line_33 ?_
          refine rx_mabs C g_133 (by decide) (Nat.le_of_ble_eq_true rfl) d_TR_line_34 ?_
          refine rx_top (nI (adN x0 x1)) (abs_ad p0 p2) ?_
          refine rx_istore C (Nat.le_of_ble_eq_true rfl) [1, 2, 3, 4, 5, 6, 0] (lv' := [(0, .ref (a 0)), (1, .int (x0)), (2, .int (y0)), (3, .int (x1)), (4, .int (y1)), (5, .int (v)), (6, .int (nI (adN x0 x1)))]) rfl d_TR_line_37 ?_
          refine rx_iload C 4 rfl d_TR_line_39 ?_
          refine rx_iload_n C 2 rfl d_TR_line_41 ?_
          refine rx_isub C d_TR_line_42 ?_
          refine rx_mabs C g_133 (by decide) (Nat.le_of_ble_eq_true rfl) d_TR_line_43 ?_
          refine rx_top (nI (adN y0 y1)) (abs_ad p1 p3) ?_
          refine rx_istore C (Nat.le_of_ble_eq_true rfl) [1, 2, 3, 4, 5, 6, 7, 0] (lv' := [(0, .ref (a 0)), (1, .int (x0)), (2, .int (y0)), (3, .int (x1)), (4, .int (y1)), (5, .int (v)), (6, .int (nI (adN x0 x1))), (7, .int (nI (adN y0 y1)))]) rfl d_TR_line_46 ?_
          refine rx_iload_n C 3 rfl d_TR_line_48 ?_
          refine rx_iload_n C 1 rfl d_TR_line_49 ?_
          refine rx_isub C d_TR_line_50 ?_
          refine rx_callSi C (c_In_signum l D ta (x1 - x0)) cw_TR_99 ⟨rfl, rfl, by decide, by decide⟩ rfl [] rfl rfl [] rfl (Nat.le_of_ble_eq_true rfl) (fun _ => rfl) d_TR_line_51 (fun r5 u5 h5 => ?_)
          refine rx_ws (ws' := [(a 0, oTR w h a), (a 2, cI ta 576 (f))]) ?_ rfl
          refine rx_top (sgn (x1 - x0)) (h5.trans (sgn_bits (dif_le p0 p2).1 (dif_le p0 p2).2)) ?_
          refine rx_istore C (Nat.le_of_ble_eq_true rfl) [1, 2, 3, 4, 5, 6, 7, 8, 0] (lv' := [(0, .ref (a 0)), (1, .int (x0)), (2, .int (y0)), (3, .int (x1)), (4, .int (y1)), (5, .int (v)), (6, .int (nI (adN x0 x1))), (7, .int (nI (adN y0 y1))), (8, .int (sgn (x1 - x0)))]) rfl d_TR_line_54 ?_
          refine rx_iload C 4 rfl d_TR_line_56 ?_
          refine rx_iload_n C 2 rfl d_TR_line_58 ?_
          refine rx_isub C d_TR_line_59 ?_
          refine rx_callSi C (c_In_signum l D ta (y1 - y0)) cw_TR_99 ⟨rfl, rfl, by decide, by decide⟩ rfl [] rfl rfl [] rfl (Nat.le_of_ble_eq_true rfl) (fun _ => rfl) d_TR_line_60 (fun r5 u5 h5 => ?_)
          refine rx_ws (ws' := [(a 0, oTR w h a), (a 2, cI ta 576 (f))]) ?_ rfl
          refine rx_top (sgn (y1 - y0)) (h5.trans (sgn_bits (dif_le p1 p3).1 (dif_le p1 p3).2)) ?_
          refine rx_istore C (Nat.le_of_ble_eq_true rfl) [1, 2, 3, 4, 5, 6, 7, 8, 9, 0] (lv' := [(0, .ref (a 0)), (1, .int (x0)), (2, .int (y0)), (3, .int (x1)), (4, .int (y1)), (5, .int (v)), (6, .int (nI (adN x0 x1))), (7, .int (nI (adN y0 y1))), (8, .int (sgn (x1 - x0))), (9, .int (sgn (y1 - y0)))]) rfl d_TR_line_63 ?_
          refine rx_iload C 6 rfl d_TR_line_65 ?_
          refine rx_iload C 7 rfl d_TR_line_67 ?_
          refine rx_icmp_ltN C (by omega) (by omega) d_TR_line_69 (fun c69 => ?_) (fun c69 => ?_)
          · skip
            refine rx_iconst C (nI 0) (by decide) d_TR_line_76 ?_
            refine rx_istore C (Nat.le_of_ble_eq_true rfl) [1, 2, 3, 4, 5, 6, 7, 8, 9, 10, 0] (lv' := [(0, .ref (a 0)), (1, .int (x0)), (2, .int (y0)), (3, .int (x1)), (4, .int (y1)), (5, .int (v)), (6, .int (nI (adN x0 x1))), (7, .int (nI (adN y0 y1))), (8, .int (sgn (x1 - x0))), (9, .int (sgn (y1 - y0))), (10, .int (nI (0)))]) rfl d_TR_line_77 ?_
            refine rx_iload C 10 rfl d_TR_line_79 ?_
            refine rx_if_eqN C (by omega) d_TR_line_81 (fun c81 => ?_) (fun c81 => by exfalso; omega)
            refine rx_iload C 7 rfl d_TR_line_89 ?_
            refine rx_istore C (Nat.le_of_ble_eq_true rfl) [1, 2, 3, 4, 5, 6, 7, 8, 9, 10, 11, 0] (lv' := [(0, .ref (a 0)), (1, .int (x0)), (2, .int (y0)), (3, .int (x1)), (4, .int (y1)), (5, .int (v)), (6, .int (nI (adN x0 x1))), (7, .int (nI (adN y0 y1))), (8, .int (sgn (x1 - x0))), (9, .int (sgn (y1 - y0))), (10, .int (nI (0))), (11, .int (nI (adN y0 y1)))]) rfl d_TR_line_91 ?_
            refine rx_iload C 10 rfl d_TR_line_93 ?_
            refine rx_if_eqN C (by omega) d_TR_line_95 (fun c95 => ?_) (fun c95 => by exfalso; omega)
            refine rx_iload C 6 rfl d_TR_line_103 ?_
            refine rx_istore C (Nat.le_of_ble_eq_true rfl) [1, 2, 3, 4, 5, 6, 7, 8, 9, 10, 11, 12, 0] (lv' := [(0, .ref (a 0)), (1, .int (x0)), (2, .int (y0)), (3, .int (x1)), (4, .int (y1)), (5, .int (v)), (6, .int (nI (adN x0 x1))), (7, .int (nI (adN y0 y1))), (8, .int (sgn (x1 - x0))), (9, .int (sgn (y1 - y0))), (10, .int (nI (0))), (11, .int (nI (adN y0 y1))), (12, .int (nI (adN x0 x1)))]) rfl d_TR_line_105 ?_
            refine rx_iload C 11 rfl d_TR_line_107 ?_
            refine rx_iconst C (nI 1) (by decide) d_TR_line_109 ?_
            refine rx_isub C d_TR_line_110 ?_
            refine rx_istore C (Nat.le_of_ble_eq_true rfl) [1, 2, 3, 4, 5, 6, 7, 8, 9, 10, 11, 12, 13, 0] (lv' := [(0, .ref (a 0)), (1, .int (x0)), (2, .int (y0)), (3, .int (x1)), (4, .int (y1)), (5, .int (v)), (6, .int (nI (adN x0 x1))), (7, .int (nI (adN y0 y1))), (8, .int (sgn (x1 - x0))), (9, .int (sgn (y1 - y0))), (10, .int (nI (0))), (11, .int (nI (adN y0 y1))), (12, .int (nI (adN x0 x1))), (13, .int ((nI (adN y0 y1)) - (nI (1))))]) rfl d_TR_line_111 ?_
            refine rx_iload_n C 1 rfl d_TR_line_113 ?_
            refine rx_istore C (Nat.le_of_ble_eq_true rfl) [1, 2, 3, 4, 5, 6, 7, 8, 9, 10, 11, 12, 13, 14, 0] (lv' := [(0, .ref (a 0)), (1, .int (x0)), (2, .int (y0)), (3, .int (x1)), (4, .int (y1)), (5, .int (v)), (6, .int (nI (adN x0 x1))), (7, .int (nI (adN y0 y1))), (8, .int (sgn (x1 - x0))), (9, .int (sgn (y1 - y0))), (10, .int (nI (0))), (11, .int (nI (adN y0 y1))), (12, .int (nI (adN x0 x1))), (13, .int ((nI (adN y0 y1)) - (nI (1)))), (14, .int (x0))]) rfl d_TR_line_114 ?_
            refine rx_iload_n C 2 rfl d_TR_line_116 ?_
            refine rx_istore C (Nat.le_of_ble_eq_true rfl) [1, 2, 3, 4, 5, 6, 7, 8, 9, 10, 11, 12, 13, 14, 15, 0] (lv' := [(0, .ref (a 0)), (1, .int (x0)), (2, .int (y0)), (3, .int (x1)), (4, .int (y1)), (5, .int (v)), (6, .int (nI (adN x0 x1))), (7, .int (nI (adN y0 y1))), (8, .int (sgn (x1 - x0))), (9, .int (sgn (y1 - y0))), (10, .int (nI (0))), (11, .int (nI (adN y0 y1))), (12, .int (nI (adN x0 x1))), (13, .int ((nI (adN y0 y1)) - (nI (1)))), (14, .int (x0)), (15, .int (y0))]) rfl d_TR_line_117 ?_
            refine rx_iconst C (nI 0) (by decide) d_TR_line_119 ?_
            refine rx_istore C (Nat.le_of_ble_eq_true rfl) [1, 2, 3, 4, 5, 6, 7, 8, 9, 10, 11, 12, 13, 14, 15, 16, 0] (lv' := [(0, .ref (a 0)), (1, .int (x0)), (2, .int (y0)), (3, .int (x1)), (4, .int (y1)), (5, .int (v)), (6, .int (nI (adN x0 x1))), (7, .int (nI (adN y0 y1))), (8, .int (sgn (x1 - x0))), (9, .int (sgn (y1 - y0))), (10, .int (nI (0))), (11, .int (nI (adN y0 y1))), (12, .int (nI (adN x0 x1))), (13, .int ((nI (adN y0 y1)) - (nI (1)))), (14, .int (x0)), (15, .int (y0)), (16, .int (nI (0)))]) rfl d_TR_line_120 ?_
            refine rx_iconst C (nI 0) (by decide) d_TR_line_122 ?_
            refine rx_istore C (Nat.le_of_ble_eq_true rfl) [1, 2, 3, 4, 5, 6, 7, 8, 9, 10, 11, 12, 13, 14, 15, 16, 17, 0] (lv' := [(0, .ref (a 0)), (1, .int (x0)), (2, .int (y0)), (3, .int (x1)), (4, .int (y1)), (5, .int (v)), (6, .int (nI (adN x0 x1))), (7, .int (nI (adN y0 y1))), (8, .int (sgn (x1 - x0))), (9, .int (sgn (y1 - y0))), (10, .int (nI (0))), (11, .int (nI (adN y0 y1))), (12, .int (nI (adN x0 x1))), (13, .int ((nI (adN y0 y1)) - (nI (1)))), (14, .int (x0)), (15, .int (y0)), (16, .int (nI (0))), (17, .int (nI (0)))]) rfl d_TR_line_123 ?_
            have loop : ∀ (n : Nat) (k : Nat) (er px py : Int32) (g : Nat → Int32) (O : Nat), adN y0 y1 + 1 - k < n → (k ≤ adN y0 y1 + 1) → (erI (adN y0 y1) (adN x0 x1) k er O) → (px = lnP x0 x1 O) → (py = lnP y0 y1 k) → (pnt (fun k => lnP x0 x1 (othN (adN y0 y1) (adN x0 x1) k)) (fun k => lnP y0 y1 k) w h v f g k) → G 125 [(0, .ref (a 0)), (1, .int (x0)), (2, .int (y0)), (3, .int (x1)), (4, .int (y1)), (5, .int (v)), (6, .int (nI (adN x0 x1))), (7, .int (nI (adN y0 y1))), (8, .int (sgn (x1 - x0))), (9, .int (sgn (y1 - y0))), (10, .int (nI (0))), (11, .int (nI (adN y0 y1))), (12, .int (nI (adN x0 x1))), (13, .int (er)), (14, .int (px)), (15, .int (py)), (16, .int (nI (cn (fun k => isPx w h ((fun k => lnP x0 x1 (othN (adN y0 y1) (adN x0 x1) k)) k) ((fun k => lnP y0 y1 k) k)) k))), (17, .int (nI (k)))] [] [(a 0, oTR w h a), (a 2, cI ta 576 (g))] := by
              intro n
              induction n with
              | zero => intro k er px py g O hm; exact absurd hm (Nat.not_lt_zero _)
              | succ n ih =>
                intro k er px py g O hm hk hE hpx hpy hP
                refine rx_iload C 17 rfl d_TR_line_125 ?_
                refine rx_iload C 11 rfl d_TR_line_127 ?_
                refine rx_icmp_gtN C (by omega) (by omega) d_TR_line_129 (fun c129 => ?_) (fun c129 => ?_)
                · skip
                  obtain rfl : k = adN y0 y1 + 1 := by omega
                  show G 246 [(0, .ref (a 0)), (1, .int (x0)), (2, .int (y0)), (3, .int (x1)), (4, .int (y1)), (5, .int (v)), (6, .int (nI (adN x0 x1))), (7, .int (nI (adN y0 y1))), (8, .int (sgn (x1 - x0))), (9, .int (sgn (y1 - y0))), (10, .int (nI (0))), (11, .int (nI (adN y0 y1))), (12, .int (nI (adN x0 x1))), (13, .int (er)), (14, .int (px)), (15, .int (py)), (16, .int (nI (cn (fun k => isPx w h ((fun k => lnP x0 x1 (othN (adN y0 y1) (adN x0 x1) k)) k) ((fun k => lnP y0 y1 k) k)) (adN y0 y1 + 1)))), (17, .int (nI (adN y0 y1 + 1)))] [] [(a 0, oTR w h a), (a 2, cI ta 576 (g))]
                  refine rx_iload C 16 rfl d_TR_line_246 ?_
                  exact hret _ _ _ _ g d_TR_line_248 (rfl) (Or.inr ⟨p0, p1, p2, p3, Or.inr ⟨Nat.not_le.mpr c69, rfl, hP⟩⟩)
                · skip
                  have hO := erI_oth hE
                  have ex : (fun k => lnP x0 x1 (othN (adN y0 y1) (adN x0 x1) k)) k = px := by rw [hpx, hO]
                  have ey : (fun k => lnP y0 y1 k) k = py := by rw [hpy]
                  have K : ∀ (g2 : Nat → Int32), pnt (fun k => lnP x0 x1 (othN (adN y0 y1) (adN x0 x1) k)) (fun k => lnP y0 y1 k) w h v f g2 (k + 1) → G 155 [(0, .ref (a 0)), (1, .int (x0)), (2, .int (y0)), (3, .int (x1)), (4, .int (y1)), (5, .int (v)), (6, .int (nI (adN x0 x1))), (7, .int (nI (adN y0 y1))), (8, .int (sgn (x1 - x0))), (9, .int (sgn (y1 - y0))), (10, .int (nI (0))), (11, .int (nI (adN y0 y1))), (12, .int (nI (adN x0 x1))), (13, .int (er)), (14, .int (px)), (15, .int (py)), (16, .int (nI (cn (fun k => isPx w h ((fun k => lnP x0 x1 (othN (adN y0 y1) (adN x0 x1) k)) k) ((fun k => lnP y0 y1 k) k)) (k + 1)))), (17, .int (nI (k)))] [] [(a 0, oTR w h a), (a 2, cI ta 576 (g2))] := by
                    intro g2 hP2
                    refine rx_iload C 13 rfl d_TR_line_155 ?_
                    refine rx_iconst C (nI 2) (by decide) d_TR_line_157 ?_
                    refine rx_iload C 12 rfl d_TR_line_158 ?_
                    refine rx_imulN C d_TR_line_160 ?_
                    refine rx_iadd C d_TR_line_161 ?_
                    refine rx_istore C (Nat.le_of_ble_eq_true rfl) [1, 2, 3, 4, 5, 6, 7, 8, 9, 10, 11, 12, 13, 0, 14, 15, 16, 17] (lv' := [(0, .ref (a 0)), (1, .int (x0)), (2, .int (y0)), (3, .int (x1)), (4, .int (y1)), (5, .int (v)), (6, .int (nI (adN x0 x1))), (7, .int (nI (adN y0 y1))), (8, .int (sgn (x1 - x0))), (9, .int (sgn (y1 - y0))), (10, .int (nI (0))), (11, .int (nI (adN y0 y1))), (12, .int (nI (adN x0 x1))), (13, .int (er + (nI (2 * (adN x0 x1))))), (14, .int (px)), (15, .int (py)), (16, .int (nI (cn (fun k => isPx w h ((fun k => lnP x0 x1 (othN (adN y0 y1) (adN x0 x1) k)) k) ((fun k => lnP y0 y1 k) k)) (k + 1)))), (17, .int (nI (k)))]) rfl d_TR_line_162 ?_
                    refine rx_iload C 13 rfl d_TR_line_164 ?_
                    refine rx_iconst C (nI 2) (by decide) d_TR_line_166 ?_
                    refine rx_iload C 11 rfl d_TR_line_167 ?_
                    refine rx_imulN C d_TR_line_169 ?_
                    refine rx_icmp_lt C d_TR_line_170 (fun c170 => ?_) (fun c170 => ?_)
                    · skip
                      refine rx_iconst C (nI 0) (by decide) d_TR_line_177 ?_
                      refine rx_istore C (Nat.le_of_ble_eq_true rfl) [1, 2, 3, 4, 5, 6, 7, 8, 9, 10, 11, 12, 13, 14, 15, 16, 17, 18, 0] (lv' := [(0, .ref (a 0)), (1, .int (x0)), (2, .int (y0)), (3, .int (x1)), (4, .int (y1)), (5, .int (v)), (6, .int (nI (adN x0 x1))), (7, .int (nI (adN y0 y1))), (8, .int (sgn (x1 - x0))), (9, .int (sgn (y1 - y0))), (10, .int (nI (0))), (11, .int (nI (adN y0 y1))), (12, .int (nI (adN x0 x1))), (13, .int (er + (nI (2 * (adN x0 x1))))), (14, .int (px)), (15, .int (py)), (16, .int (nI (cn (fun k => isPx w h ((fun k => lnP x0 x1 (othN (adN y0 y1) (adN x0 x1) k)) k) ((fun k => lnP y0 y1 k) k)) (k + 1)))), (17, .int (nI (k))), (18, .int (nI (0)))]) rfl d_TR_line_178 ?_
                      refine rx_iload C 13 rfl d_TR_line_180 ?_
                      refine rx_iload C 18 rfl d_TR_line_182 ?_
                      refine rx_if_eqN C (by omega) d_TR_line_184 (fun c184 => ?_) (fun c184 => by exfalso; omega)
                      refine rx_iconst C (nI 0) (by decide) d_TR_line_194 ?_
                      refine rx_isub C d_TR_line_195 ?_
                      refine rx_istore C (Nat.le_of_ble_eq_true rfl) [1, 2, 3, 4, 5, 6, 7, 8, 9, 10, 11, 12, 13, 0, 14, 15, 16, 17, 18] (lv' := [(0, .ref (a 0)), (1, .int (x0)), (2, .int (y0)), (3, .int (x1)), (4, .int (y1)), (5, .int (v)), (6, .int (nI (adN x0 x1))), (7, .int (nI (adN y0 y1))), (8, .int (sgn (x1 - x0))), (9, .int (sgn (y1 - y0))), (10, .int (nI (0))), (11, .int (nI (adN y0 y1))), (12, .int (nI (adN x0 x1))), (13, .int ((er + (nI (2 * (adN x0 x1)))) - (nI (0)))), (14, .int (px)), (15, .int (py)), (16, .int (nI (cn (fun k => isPx w h ((fun k => lnP x0 x1 (othN (adN y0 y1) (adN x0 x1) k)) k) ((fun k => lnP y0 y1 k) k)) (k + 1)))), (17, .int (nI (k))), (18, .int (nI (0)))]) rfl d_TR_line_196 ?_
                      refine rx_iload C 14 rfl d_TR_line_198 ?_
                      refine rx_iload C 10 rfl d_TR_line_200 ?_
                      refine rx_if_neN C (by omega) d_TR_line_202 (fun c202 => by exfalso; omega) (fun c202 => ?_)
                      refine rx_iload C 18 rfl d_TR_line_205 ?_
                      refine rx_if_eqN C (by omega) d_TR_line_207 (fun c207 => ?_) (fun c207 => by exfalso; omega)
                      refine rx_iconst C (nI 0) (by decide) d_TR_line_215 ?_
                      refine rx_iadd C d_TR_line_216 ?_
                      refine rx_istore C (Nat.le_of_ble_eq_true rfl) [1, 2, 3, 4, 5, 6, 7, 8, 9, 10, 11, 12, 13, 14, 0, 15, 16, 17, 18] (lv' := [(0, .ref (a 0)), (1, .int (x0)), (2, .int (y0)), (3, .int (x1)), (4, .int (y1)), (5, .int (v)), (6, .int (nI (adN x0 x1))), (7, .int (nI (adN y0 y1))), (8, .int (sgn (x1 - x0))), (9, .int (sgn (y1 - y0))), (10, .int (nI (0))), (11, .int (nI (adN y0 y1))), (12, .int (nI (adN x0 x1))), (13, .int ((er + (nI (2 * (adN x0 x1)))) - (nI (0)))), (14, .int (px + (nI (0)))), (15, .int (py)), (16, .int (nI (cn (fun k => isPx w h ((fun k => lnP x0 x1 (othN (adN y0 y1) (adN x0 x1) k)) k) ((fun k => lnP y0 y1 k) k)) (k + 1)))), (17, .int (nI (k))), (18, .int (nI (0)))]) rfl d_TR_line_217 ?_
                      refine rx_iload C 15 rfl d_TR_line_219 ?_
                      refine rx_iload C 10 rfl d_TR_line_221 ?_
                      refine rx_if_eqN C (by omega) d_TR_line_223 (fun c223 => ?_) (fun c223 => by exfalso; omega)
                      refine rx_iload C 9 rfl d_TR_line_231 ?_
                      refine rx_goto C d_TR_line_233 ?_
                      refine rx_iadd C d_TR_line_237 ?_
                      refine rx_istore C (Nat.le_of_ble_eq_true rfl) [1, 2, 3, 4, 5, 6, 7, 8, 9, 10, 11, 12, 13, 14, 15, 0, 16, 17, 18] (lv' := [(0, .ref (a 0)), (1, .int (x0)), (2, .int (y0)), (3, .int (x1)), (4, .int (y1)), (5, .int (v)), (6, .int (nI (adN x0 x1))), (7, .int (nI (adN y0 y1))), (8, .int (sgn (x1 - x0))), (9, .int (sgn (y1 - y0))), (10, .int (nI (0))), (11, .int (nI (adN y0 y1))), (12, .int (nI (adN x0 x1))), (13, .int ((er + (nI (2 * (adN x0 x1)))) - (nI (0)))), (14, .int (px + (nI (0)))), (15, .int (py + (sgn (y1 - y0)))), (16, .int (nI (cn (fun k => isPx w h ((fun k => lnP x0 x1 (othN (adN y0 y1) (adN x0 x1) k)) k) ((fun k => lnP y0 y1 k) k)) (k + 1)))), (17, .int (nI (k))), (18, .int (nI (0)))]) rfl d_TR_line_238 ?_
                      refine rx_iinc C 17 rfl (nI (k + 1)) (nI_add _ _) (Nat.le_of_ble_eq_true rfl) [1, 2, 3, 4, 5, 6, 7, 8, 9, 10, 11, 12, 13, 14, 15, 16, 17, 0, 18] (lv' := [(0, .ref (a 0)), (1, .int (x0)), (2, .int (y0)), (3, .int (x1)), (4, .int (y1)), (5, .int (v)), (6, .int (nI (adN x0 x1))), (7, .int (nI (adN y0 y1))), (8, .int (sgn (x1 - x0))), (9, .int (sgn (y1 - y0))), (10, .int (nI (0))), (11, .int (nI (adN y0 y1))), (12, .int (nI (adN x0 x1))), (13, .int ((er + (nI (2 * (adN x0 x1)))) - (nI (0)))), (14, .int (px + (nI (0)))), (15, .int (py + (sgn (y1 - y0)))), (16, .int (nI (cn (fun k => isPx w h ((fun k => lnP x0 x1 (othN (adN y0 y1) (adN x0 x1) k)) k) ((fun k => lnP y0 y1 k) k)) (k + 1)))), (17, .int (nI (k + 1))), (18, .int (nI (0)))]) rfl d_TR_line_240 ?_
                      refine rx_goto C d_TR_line_243 ?_
                      refine rx_lv C [0, 1, 2, 3, 4, 5, 6, 7, 8, 9, 10, 11, 12, 13, 14, 15, 16, 17] rfl ?_
                      refine ih (k + 1) ((er + (nI (2 * (adN x0 x1)))) - (nI (0))) (px + (nI (0))) (py + (sgn (y1 - y0))) g2 O (by omega) (by omega) (?_) (by rw [hpx, nI_0, Int32.add_zero]) (by rw [hpy]; exact lnP_s _ _ _) hP2
                      rw [nI_0, Int32.sub_zero]
                      exact erI_lo (by omega) (by omega) hE c170
                    · skip
                      refine rx_iconst C (nI 1) (by decide) d_TR_line_173 ?_
                      refine rx_goto C d_TR_line_174 ?_
                      refine rx_istore C (Nat.le_of_ble_eq_true rfl) [1, 2, 3, 4, 5, 6, 7, 8, 9, 10, 11, 12, 13, 14, 15, 16, 17, 18, 0] (lv' := [(0, .ref (a 0)), (1, .int (x0)), (2, .int (y0)), (3, .int (x1)), (4, .int (y1)), (5, .int (v)), (6, .int (nI (adN x0 x1))), (7, .int (nI (adN y0 y1))), (8, .int (sgn (x1 - x0))), (9, .int (sgn (y1 - y0))), (10, .int (nI (0))), (11, .int (nI (adN y0 y1))), (12, .int (nI (adN x0 x1))), (13, .int (er + (nI (2 * (adN x0 x1))))), (14, .int (px)), (15, .int (py)), (16, .int (nI (cn (fun k => isPx w h ((fun k => lnP x0 x1 (othN (adN y0 y1) (adN x0 x1) k)) k) ((fun k => lnP y0 y1 k) k)) (k + 1)))), (17, .int (nI (k))), (18, .int (nI (1)))]) rfl d_TR_line_178 ?_
                      refine rx_iload C 13 rfl d_TR_line_180 ?_
                      refine rx_iload C 18 rfl d_TR_line_182 ?_
                      refine rx_if_eqN C (by omega) d_TR_line_184 (fun c184 => by exfalso; omega) (fun c184 => ?_)
                      refine rx_iconst C (nI 2) (by decide) d_TR_line_187 ?_
                      refine rx_iload C 11 rfl d_TR_line_188 ?_
                      refine rx_imulN C d_TR_line_190 ?_
                      refine rx_goto C d_TR_line_191 ?_
                      refine rx_isub C d_TR_line_195 ?_
                      refine rx_istore C (Nat.le_of_ble_eq_true rfl) [1, 2, 3, 4, 5, 6, 7, 8, 9, 10, 11, 12, 13, 0, 14, 15, 16, 17, 18] (lv' := [(0, .ref (a 0)), (1, .int (x0)), (2, .int (y0)), (3, .int (x1)), (4, .int (y1)), (5, .int (v)), (6, .int (nI (adN x0 x1))), (7, .int (nI (adN y0 y1))), (8, .int (sgn (x1 - x0))), (9, .int (sgn (y1 - y0))), (10, .int (nI (0))), (11, .int (nI (adN y0 y1))), (12, .int (nI (adN x0 x1))), (13, .int ((er + (nI (2 * (adN x0 x1)))) - (nI (2 * (adN y0 y1))))), (14, .int (px)), (15, .int (py)), (16, .int (nI (cn (fun k => isPx w h ((fun k => lnP x0 x1 (othN (adN y0 y1) (adN x0 x1) k)) k) ((fun k => lnP y0 y1 k) k)) (k + 1)))), (17, .int (nI (k))), (18, .int (nI (1)))]) rfl d_TR_line_196 ?_
                      refine rx_iload C 14 rfl d_TR_line_198 ?_
                      refine rx_iload C 10 rfl d_TR_line_200 ?_
                      refine rx_if_neN C (by omega) d_TR_line_202 (fun c202 => by exfalso; omega) (fun c202 => ?_)
                      refine rx_iload C 18 rfl d_TR_line_205 ?_
                      refine rx_if_eqN C (by omega) d_TR_line_207 (fun c207 => by exfalso; omega) (fun c207 => ?_)
                      refine rx_iload C 8 rfl d_TR_line_210 ?_
                      refine rx_goto C d_TR_line_212 ?_
                      refine rx_iadd C d_TR_line_216 ?_
                      refine rx_istore C (Nat.le_of_ble_eq_true rfl) [1, 2, 3, 4, 5, 6, 7, 8, 9, 10, 11, 12, 13, 14, 0, 15, 16, 17, 18] (lv' := [(0, .ref (a 0)), (1, .int (x0)), (2, .int (y0)), (3, .int (x1)), (4, .int (y1)), (5, .int (v)), (6, .int (nI (adN x0 x1))), (7, .int (nI (adN y0 y1))), (8, .int (sgn (x1 - x0))), (9, .int (sgn (y1 - y0))), (10, .int (nI (0))), (11, .int (nI (adN y0 y1))), (12, .int (nI (adN x0 x1))), (13, .int ((er + (nI (2 * (adN x0 x1)))) - (nI (2 * (adN y0 y1))))), (14, .int (px + (sgn (x1 - x0)))), (15, .int (py)), (16, .int (nI (cn (fun k => isPx w h ((fun k => lnP x0 x1 (othN (adN y0 y1) (adN x0 x1) k)) k) ((fun k => lnP y0 y1 k) k)) (k + 1)))), (17, .int (nI (k))), (18, .int (nI (1)))]) rfl d_TR_line_217 ?_
                      refine rx_iload C 15 rfl d_TR_line_219 ?_
                      refine rx_iload C 10 rfl d_TR_line_221 ?_
                      refine rx_if_eqN C (by omega) d_TR_line_223 (fun c223 => ?_) (fun c223 => by exfalso; omega)
                      refine rx_iload C 9 rfl d_TR_line_231 ?_
                      refine rx_goto C d_TR_line_233 ?_
                      refine rx_iadd C d_TR_line_237 ?_
                      refine rx_istore C (Nat.le_of_ble_eq_true rfl) [1, 2, 3, 4, 5, 6, 7, 8, 9, 10, 11, 12, 13, 14, 15, 0, 16, 17, 18] (lv' := [(0, .ref (a 0)), (1, .int (x0)), (2, .int (y0)), (3, .int (x1)), (4, .int (y1)), (5, .int (v)), (6, .int (nI (adN x0 x1))), (7, .int (nI (adN y0 y1))), (8, .int (sgn (x1 - x0))), (9, .int (sgn (y1 - y0))), (10, .int (nI (0))), (11, .int (nI (adN y0 y1))), (12, .int (nI (adN x0 x1))), (13, .int ((er + (nI (2 * (adN x0 x1)))) - (nI (2 * (adN y0 y1))))), (14, .int (px + (sgn (x1 - x0)))), (15, .int (py + (sgn (y1 - y0)))), (16, .int (nI (cn (fun k => isPx w h ((fun k => lnP x0 x1 (othN (adN y0 y1) (adN x0 x1) k)) k) ((fun k => lnP y0 y1 k) k)) (k + 1)))), (17, .int (nI (k))), (18, .int (nI (1)))]) rfl d_TR_line_238 ?_
                      refine rx_iinc C 17 rfl (nI (k + 1)) (nI_add _ _) (Nat.le_of_ble_eq_true rfl) [1, 2, 3, 4, 5, 6, 7, 8, 9, 10, 11, 12, 13, 14, 15, 16, 17, 0, 18] (lv' := [(0, .ref (a 0)), (1, .int (x0)), (2, .int (y0)), (3, .int (x1)), (4, .int (y1)), (5, .int (v)), (6, .int (nI (adN x0 x1))), (7, .int (nI (adN y0 y1))), (8, .int (sgn (x1 - x0))), (9, .int (sgn (y1 - y0))), (10, .int (nI (0))), (11, .int (nI (adN y0 y1))), (12, .int (nI (adN x0 x1))), (13, .int ((er + (nI (2 * (adN x0 x1)))) - (nI (2 * (adN y0 y1))))), (14, .int (px + (sgn (x1 - x0)))), (15, .int (py + (sgn (y1 - y0)))), (16, .int (nI (cn (fun k => isPx w h ((fun k => lnP x0 x1 (othN (adN y0 y1) (adN x0 x1) k)) k) ((fun k => lnP y0 y1 k) k)) (k + 1)))), (17, .int (nI (k + 1))), (18, .int (nI (1)))]) rfl d_TR_line_240 ?_
                      refine rx_goto C d_TR_line_243 ?_
                      refine rx_lv C [0, 1, 2, 3, 4, 5, 6, 7, 8, 9, 10, 11, 12, 13, 14, 15, 16, 17] rfl ?_
                      exact ih (k + 1) ((er + (nI (2 * (adN x0 x1)))) - (nI (2 * (adN y0 y1)))) (px + (sgn (x1 - x0))) (py + (sgn (y1 - y0))) g2 (O + 1) (by omega) (by omega) (erI_hi (by omega) (by omega) hE (nlt32 c170)) (by rw [hpx]; exact lnP_s _ _ _) (by rw [hpy]; exact lnP_s _ _ _) hP2
                  refine rx_iload C 16 rfl d_TR_line_132 ?_
                  refine rx_aload_n C 0 rfl d_TR_line_134 ?_
                  refine rx_iload C 14 rfl d_TR_line_135 ?_
                  refine rx_iload C 15 rfl d_TR_line_137 ?_
                  refine rx_iload C 5 rfl d_TR_line_139 ?_
                  refine rx_callVi C (c_TR_set l D ta w h a g px py v hw hh) cw_TR_104 ⟨rfl, rfl, by decide, by decide⟩ rfl [0, 1] rfl rfl (q0 := 0) rfl rfl rfl [.int (nI (cn (fun k => isPx w h ((fun k => lnP x0 x1 (othN (adN y0 y1) (adN x0 x1) k)) k) ((fun k => lnP y0 y1 k) k)) k))] rfl (Nat.le_of_ble_eq_true rfl) (fun _ => rfl) d_TR_line_141 (fun r6 u6 h6 => ?_)
                  refine rx_ws (ws' := [(a 0, oTR w h a), (a 2, cI ta 576 (u6))]) ?_ rfl
                  rcases h6 with ⟨i, j, hi, hj, e1, e2, rfl, rfl⟩ | ⟨e1, rfl, rfl⟩
                  · skip
                    show G 144 [(0, .ref (a 0)), (1, .int (x0)), (2, .int (y0)), (3, .int (x1)), (4, .int (y1)), (5, .int (v)), (6, .int (nI (adN x0 x1))), (7, .int (nI (adN y0 y1))), (8, .int (sgn (x1 - x0))), (9, .int (sgn (y1 - y0))), (10, .int (nI (0))), (11, .int (nI (adN y0 y1))), (12, .int (nI (adN x0 x1))), (13, .int (er)), (14, .int (px)), (15, .int (py)), (16, .int (nI (cn (fun k => isPx w h ((fun k => lnP x0 x1 (othN (adN y0 y1) (adN x0 x1) k)) k) ((fun k => lnP y0 y1 k) k)) k))), (17, .int (nI (k)))] [.int (nI (1)), .int (nI (cn (fun k => isPx w h ((fun k => lnP x0 x1 (othN (adN y0 y1) (adN x0 x1) k)) k) ((fun k => lnP y0 y1 k) k)) k))] [(a 0, oTR w h a), (a 2, cI ta 576 (upd g (w * j + i) v))]
                    refine rx_if_eqN C (by omega) d_TR_line_144 (fun c144 => by exfalso; omega) (fun c144 => ?_)
                    refine rx_iconst C (nI 1) (by decide) d_TR_line_147 ?_
                    refine rx_goto C d_TR_line_148 ?_
                    refine rx_iaddN C d_TR_line_152 ?_
                    refine rx_istore C (Nat.le_of_ble_eq_true rfl) [1, 2, 3, 4, 5, 6, 7, 8, 9, 10, 11, 12, 13, 14, 15, 16, 0, 17] (lv' := [(0, .ref (a 0)), (1, .int (x0)), (2, .int (y0)), (3, .int (x1)), (4, .int (y1)), (5, .int (v)), (6, .int (nI (adN x0 x1))), (7, .int (nI (adN y0 y1))), (8, .int (sgn (x1 - x0))), (9, .int (sgn (y1 - y0))), (10, .int (nI (0))), (11, .int (nI (adN y0 y1))), (12, .int (nI (adN x0 x1))), (13, .int (er)), (14, .int (px)), (15, .int (py)), (16, .int (nI ((cn (fun k => isPx w h ((fun k => lnP x0 x1 (othN (adN y0 y1) (adN x0 x1) k)) k) ((fun k => lnP y0 y1 k) k)) k) + 1))), (17, .int (nI (k)))]) rfl d_TR_line_153 ?_
                    have hh9 : (fun k => isPx w h ((fun k => lnP x0 x1 (othN (adN y0 y1) (adN x0 x1) k)) k) ((fun k => lnP y0 y1 k) k)) k := ⟨i, j, hi, hj, ex.trans e1, ey.trans e2⟩
                    rw [← cn_y (P := fun k => isPx w h ((fun k => lnP x0 x1 (othN (adN y0 y1) (adN x0 x1) k)) k) ((fun k => lnP y0 y1 k) k)) (n := k) hh9]
                    exact K _ (pnt_y hw0 hw hh hP hi hj (ex.trans e1) (ey.trans e2) pk_us (fun p hp => pk_un hp))
                  · skip
                    show G 144 [(0, .ref (a 0)), (1, .int (x0)), (2, .int (y0)), (3, .int (x1)), (4, .int (y1)), (5, .int (v)), (6, .int (nI (adN x0 x1))), (7, .int (nI (adN y0 y1))), (8, .int (sgn (x1 - x0))), (9, .int (sgn (y1 - y0))), (10, .int (nI (0))), (11, .int (nI (adN y0 y1))), (12, .int (nI (adN x0 x1))), (13, .int (er)), (14, .int (px)), (15, .int (py)), (16, .int (nI (cn (fun k => isPx w h ((fun k => lnP x0 x1 (othN (adN y0 y1) (adN x0 x1) k)) k) ((fun k => lnP y0 y1 k) k)) k))), (17, .int (nI (k)))] [.int (nI (0)), .int (nI (cn (fun k => isPx w h ((fun k => lnP x0 x1 (othN (adN y0 y1) (adN x0 x1) k)) k) ((fun k => lnP y0 y1 k) k)) k))] [(a 0, oTR w h a), (a 2, cI ta 576 (u6))]
                    refine rx_if_eqN C (by omega) d_TR_line_144 (fun c144 => ?_) (fun c144 => by exfalso; omega)
                    refine rx_iconst C (nI 0) (by decide) d_TR_line_151 ?_
                    refine rx_iaddN C d_TR_line_152 ?_
                    refine rx_istore C (Nat.le_of_ble_eq_true rfl) [1, 2, 3, 4, 5, 6, 7, 8, 9, 10, 11, 12, 13, 14, 15, 16, 0, 17] (lv' := [(0, .ref (a 0)), (1, .int (x0)), (2, .int (y0)), (3, .int (x1)), (4, .int (y1)), (5, .int (v)), (6, .int (nI (adN x0 x1))), (7, .int (nI (adN y0 y1))), (8, .int (sgn (x1 - x0))), (9, .int (sgn (y1 - y0))), (10, .int (nI (0))), (11, .int (nI (adN y0 y1))), (12, .int (nI (adN x0 x1))), (13, .int (er)), (14, .int (px)), (15, .int (py)), (16, .int (nI ((cn (fun k => isPx w h ((fun k => lnP x0 x1 (othN (adN y0 y1) (adN x0 x1) k)) k) ((fun k => lnP y0 y1 k) k)) k) + 0))), (17, .int (nI (k)))]) rfl d_TR_line_153 ?_
                    have hh9 : ¬ (fun k => isPx w h ((fun k => lnP x0 x1 (othN (adN y0 y1) (adN x0 x1) k)) k) ((fun k => lnP y0 y1 k) k)) k := fun q => e1 (by rw [← ex, ← ey]; exact q)
                    rw [Nat.add_zero, ← cn_n (P := fun k => isPx w h ((fun k => lnP x0 x1 (othN (adN y0 y1) (adN x0 x1) k)) k) ((fun k => lnP y0 y1 k) k)) (n := k) hh9]
                    exact K _ (pnt_n hw0 hP hh9)
            exact loop _ 0 _ _ _ f 0 (Nat.lt_succ_self _) (Nat.zero_le _) (erI_0 (by omega) rfl) (lnP_0 _ _) (lnP_0 _ _) pnt_0
          · skip
            refine rx_iconst C (nI 1) (by decide) d_TR_line_72 ?_
            refine rx_goto C d_TR_line_73 ?_
            refine rx_istore C (Nat.le_of_ble_eq_true rfl) [1, 2, 3, 4, 5, 6, 7, 8, 9, 10, 0] (lv' := [(0, .ref (a 0)), (1, .int (x0)), (2, .int (y0)), (3, .int (x1)), (4, .int (y1)), (5, .int (v)), (6, .int (nI (adN x0 x1))), (7, .int (nI (adN y0 y1))), (8, .int (sgn (x1 - x0))), (9, .int (sgn (y1 - y0))), (10, .int (nI (1)))]) rfl d_TR_line_77 ?_
            refine rx_iload C 10 rfl d_TR_line_79 ?_
            refine rx_if_eqN C (by omega) d_TR_line_81 (fun c81 => by exfalso; omega) (fun c81 => ?_)
            refine rx_iload C 6 rfl d_TR_line_84 ?_
            refine rx_goto C d_TR_line_86 ?_
            refine rx_istore C (Nat.le_of_ble_eq_true rfl) [1, 2, 3, 4, 5, 6, 7, 8, 9, 10, 11, 0] (lv' := [(0, .ref (a 0)), (1, .int (x0)), (2, .int (y0)), (3, .int (x1)), (4, .int (y1)), (5, .int (v)), (6, .int (nI (adN x0 x1))), (7, .int (nI (adN y0 y1))), (8, .int (sgn (x1 - x0))), (9, .int (sgn (y1 - y0))), (10, .int (nI (1))), (11, .int (nI (adN x0 x1)))]) rfl d_TR_line_91 ?_
            refine rx_iload C 10 rfl d_TR_line_93 ?_
            refine rx_if_eqN C (by omega) d_TR_line_95 (fun c95 => by exfalso; omega) (fun c95 => ?_)
            refine rx_iload C 7 rfl d_TR_line_98 ?_
            refine rx_goto C d_TR_line_100 ?_
            refine rx_istore C (Nat.le_of_ble_eq_true rfl) [1, 2, 3, 4, 5, 6, 7, 8, 9, 10, 11, 12, 0] (lv' := [(0, .ref (a 0)), (1, .int (x0)), (2, .int (y0)), (3, .int (x1)), (4, .int (y1)), (5, .int (v)), (6, .int (nI (adN x0 x1))), (7, .int (nI (adN y0 y1))), (8, .int (sgn (x1 - x0))), (9, .int (sgn (y1 - y0))), (10, .int (nI (1))), (11, .int (nI (adN x0 x1))), (12, .int (nI (adN y0 y1)))]) rfl d_TR_line_105 ?_
            refine rx_iload C 11 rfl d_TR_line_107 ?_
            refine rx_iconst C (nI 1) (by decide) d_TR_line_109 ?_
            refine rx_isub C d_TR_line_110 ?_
            refine rx_istore C (Nat.le_of_ble_eq_true rfl) [1, 2, 3, 4, 5, 6, 7, 8, 9, 10, 11, 12, 13, 0] (lv' := [(0, .ref (a 0)), (1, .int (x0)), (2, .int (y0)), (3, .int (x1)), (4, .int (y1)), (5, .int (v)), (6, .int (nI (adN x0 x1))), (7, .int (nI (adN y0 y1))), (8, .int (sgn (x1 - x0))), (9, .int (sgn (y1 - y0))), (10, .int (nI (1))), (11, .int (nI (adN x0 x1))), (12, .int (nI (adN y0 y1))), (13, .int ((nI (adN x0 x1)) - (nI (1))))]) rfl d_TR_line_111 ?_
            refine rx_iload_n C 1 rfl d_TR_line_113 ?_
            refine rx_istore C (Nat.le_of_ble_eq_true rfl) [1, 2, 3, 4, 5, 6, 7, 8, 9, 10, 11, 12, 13, 14, 0] (lv' := [(0, .ref (a 0)), (1, .int (x0)), (2, .int (y0)), (3, .int (x1)), (4, .int (y1)), (5, .int (v)), (6, .int (nI (adN x0 x1))), (7, .int (nI (adN y0 y1))), (8, .int (sgn (x1 - x0))), (9, .int (sgn (y1 - y0))), (10, .int (nI (1))), (11, .int (nI (adN x0 x1))), (12, .int (nI (adN y0 y1))), (13, .int ((nI (adN x0 x1)) - (nI (1)))), (14, .int (x0))]) rfl d_TR_line_114 ?_
            refine rx_iload_n C 2 rfl d_TR_line_116 ?_
            refine rx_istore C (Nat.le_of_ble_eq_true rfl) [1, 2, 3, 4, 5, 6, 7, 8, 9, 10, 11, 12, 13, 14, 15, 0] (lv' := [(0, .ref (a 0)), (1, .int (x0)), (2, .int (y0)), (3, .int (x1)), (4, .int (y1)), (5, .int (v)), (6, .int (nI (adN x0 x1))), (7, .int (nI (adN y0 y1))), (8, .int (sgn (x1 - x0))), (9, .int (sgn (y1 - y0))), (10, .int (nI (1))), (11, .int (nI (adN x0 x1))), (12, .int (nI (adN y0 y1))), (13, .int ((nI (adN x0 x1)) - (nI (1)))), (14, .int (x0)), (15, .int (y0))]) rfl d_TR_line_117 ?_
            refine rx_iconst C (nI 0) (by decide) d_TR_line_119 ?_
            refine rx_istore C (Nat.le_of_ble_eq_true rfl) [1, 2, 3, 4, 5, 6, 7, 8, 9, 10, 11, 12, 13, 14, 15, 16, 0] (lv' := [(0, .ref (a 0)), (1, .int (x0)), (2, .int (y0)), (3, .int (x1)), (4, .int (y1)), (5, .int (v)), (6, .int (nI (adN x0 x1))), (7, .int (nI (adN y0 y1))), (8, .int (sgn (x1 - x0))), (9, .int (sgn (y1 - y0))), (10, .int (nI (1))), (11, .int (nI (adN x0 x1))), (12, .int (nI (adN y0 y1))), (13, .int ((nI (adN x0 x1)) - (nI (1)))), (14, .int (x0)), (15, .int (y0)), (16, .int (nI (0)))]) rfl d_TR_line_120 ?_
            refine rx_iconst C (nI 0) (by decide) d_TR_line_122 ?_
            refine rx_istore C (Nat.le_of_ble_eq_true rfl) [1, 2, 3, 4, 5, 6, 7, 8, 9, 10, 11, 12, 13, 14, 15, 16, 17, 0] (lv' := [(0, .ref (a 0)), (1, .int (x0)), (2, .int (y0)), (3, .int (x1)), (4, .int (y1)), (5, .int (v)), (6, .int (nI (adN x0 x1))), (7, .int (nI (adN y0 y1))), (8, .int (sgn (x1 - x0))), (9, .int (sgn (y1 - y0))), (10, .int (nI (1))), (11, .int (nI (adN x0 x1))), (12, .int (nI (adN y0 y1))), (13, .int ((nI (adN x0 x1)) - (nI (1)))), (14, .int (x0)), (15, .int (y0)), (16, .int (nI (0))), (17, .int (nI (0)))]) rfl d_TR_line_123 ?_
            have loop : ∀ (n : Nat) (k : Nat) (er px py : Int32) (g : Nat → Int32) (O : Nat), adN x0 x1 + 1 - k < n → (k ≤ adN x0 x1 + 1) → (erI (adN x0 x1) (adN y0 y1) k er O) → (px = lnP x0 x1 k) → (py = lnP y0 y1 O) → (pnt (fun k => lnP x0 x1 k) (fun k => lnP y0 y1 (othN (adN x0 x1) (adN y0 y1) k)) w h v f g k) → G 125 [(0, .ref (a 0)), (1, .int (x0)), (2, .int (y0)), (3, .int (x1)), (4, .int (y1)), (5, .int (v)), (6, .int (nI (adN x0 x1))), (7, .int (nI (adN y0 y1))), (8, .int (sgn (x1 - x0))), (9, .int (sgn (y1 - y0))), (10, .int (nI (1))), (11, .int (nI (adN x0 x1))), (12, .int (nI (adN y0 y1))), (13, .int (er)), (14, .int (px)), (15, .int (py)), (16, .int (nI (cn (fun k => isPx w h ((fun k => lnP x0 x1 k) k) ((fun k => lnP y0 y1 (othN (adN x0 x1) (adN y0 y1) k)) k)) k))), (17, .int (nI (k)))] [] [(a 0, oTR w h a), (a 2, cI ta 576 (g))] := by
              intro n
              induction n with
              | zero => intro k er px py g O hm; exact absurd hm (Nat.not_lt_zero _)
              | succ n ih =>
                intro k er px py g O hm hk hE hpx hpy hP
                refine rx_iload C 17 rfl d_TR_line_125 ?_
                refine rx_iload C 11 rfl d_TR_line_127 ?_
                refine rx_icmp_gtN C (by omega) (by omega) d_TR_line_129 (fun c129 => ?_) (fun c129 => ?_)
                · skip
                  obtain rfl : k = adN x0 x1 + 1 := by omega
                  show G 246 [(0, .ref (a 0)), (1, .int (x0)), (2, .int (y0)), (3, .int (x1)), (4, .int (y1)), (5, .int (v)), (6, .int (nI (adN x0 x1))), (7, .int (nI (adN y0 y1))), (8, .int (sgn (x1 - x0))), (9, .int (sgn (y1 - y0))), (10, .int (nI (1))), (11, .int (nI (adN x0 x1))), (12, .int (nI (adN y0 y1))), (13, .int (er)), (14, .int (px)), (15, .int (py)), (16, .int (nI (cn (fun k => isPx w h ((fun k => lnP x0 x1 k) k) ((fun k => lnP y0 y1 (othN (adN x0 x1) (adN y0 y1) k)) k)) (adN x0 x1 + 1)))), (17, .int (nI (adN x0 x1 + 1)))] [] [(a 0, oTR w h a), (a 2, cI ta 576 (g))]
                  refine rx_iload C 16 rfl d_TR_line_246 ?_
                  exact hret _ _ _ _ g d_TR_line_248 (rfl) (Or.inr ⟨p0, p1, p2, p3, Or.inl ⟨c69, rfl, hP⟩⟩)
                · skip
                  have hO := erI_oth hE
                  have ex : (fun k => lnP x0 x1 k) k = px := by rw [hpx]
                  have ey : (fun k => lnP y0 y1 (othN (adN x0 x1) (adN y0 y1) k)) k = py := by rw [hpy, hO]
                  have K : ∀ (g2 : Nat → Int32), pnt (fun k => lnP x0 x1 k) (fun k => lnP y0 y1 (othN (adN x0 x1) (adN y0 y1) k)) w h v f g2 (k + 1) → G 155 [(0, .ref (a 0)), (1, .int (x0)), (2, .int (y0)), (3, .int (x1)), (4, .int (y1)), (5, .int (v)), (6, .int (nI (adN x0 x1))), (7, .int (nI (adN y0 y1))), (8, .int (sgn (x1 - x0))), (9, .int (sgn (y1 - y0))), (10, .int (nI (1))), (11, .int (nI (adN x0 x1))), (12, .int (nI (adN y0 y1))), (13, .int (er)), (14, .int (px)), (15, .int (py)), (16, .int (nI (cn (fun k => isPx w h ((fun k => lnP x0 x1 k) k) ((fun k => lnP y0 y1 (othN (adN x0 x1) (adN y0 y1) k)) k)) (k + 1)))), (17, .int (nI (k)))] [] [(a 0, oTR w h a), (a 2, cI ta 576 (g2))] := by
                    intro g2 hP2
                    refine rx_iload C 13 rfl d_TR_line_155 ?_
                    refine rx_iconst C (nI 2) (by decide) d_TR_line_157 ?_
                    refine rx_iload C 12 rfl d_TR_line_158 ?_
                    refine rx_imulN C d_TR_line_160 ?_
                    refine rx_iadd C d_TR_line_161 ?_
                    refine rx_istore C (Nat.le_of_ble_eq_true rfl) [1, 2, 3, 4, 5, 6, 7, 8, 9, 10, 11, 12, 13, 0, 14, 15, 16, 17] (lv' := [(0, .ref (a 0)), (1, .int (x0)), (2, .int (y0)), (3, .int (x1)), (4, .int (y1)), (5, .int (v)), (6, .int (nI (adN x0 x1))), (7, .int (nI (adN y0 y1))), (8, .int (sgn (x1 - x0))), (9, .int (sgn (y1 - y0))), (10, .int (nI (1))), (11, .int (nI (adN x0 x1))), (12, .int (nI (adN y0 y1))), (13, .int (er + (nI (2 * (adN y0 y1))))), (14, .int (px)), (15, .int (py)), (16, .int (nI (cn (fun k => isPx w h ((fun k => lnP x0 x1 k) k) ((fun k => lnP y0 y1 (othN (adN x0 x1) (adN y0 y1) k)) k)) (k + 1)))), (17, .int (nI (k)))]) rfl d_TR_line_162 ?_
                    refine rx_iload C 13 rfl d_TR_line_164 ?_
                    refine rx_iconst C (nI 2) (by decide) d_TR_line_166 ?_
                    refine rx_iload C 11 rfl d_TR_line_167 ?_
                    refine rx_imulN C d_TR_line_169 ?_
                    refine rx_icmp_lt C d_TR_line_170 (fun c170 => ?_) (fun c170 => ?_)
                    · skip
                      refine rx_iconst C (nI 0) (by decide) d_TR_line_177 ?_
                      refine rx_istore C (Nat.le_of_ble_eq_true rfl) [1, 2, 3, 4, 5, 6, 7, 8, 9, 10, 11, 12, 13, 14, 15, 16, 17, 18, 0] (lv' := [(0, .ref (a 0)), (1, .int (x0)), (2, .int (y0)), (3, .int (x1)), (4, .int (y1)), (5, .int (v)), (6, .int (nI (adN x0 x1))), (7, .int (nI (adN y0 y1))), (8, .int (sgn (x1 - x0))), (9, .int (sgn (y1 - y0))), (10, .int (nI (1))), (11, .int (nI (adN x0 x1))), (12, .int (nI (adN y0 y1))), (13, .int (er + (nI (2 * (adN y0 y1))))), (14, .int (px)), (15, .int (py)), (16, .int (nI (cn (fun k => isPx w h ((fun k => lnP x0 x1 k) k) ((fun k => lnP y0 y1 (othN (adN x0 x1) (adN y0 y1) k)) k)) (k + 1)))), (17, .int (nI (k))), (18, .int (nI (0)))]) rfl d_TR_line_178 ?_
                      refine rx_iload C 13 rfl d_TR_line_180 ?_
                      refine rx_iload C 18 rfl d_TR_line_182 ?_
                      refine rx_if_eqN C (by omega) d_TR_line_184 (fun c184 => ?_) (fun c184 => by exfalso; omega)
                      refine rx_iconst C (nI 0) (by decide) d_TR_line_194 ?_
                      refine rx_isub C d_TR_line_195 ?_
                      refine rx_istore C (Nat.le_of_ble_eq_true rfl) [1, 2, 3, 4, 5, 6, 7, 8, 9, 10, 11, 12, 13, 0, 14, 15, 16, 17, 18] (lv' := [(0, .ref (a 0)), (1, .int (x0)), (2, .int (y0)), (3, .int (x1)), (4, .int (y1)), (5, .int (v)), (6, .int (nI (adN x0 x1))), (7, .int (nI (adN y0 y1))), (8, .int (sgn (x1 - x0))), (9, .int (sgn (y1 - y0))), (10, .int (nI (1))), (11, .int (nI (adN x0 x1))), (12, .int (nI (adN y0 y1))), (13, .int ((er + (nI (2 * (adN y0 y1)))) - (nI (0)))), (14, .int (px)), (15, .int (py)), (16, .int (nI (cn (fun k => isPx w h ((fun k => lnP x0 x1 k) k) ((fun k => lnP y0 y1 (othN (adN x0 x1) (adN y0 y1) k)) k)) (k + 1)))), (17, .int (nI (k))), (18, .int (nI (0)))]) rfl d_TR_line_196 ?_
                      refine rx_iload C 14 rfl d_TR_line_198 ?_
                      refine rx_iload C 10 rfl d_TR_line_200 ?_
                      refine rx_if_neN C (by omega) d_TR_line_202 (fun c202 => ?_) (fun c202 => by exfalso; omega)
                      refine rx_iload C 8 rfl d_TR_line_210 ?_
                      refine rx_goto C d_TR_line_212 ?_
                      refine rx_iadd C d_TR_line_216 ?_
                      refine rx_istore C (Nat.le_of_ble_eq_true rfl) [1, 2, 3, 4, 5, 6, 7, 8, 9, 10, 11, 12, 13, 14, 0, 15, 16, 17, 18] (lv' := [(0, .ref (a 0)), (1, .int (x0)), (2, .int (y0)), (3, .int (x1)), (4, .int (y1)), (5, .int (v)), (6, .int (nI (adN x0 x1))), (7, .int (nI (adN y0 y1))), (8, .int (sgn (x1 - x0))), (9, .int (sgn (y1 - y0))), (10, .int (nI (1))), (11, .int (nI (adN x0 x1))), (12, .int (nI (adN y0 y1))), (13, .int ((er + (nI (2 * (adN y0 y1)))) - (nI (0)))), (14, .int (px + (sgn (x1 - x0)))), (15, .int (py)), (16, .int (nI (cn (fun k => isPx w h ((fun k => lnP x0 x1 k) k) ((fun k => lnP y0 y1 (othN (adN x0 x1) (adN y0 y1) k)) k)) (k + 1)))), (17, .int (nI (k))), (18, .int (nI (0)))]) rfl d_TR_line_217 ?_
                      refine rx_iload C 15 rfl d_TR_line_219 ?_
                      refine rx_iload C 10 rfl d_TR_line_221 ?_
                      refine rx_if_eqN C (by omega) d_TR_line_223 (fun c223 => by exfalso; omega) (fun c223 => ?_)
                      refine rx_iload C 18 rfl d_TR_line_226 ?_
                      refine rx_if_eqN C (by omega) d_TR_line_228 (fun c228 => ?_) (fun c228 => by exfalso; omega)
                      refine rx_iconst C (nI 0) (by decide) d_TR_line_236 ?_
                      refine rx_iadd C d_TR_line_237 ?_
                      refine rx_istore C (Nat.le_of_ble_eq_true rfl) [1, 2, 3, 4, 5, 6, 7, 8, 9, 10, 11, 12, 13, 14, 15, 0, 16, 17, 18] (lv' := [(0, .ref (a 0)), (1, .int (x0)), (2, .int (y0)), (3, .int (x1)), (4, .int (y1)), (5, .int (v)), (6, .int (nI (adN x0 x1))), (7, .int (nI (adN y0 y1))), (8, .int (sgn (x1 - x0))), (9, .int (sgn (y1 - y0))), (10, .int (nI (1))), (11, .int (nI (adN x0 x1))), (12, .int (nI (adN y0 y1))), (13, .int ((er + (nI (2 * (adN y0 y1)))) - (nI (0)))), (14, .int (px + (sgn (x1 - x0)))), (15, .int (py + (nI (0)))), (16, .int (nI (cn (fun k => isPx w h ((fun k => lnP x0 x1 k) k) ((fun k => lnP y0 y1 (othN (adN x0 x1) (adN y0 y1) k)) k)) (k + 1)))), (17, .int (nI (k))), (18, .int (nI (0)))]) rfl d_TR_line_238 ?_
                      refine rx_iinc C 17 rfl (nI (k + 1)) (nI_add _ _) (Nat.le_of_ble_eq_true rfl) [1, 2, 3, 4, 5, 6, 7, 8, 9, 10, 11, 12, 13, 14, 15, 16, 17, 0, 18] (lv' := [(0, .ref (a 0)), (1, .int (x0)), (2, .int (y0)), (3, .int (x1)), (4, .int (y1)), (5, .int (v)), (6, .int (nI (adN x0 x1))), (7, .int (nI (adN y0 y1))), (8, .int (sgn (x1 - x0))), (9, .int (sgn (y1 - y0))), (10, .int (nI (1))), (11, .int (nI (adN x0 x1))), (12, .int (nI (adN y0 y1))), (13, .int ((er + (nI (2 * (adN y0 y1)))) - (nI (0)))), (14, .int (px + (sgn (x1 - x0)))), (15, .int (py + (nI (0)))), (16, .int (nI (cn (fun k => isPx w h ((fun k => lnP x0 x1 k) k) ((fun k => lnP y0 y1 (othN (adN x0 x1) (adN y0 y1) k)) k)) (k + 1)))), (17, .int (nI (k + 1))), (18, .int (nI (0)))]) rfl d_TR_line_240 ?_
                      refine rx_goto C d_TR_line_243 ?_
                      refine rx_lv C [0, 1, 2, 3, 4, 5, 6, 7, 8, 9, 10, 11, 12, 13, 14, 15, 16, 17] rfl ?_
                      refine ih (k + 1) ((er + (nI (2 * (adN y0 y1)))) - (nI (0))) (px + (sgn (x1 - x0))) (py + (nI (0))) g2 O (by omega) (by omega) (?_) (by rw [hpx]; exact lnP_s _ _ _) (by rw [hpy, nI_0, Int32.add_zero]) hP2
                      rw [nI_0, Int32.sub_zero]
                      exact erI_lo (by omega) (by omega) hE c170
                    · skip
                      refine rx_iconst C (nI 1) (by decide) d_TR_line_173 ?_
                      refine rx_goto C d_TR_line_174 ?_
                      refine rx_istore C (Nat.le_of_ble_eq_true rfl) [1, 2, 3, 4, 5, 6, 7, 8, 9, 10, 11, 12, 13, 14, 15, 16, 17, 18, 0] (lv' := [(0, .ref (a 0)), (1, .int (x0)), (2, .int (y0)), (3, .int (x1)), (4, .int (y1)), (5, .int (v)), (6, .int (nI (adN x0 x1))), (7, .int (nI (adN y0 y1))), (8, .int (sgn (x1 - x0))), (9, .int (sgn (y1 - y0))), (10, .int (nI (1))), (11, .int (nI (adN x0 x1))), (12, .int (nI (adN y0 y1))), (13, .int (er + (nI (2 * (adN y0 y1))))), (14, .int (px)), (15, .int (py)), (16, .int (nI (cn (fun k => isPx w h ((fun k => lnP x0 x1 k) k) ((fun k => lnP y0 y1 (othN (adN x0 x1) (adN y0 y1) k)) k)) (k + 1)))), (17, .int (nI (k))), (18, .int (nI (1)))]) rfl d_TR_line_178 ?_
                      refine rx_iload C 13 rfl d_TR_line_180 ?_
                      refine rx_iload C 18 rfl d_TR_line_182 ?_
                      refine rx_if_eqN C (by omega) d_TR_line_184 (fun c184 => by exfalso; omega) (fun c184 => ?_)
                      refine rx_iconst C (nI 2) (by decide) d_TR_line_187 ?_
                      refine rx_iload C 11 rfl d_TR_line_188 ?_
                      refine rx_imulN C d_TR_line_190 ?_
                      refine rx_goto C d_TR_line_191 ?_
                      refine rx_isub C d_TR_line_195 ?_
                      refine rx_istore C (Nat.le_of_ble_eq_true rfl) [1, 2, 3, 4, 5, 6, 7, 8, 9, 10, 11, 12, 13, 0, 14, 15, 16, 17, 18] (lv' := [(0, .ref (a 0)), (1, .int (x0)), (2, .int (y0)), (3, .int (x1)), (4, .int (y1)), (5, .int (v)), (6, .int (nI (adN x0 x1))), (7, .int (nI (adN y0 y1))), (8, .int (sgn (x1 - x0))), (9, .int (sgn (y1 - y0))), (10, .int (nI (1))), (11, .int (nI (adN x0 x1))), (12, .int (nI (adN y0 y1))), (13, .int ((er + (nI (2 * (adN y0 y1)))) - (nI (2 * (adN x0 x1))))), (14, .int (px)), (15, .int (py)), (16, .int (nI (cn (fun k => isPx w h ((fun k => lnP x0 x1 k) k) ((fun k => lnP y0 y1 (othN (adN x0 x1) (adN y0 y1) k)) k)) (k + 1)))), (17, .int (nI (k))), (18, .int (nI (1)))]) rfl d_TR_line_196 ?_
                      refine rx_iload C 14 rfl d_TR_line_198 ?_
                      refine rx_iload C 10 rfl d_TR_line_200 ?_
                      refine rx_if_neN C (by omega) d_TR_line_202 (fun c202 => ?_) (fun c202 => by exfalso; omega)
                      refine rx_iload C 8 rfl d_TR_line_210 ?_
                      refine rx_goto C d_TR_line_212 ?_
                      refine rx_iadd C d_TR_line_216 ?_
                      refine rx_istore C (Nat.le_of_ble_eq_true rfl) [1, 2, 3, 4, 5, 6, 7, 8, 9, 10, 11, 12, 13, 14, 0, 15, 16, 17, 18] (lv' := [(0, .ref (a 0)), (1, .int (x0)), (2, .int (y0)), (3, .int (x1)), (4, .int (y1)), (5, .int (v)), (6, .int (nI (adN x0 x1))), (7, .int (nI (adN y0 y1))), (8, .int (sgn (x1 - x0))), (9, .int (sgn (y1 - y0))), (10, .int (nI (1))), (11, .int (nI (adN x0 x1))), (12, .int (nI (adN y0 y1))), (13, .int ((er + (nI (2 * (adN y0 y1)))) - (nI (2 * (adN x0 x1))))), (14, .int (px + (sgn (x1 - x0)))), (15, .int (py)), (16, .int (nI (cn (fun k => isPx w h ((fun k => lnP x0 x1 k) k) ((fun k => lnP y0 y1 (othN (adN x0 x1) (adN y0 y1) k)) k)) (k + 1)))), (17, .int (nI (k))), (18, .int (nI (1)))]) rfl d_TR_line_217 ?_
                      refine rx_iload C 15 rfl d_TR_line_219 ?_
                      refine rx_iload C 10 rfl d_TR_line_221 ?_
                      refine rx_if_eqN C (by omega) d_TR_line_223 (fun c223 => by exfalso; omega) (fun c223 => ?_)
                      refine rx_iload C 18 rfl d_TR_line_226 ?_
                      refine rx_if_eqN C (by omega) d_TR_line_228 (fun c228 => by exfalso; omega) (fun c228 => ?_)
                      refine rx_iload C 9 rfl d_TR_line_231 ?_
                      refine rx_goto C d_TR_line_233 ?_
                      refine rx_iadd C d_TR_line_237 ?_
                      refine rx_istore C (Nat.le_of_ble_eq_true rfl) [1, 2, 3, 4, 5, 6, 7, 8, 9, 10, 11, 12, 13, 14, 15, 0, 16, 17, 18] (lv' := [(0, .ref (a 0)), (1, .int (x0)), (2, .int (y0)), (3, .int (x1)), (4, .int (y1)), (5, .int (v)), (6, .int (nI (adN x0 x1))), (7, .int (nI (adN y0 y1))), (8, .int (sgn (x1 - x0))), (9, .int (sgn (y1 - y0))), (10, .int (nI (1))), (11, .int (nI (adN x0 x1))), (12, .int (nI (adN y0 y1))), (13, .int ((er + (nI (2 * (adN y0 y1)))) - (nI (2 * (adN x0 x1))))), (14, .int (px + (sgn (x1 - x0)))), (15, .int (py + (sgn (y1 - y0)))), (16, .int (nI (cn (fun k => isPx w h ((fun k => lnP x0 x1 k) k) ((fun k => lnP y0 y1 (othN (adN x0 x1) (adN y0 y1) k)) k)) (k + 1)))), (17, .int (nI (k))), (18, .int (nI (1)))]) rfl d_TR_line_238 ?_
                      refine rx_iinc C 17 rfl (nI (k + 1)) (nI_add _ _) (Nat.le_of_ble_eq_true rfl) [1, 2, 3, 4, 5, 6, 7, 8, 9, 10, 11, 12, 13, 14, 15, 16, 17, 0, 18] (lv' := [(0, .ref (a 0)), (1, .int (x0)), (2, .int (y0)), (3, .int (x1)), (4, .int (y1)), (5, .int (v)), (6, .int (nI (adN x0 x1))), (7, .int (nI (adN y0 y1))), (8, .int (sgn (x1 - x0))), (9, .int (sgn (y1 - y0))), (10, .int (nI (1))), (11, .int (nI (adN x0 x1))), (12, .int (nI (adN y0 y1))), (13, .int ((er + (nI (2 * (adN y0 y1)))) - (nI (2 * (adN x0 x1))))), (14, .int (px + (sgn (x1 - x0)))), (15, .int (py + (sgn (y1 - y0)))), (16, .int (nI (cn (fun k => isPx w h ((fun k => lnP x0 x1 k) k) ((fun k => lnP y0 y1 (othN (adN x0 x1) (adN y0 y1) k)) k)) (k + 1)))), (17, .int (nI (k + 1))), (18, .int (nI (1)))]) rfl d_TR_line_240 ?_
                      refine rx_goto C d_TR_line_243 ?_
                      refine rx_lv C [0, 1, 2, 3, 4, 5, 6, 7, 8, 9, 10, 11, 12, 13, 14, 15, 16, 17] rfl ?_
                      exact ih (k + 1) ((er + (nI (2 * (adN y0 y1)))) - (nI (2 * (adN x0 x1)))) (px + (sgn (x1 - x0))) (py + (sgn (y1 - y0))) g2 (O + 1) (by omega) (by omega) (erI_hi (by omega) (by omega) hE (nlt32 c170)) (by rw [hpx]; exact lnP_s _ _ _) (by rw [hpy]; exact lnP_s _ _ _) hP2
                  refine rx_iload C 16 rfl d_TR_line_132 ?_
                  refine rx_aload_n C 0 rfl d_TR_line_134 ?_
                  refine rx_iload C 14 rfl d_TR_line_135 ?_
                  refine rx_iload C 15 rfl d_TR_line_137 ?_
                  refine rx_iload C 5 rfl d_TR_line_139 ?_
                  refine rx_callVi C (c_TR_set l D ta w h a g px py v hw hh) cw_TR_104 ⟨rfl, rfl, by decide, by decide⟩ rfl [0, 1] rfl rfl (q0 := 0) rfl rfl rfl [.int (nI (cn (fun k => isPx w h ((fun k => lnP x0 x1 k) k) ((fun k => lnP y0 y1 (othN (adN x0 x1) (adN y0 y1) k)) k)) k))] rfl (Nat.le_of_ble_eq_true rfl) (fun _ => rfl) d_TR_line_141 (fun r6 u6 h6 => ?_)
                  refine rx_ws (ws' := [(a 0, oTR w h a), (a 2, cI ta 576 (u6))]) ?_ rfl
                  rcases h6 with ⟨i, j, hi, hj, e1, e2, rfl, rfl⟩ | ⟨e1, rfl, rfl⟩
                  · skip
                    show G 144 [(0, .ref (a 0)), (1, .int (x0)), (2, .int (y0)), (3, .int (x1)), (4, .int (y1)), (5, .int (v)), (6, .int (nI (adN x0 x1))), (7, .int (nI (adN y0 y1))), (8, .int (sgn (x1 - x0))), (9, .int (sgn (y1 - y0))), (10, .int (nI (1))), (11, .int (nI (adN x0 x1))), (12, .int (nI (adN y0 y1))), (13, .int (er)), (14, .int (px)), (15, .int (py)), (16, .int (nI (cn (fun k => isPx w h ((fun k => lnP x0 x1 k) k) ((fun k => lnP y0 y1 (othN (adN x0 x1) (adN y0 y1) k)) k)) k))), (17, .int (nI (k)))] [.int (nI (1)), .int (nI (cn (fun k => isPx w h ((fun k => lnP x0 x1 k) k) ((fun k => lnP y0 y1 (othN (adN x0 x1) (adN y0 y1) k)) k)) k))] [(a 0, oTR w h a), (a 2, cI ta 576 (upd g (w * j + i) v))]
                    refine rx_if_eqN C (by omega) d_TR_line_144 (fun c144 => by exfalso; omega) (fun c144 => ?_)
                    refine rx_iconst C (nI 1) (by decide) d_TR_line_147 ?_
                    refine rx_goto C d_TR_line_148 ?_
                    refine rx_iaddN C d_TR_line_152 ?_
                    refine rx_istore C (Nat.le_of_ble_eq_true rfl) [1, 2, 3, 4, 5, 6, 7, 8, 9, 10, 11, 12, 13, 14, 15, 16, 0, 17] (lv' := [(0, .ref (a 0)), (1, .int (x0)), (2, .int (y0)), (3, .int (x1)), (4, .int (y1)), (5, .int (v)), (6, .int (nI (adN x0 x1))), (7, .int (nI (adN y0 y1))), (8, .int (sgn (x1 - x0))), (9, .int (sgn (y1 - y0))), (10, .int (nI (1))), (11, .int (nI (adN x0 x1))), (12, .int (nI (adN y0 y1))), (13, .int (er)), (14, .int (px)), (15, .int (py)), (16, .int (nI ((cn (fun k => isPx w h ((fun k => lnP x0 x1 k) k) ((fun k => lnP y0 y1 (othN (adN x0 x1) (adN y0 y1) k)) k)) k) + 1))), (17, .int (nI (k)))]) rfl d_TR_line_153 ?_
                    have hh9 : (fun k => isPx w h ((fun k => lnP x0 x1 k) k) ((fun k => lnP y0 y1 (othN (adN x0 x1) (adN y0 y1) k)) k)) k := ⟨i, j, hi, hj, ex.trans e1, ey.trans e2⟩
                    rw [← cn_y (P := fun k => isPx w h ((fun k => lnP x0 x1 k) k) ((fun k => lnP y0 y1 (othN (adN x0 x1) (adN y0 y1) k)) k)) (n := k) hh9]
                    exact K _ (pnt_y hw0 hw hh hP hi hj (ex.trans e1) (ey.trans e2) pk_us (fun p hp => pk_un hp))
                  · skip
                    show G 144 [(0, .ref (a 0)), (1, .int (x0)), (2, .int (y0)), (3, .int (x1)), (4, .int (y1)), (5, .int (v)), (6, .int (nI (adN x0 x1))), (7, .int (nI (adN y0 y1))), (8, .int (sgn (x1 - x0))), (9, .int (sgn (y1 - y0))), (10, .int (nI (1))), (11, .int (nI (adN x0 x1))), (12, .int (nI (adN y0 y1))), (13, .int (er)), (14, .int (px)), (15, .int (py)), (16, .int (nI (cn (fun k => isPx w h ((fun k => lnP x0 x1 k) k) ((fun k => lnP y0 y1 (othN (adN x0 x1) (adN y0 y1) k)) k)) k))), (17, .int (nI (k)))] [.int (nI (0)), .int (nI (cn (fun k => isPx w h ((fun k => lnP x0 x1 k) k) ((fun k => lnP y0 y1 (othN (adN x0 x1) (adN y0 y1) k)) k)) k))] [(a 0, oTR w h a), (a 2, cI ta 576 (u6))]
                    refine rx_if_eqN C (by omega) d_TR_line_144 (fun c144 => ?_) (fun c144 => by exfalso; omega)
                    refine rx_iconst C (nI 0) (by decide) d_TR_line_151 ?_
                    refine rx_iaddN C d_TR_line_152 ?_
                    refine rx_istore C (Nat.le_of_ble_eq_true rfl) [1, 2, 3, 4, 5, 6, 7, 8, 9, 10, 11, 12, 13, 14, 15, 16, 0, 17] (lv' := [(0, .ref (a 0)), (1, .int (x0)), (2, .int (y0)), (3, .int (x1)), (4, .int (y1)), (5, .int (v)), (6, .int (nI (adN x0 x1))), (7, .int (nI (adN y0 y1))), (8, .int (sgn (x1 - x0))), (9, .int (sgn (y1 - y0))), (10, .int (nI (1))), (11, .int (nI (adN x0 x1))), (12, .int (nI (adN y0 y1))), (13, .int (er)), (14, .int (px)), (15, .int (py)), (16, .int (nI ((cn (fun k => isPx w h ((fun k => lnP x0 x1 k) k) ((fun k => lnP y0 y1 (othN (adN x0 x1) (adN y0 y1) k)) k)) k) + 0))), (17, .int (nI (k)))]) rfl d_TR_line_153 ?_
                    have hh9 : ¬ (fun k => isPx w h ((fun k => lnP x0 x1 k) k) ((fun k => lnP y0 y1 (othN (adN x0 x1) (adN y0 y1) k)) k)) k := fun q => e1 (by rw [← ex, ← ey]; exact q)
                    rw [Nat.add_zero, ← cn_n (P := fun k => isPx w h ((fun k => lnP x0 x1 k) k) ((fun k => lnP y0 y1 (othN (adN x0 x1) (adN y0 y1) k)) k)) (n := k) hh9]
                    exact K _ (pnt_n hw0 hP hh9)
            exact loop _ 0 _ _ _ f 0 (Nat.lt_succ_self _) (Nat.zero_le _) (erI_0 (by omega) rfl) (lnP_0 _ _) (lnP_0 _ _) pnt_0
set_option maxHeartbeats 4000000 in
set_option maxRecDepth 100000 in
theorem c_TM_line (l : Launch) (D : va_G) (ta : Nat → ClassId) (w h : Nat) (a : Nat → Nat) (f : Nat → Int32) (x0 y0 x1 y1 v : Int32) (hw0 : 0 < w) (hw : w ≤ 24) (hh : h ≤ 24) : Cti l y_TM_line b_TM_line 16 .int rm_TM_line D ta [.ref (a 0), .int (x0), .int (y0), .int (x1), .int (y1), .int (v)] [(a 0, oTM w h a), (a 2, cI ta 576 (f))] (fun u : Nat → Int32 => [(a 0, oTM w h a), (a 2, cI ta 576 (u))]) (fun r u => lineP w h x0 y0 x1 y1 v (fun p => f (mx w p)) (fun p => u (mx w p)) r) := by
  have hwh : w * h ≤ 576 := Nat.mul_le_mul hw hh
  refine start_i rfl (Nat.le_of_ble_eq_true rfl) (fun G C hret => ?_)
  show G 0 [(0, .ref (a 0)), (1, .int (x0)), (2, .int (y0)), (3, .int (x1)), (4, .int (y1)), (5, .int (v))] [] [(a 0, oTM w h a), (a 2, cI ta 576 (f))]
  refine rx_iload_n C 1 rfl d_TM_line_0 ?_
  refine rx_callSi C (c_TM_isFar l D ta x0) cw_TM_37 ⟨rfl, rfl, by decide, by decide⟩ rfl [] rfl rfl [] rfl (Nat.le_of_ble_eq_true rfl) (fun _ => rfl) d_TM_line_1 (fun r0 u0 h0 => ?_)
  refine rx_ws (ws' := [(a 0, oTM w h a), (a 2, cI ta 576 (f))]) ?_ rfl
  rcases h0 with ⟨rfl, p0⟩ | ⟨rfl, p0⟩
  · skip
    show G 4 [(0, .ref (a 0)), (1, .int (x0)), (2, .int (y0)), (3, .int (x1)), (4, .int (y1)), (5, .int (v))] [.int (nI (1))] [(a 0, oTM w h a), (a 2, cI ta 576 (f))]
    refine rx_if_neN C (by omega) d_TM_line_4 (fun c4 => ?_) (fun c4 => by exfalso; omega)
    refine rx_iconst C (-1) (by decide) d_TM_line_29 ?_
    exact hret _ _ _ _ _ d_TM_line_30 (rfl) (Or.inl ⟨Or.inl p0, rfl, rfl⟩)
  · skip
    show G 4 [(0, .ref (a 0)), (1, .int (x0)), (2, .int (y0)), (3, .int (x1)), (4, .int (y1)), (5, .int (v))] [.int (nI (0))] [(a 0, oTM w h a), (a 2, cI ta 576 (f))]
    refine rx_if_neN C (by omega) d_TM_line_4 (fun c4 => by exfalso; omega) (fun c4 => ?_)
    refine rx_iload_n C 2 rfl d_TM_line_7 ?_
    refine rx_callSi C (c_TM_isFar l D ta y0) cw_TM_37 ⟨rfl, rfl, by decide, by decide⟩ rfl [] rfl rfl [] rfl (Nat.le_of_ble_eq_true rfl) (fun _ => rfl) d_TM_line_8 (fun r1 u1 h1 => ?_)
    refine rx_ws (ws' := [(a 0, oTM w h a), (a 2, cI ta 576 (f))]) ?_ rfl
    rcases h1 with ⟨rfl, p1⟩ | ⟨rfl, p1⟩
    · skip
      show G 11 [(0, .ref (a 0)), (1, .int (x0)), (2, .int (y0)), (3, .int (x1)), (4, .int (y1)), (5, .int (v))] [.int (nI (1))] [(a 0, oTM w h a), (a 2, cI ta 576 (f))]
      refine rx_if_neN C (by omega) d_TM_line_11 (fun c11 => ?_) (fun c11 => by exfalso; omega)
      refine rx_iconst C (-1) (by decide) d_TM_line_29 ?_
      exact hret _ _ _ _ _ d_TM_line_30 (rfl) (Or.inl ⟨Or.inr (Or.inl p1), rfl, rfl⟩)
    · skip
      show G 11 [(0, .ref (a 0)), (1, .int (x0)), (2, .int (y0)), (3, .int (x1)), (4, .int (y1)), (5, .int (v))] [.int (nI (0))] [(a 0, oTM w h a), (a 2, cI ta 576 (f))]
      refine rx_if_neN C (by omega) d_TM_line_11 (fun c11 => by exfalso; omega) (fun c11 => ?_)
      refine rx_iload_n C 3 rfl d_TM_line_14 ?_
      refine rx_callSi C (c_TM_isFar l D ta x1) cw_TM_37 ⟨rfl, rfl, by decide, by decide⟩ rfl [] rfl rfl [] rfl (Nat.le_of_ble_eq_true rfl) (fun _ => rfl) d_TM_line_15 (fun r2 u2 h2 => ?_)
      refine rx_ws (ws' := [(a 0, oTM w h a), (a 2, cI ta 576 (f))]) ?_ rfl
      rcases h2 with ⟨rfl, p2⟩ | ⟨rfl, p2⟩
      · skip
        show G 18 [(0, .ref (a 0)), (1, .int (x0)), (2, .int (y0)), (3, .int (x1)), (4, .int (y1)), (5, .int (v))] [.int (nI (1))] [(a 0, oTM w h a), (a 2, cI ta 576 (f))]
        refine rx_if_neN C (by omega) d_TM_line_18 (fun c18 => ?_) (fun c18 => by exfalso; omega)
        refine rx_iconst C (-1) (by decide) d_TM_line_29 ?_
        exact hret _ _ _ _ _ d_TM_line_30 (rfl) (Or.inl ⟨Or.inr (Or.inr (Or.inl p2)), rfl, rfl⟩)
      · skip
        show G 18 [(0, .ref (a 0)), (1, .int (x0)), (2, .int (y0)), (3, .int (x1)), (4, .int (y1)), (5, .int (v))] [.int (nI (0))] [(a 0, oTM w h a), (a 2, cI ta 576 (f))]
        refine rx_if_neN C (by omega) d_TM_line_18 (fun c18 => by exfalso; omega) (fun c18 => ?_)
        refine rx_iload C 4 rfl d_TM_line_21 ?_
        refine rx_callSi C (c_TM_isFar l D ta y1) cw_TM_37 ⟨rfl, rfl, by decide, by decide⟩ rfl [] rfl rfl [] rfl (Nat.le_of_ble_eq_true rfl) (fun _ => rfl) d_TM_line_23 (fun r3 u3 h3 => ?_)
        refine rx_ws (ws' := [(a 0, oTM w h a), (a 2, cI ta 576 (f))]) ?_ rfl
        rcases h3 with ⟨rfl, p3⟩ | ⟨rfl, p3⟩
        · skip
          show G 26 [(0, .ref (a 0)), (1, .int (x0)), (2, .int (y0)), (3, .int (x1)), (4, .int (y1)), (5, .int (v))] [.int (nI (1))] [(a 0, oTM w h a), (a 2, cI ta 576 (f))]
          refine rx_if_eqN C (by omega) d_TM_line_26 (fun c26 => by exfalso; omega) (fun c26 => ?_)
          refine rx_iconst C (-1) (by decide) d_TM_line_29 ?_
          exact hret _ _ _ _ _ d_TM_line_30 (rfl) (Or.inl ⟨Or.inr (Or.inr (Or.inr p3)), rfl, rfl⟩)
        · skip
          show G 26 [(0, .ref (a 0)), (1, .int (x0)), (2, .int (y0)), (3, .int (x1)), (4, .int (y1)), (5, .int (v))] [.int (nI (0))] [(a 0, oTM w h a), (a 2, cI ta 576 (f))]
          refine rx_if_eqN C (by omega) d_TM_line_26 (fun c26 => ?_) (fun c26 => by exfalso; omega)
          have hdx := adN_le p0 p2
          have hdy := adN_le p1 p3
          have K66 : G 66 [(0, .ref (a 0)), (1, .int (x0)), (2, .int (y0)), (3, .int (x1)), (4, .int (y1)), (5, .int (v)), (6, .int (nI (adN x0 x1))), (7, .int (nI (adN y0 y1)))] [] [(a 0, oTM w h a), (a 2, cI ta 576 (f))] := by
            refine rx_iload C 6 rfl d_TM_line_66 ?_
            refine rx_iload C 7 rfl d_TM_line_68 ?_
            refine rx_icmp_ltN C (by omega) (by omega) d_TM_line_70 (fun c70 => ?_) (fun c70 => ?_)
            · skip
              refine rx_iconst C (nI 0) (by decide) d_TM_line_77 ?_
              refine rx_istore C (Nat.le_of_ble_eq_true rfl) [1, 2, 3, 4, 5, 6, 7, 8, 0] (lv' := [(0, .ref (a 0)), (1, .int (x0)), (2, .int (y0)), (3, .int (x1)), (4, .int (y1)), (5, .int (v)), (6, .int (nI (adN x0 x1))), (7, .int (nI (adN y0 y1))), (8, .int (nI (0)))]) rfl d_TM_line_78 ?_
              refine rx_iload C 8 rfl d_TM_line_80 ?_
              refine rx_if_eqN C (by omega) d_TM_line_82 (fun c82 => ?_) (fun c82 => by exfalso; omega)
              refine rx_iload C 7 rfl d_TM_line_90 ?_
              refine rx_istore C (Nat.le_of_ble_eq_true rfl) [1, 2, 3, 4, 5, 6, 7, 8, 9, 0] (lv' := [(0, .ref (a 0)), (1, .int (x0)), (2, .int (y0)), (3, .int (x1)), (4, .int (y1)), (5, .int (v)), (6, .int (nI (adN x0 x1))), (7, .int (nI (adN y0 y1))), (8, .int (nI (0))), (9, .int (nI (adN y0 y1)))]) rfl d_TM_line_92 ?_
              refine rx_iload C 8 rfl d_TM_line_94 ?_
              refine rx_if_eqN C (by omega) d_TM_line_96 (fun c96 => ?_) (fun c96 => by exfalso; omega)
              refine rx_iload C 6 rfl d_TM_line_104 ?_
              refine rx_istore C (Nat.le_of_ble_eq_true rfl) [1, 2, 3, 4, 5, 6, 7, 8, 9, 10, 0] (lv' := [(0, .ref (a 0)), (1, .int (x0)), (2, .int (y0)), (3, .int (x1)), (4, .int (y1)), (5, .int (v)), (6, .int (nI (adN x0 x1))), (7, .int (nI (adN y0 y1))), (8, .int (nI (0))), (9, .int (nI (adN y0 y1))), (10, .int (nI (adN x0 x1)))]) rfl d_TM_line_106 ?_
              refine rx_iconst C (nI 0) (by decide) d_TM_line_108 ?_
              refine rx_istore C (Nat.le_of_ble_eq_true rfl) [1, 2, 3, 4, 5, 6, 7, 8, 9, 10, 11, 0] (lv' := [(0, .ref (a 0)), (1, .int (x0)), (2, .int (y0)), (3, .int (x1)), (4, .int (y1)), (5, .int (v)), (6, .int (nI (adN x0 x1))), (7, .int (nI (adN y0 y1))), (8, .int (nI (0))), (9, .int (nI (adN y0 y1))), (10, .int (nI (adN x0 x1))), (11, .int (nI (0)))]) rfl d_TM_line_109 ?_
              refine rx_iconst C (nI 0) (by decide) d_TM_line_111 ?_
              refine rx_istore C (Nat.le_of_ble_eq_true rfl) [1, 2, 3, 4, 5, 6, 7, 8, 9, 10, 11, 12, 0] (lv' := [(0, .ref (a 0)), (1, .int (x0)), (2, .int (y0)), (3, .int (x1)), (4, .int (y1)), (5, .int (v)), (6, .int (nI (adN x0 x1))), (7, .int (nI (adN y0 y1))), (8, .int (nI (0))), (9, .int (nI (adN y0 y1))), (10, .int (nI (adN x0 x1))), (11, .int (nI (0))), (12, .int (nI (0)))]) rfl d_TM_line_112 ?_
              have loop : ∀ (n : Nat) (k : Nat) (g : Nat → Int32), adN y0 y1 + 1 - k < n → (k ≤ adN y0 y1 + 1) → (pnt (fun k => lnP x0 x1 (othN (adN y0 y1) (adN x0 x1) k)) (fun k => lnP y0 y1 k) w h v (fun p => f (mx w p)) (fun p => g (mx w p)) k) → G 114 [(0, .ref (a 0)), (1, .int (x0)), (2, .int (y0)), (3, .int (x1)), (4, .int (y1)), (5, .int (v)), (6, .int (nI (adN x0 x1))), (7, .int (nI (adN y0 y1))), (8, .int (nI (0))), (9, .int (nI (adN y0 y1))), (10, .int (nI (adN x0 x1))), (11, .int (nI (cn (fun k => isPx w h ((fun k => lnP x0 x1 (othN (adN y0 y1) (adN x0 x1) k)) k) ((fun k => lnP y0 y1 k) k)) (k)))), (12, .int (nI (k)))] [] [(a 0, oTM w h a), (a 2, cI ta 576 (g))] := by
                intro n
                induction n with
                | zero => intro k g hm; exact absurd hm (Nat.not_lt_zero _)
                | succ n ih =>
                  intro k g hm hk hP
                  refine rx_iload C 12 rfl d_TM_line_114 ?_
                  refine rx_iload C 9 rfl d_TM_line_116 ?_
                  refine rx_icmp_gtN C (by omega) (by omega) d_TM_line_118 (fun c118 => ?_) (fun c118 => ?_)
                  · skip
                    obtain rfl : k = adN y0 y1 + 1 := by omega
                    show G 240 [(0, .ref (a 0)), (1, .int (x0)), (2, .int (y0)), (3, .int (x1)), (4, .int (y1)), (5, .int (v)), (6, .int (nI (adN x0 x1))), (7, .int (nI (adN y0 y1))), (8, .int (nI (0))), (9, .int (nI (adN y0 y1))), (10, .int (nI (adN x0 x1))), (11, .int (nI (cn (fun k => isPx w h ((fun k => lnP x0 x1 (othN (adN y0 y1) (adN x0 x1) k)) k) ((fun k => lnP y0 y1 k) k)) (adN y0 y1 + 1)))), (12, .int (nI (adN y0 y1 + 1)))] [] [(a 0, oTM w h a), (a 2, cI ta 576 (g))]
                    refine rx_iload C 11 rfl d_TM_line_240 ?_
                    exact hret _ _ _ _ g d_TM_line_242 (rfl) (Or.inr ⟨p0, p1, p2, p3, Or.inr ⟨Nat.not_le.mpr c70, rfl, hP⟩⟩)
                  · skip
                    have K : G 156 [(0, .ref (a 0)), (1, .int (x0)), (2, .int (y0)), (3, .int (x1)), (4, .int (y1)), (5, .int (v)), (6, .int (nI (adN x0 x1))), (7, .int (nI (adN y0 y1))), (8, .int (nI (0))), (9, .int (nI (adN y0 y1))), (10, .int (nI (adN x0 x1))), (11, .int (nI (cn (fun k => isPx w h ((fun k => lnP x0 x1 (othN (adN y0 y1) (adN x0 x1) k)) k) ((fun k => lnP y0 y1 k) k)) (k)))), (12, .int (nI (k)))] [.int (nI (othN (adN y0 y1) (adN x0 x1) k))] [(a 0, oTM w h a), (a 2, cI ta 576 (g))] := by
                      refine rx_istore C (Nat.le_of_ble_eq_true rfl) [1, 2, 3, 4, 5, 6, 7, 8, 9, 10, 11, 12, 13, 0] (lv' := [(0, .ref (a 0)), (1, .int (x0)), (2, .int (y0)), (3, .int (x1)), (4, .int (y1)), (5, .int (v)), (6, .int (nI (adN x0 x1))), (7, .int (nI (adN y0 y1))), (8, .int (nI (0))), (9, .int (nI (adN y0 y1))), (10, .int (nI (adN x0 x1))), (11, .int (nI (cn (fun k => isPx w h ((fun k => lnP x0 x1 (othN (adN y0 y1) (adN x0 x1) k)) k) ((fun k => lnP y0 y1 k) k)) (k)))), (12, .int (nI (k))), (13, .int (nI (othN (adN y0 y1) (adN x0 x1) k)))]) rfl d_TM_line_156 ?_
                      refine rx_iload_n C 1 rfl d_TM_line_158 ?_
                      refine rx_iload_n C 3 rfl d_TM_line_159 ?_
                      refine rx_iload_n C 1 rfl d_TM_line_160 ?_
                      refine rx_isub C d_TM_line_161 ?_
                      refine rx_callSi C (c_TM_sign l D ta (x1 - x0)) cw_TM_71 ⟨rfl, rfl, by decide, by decide⟩ rfl [] rfl rfl [.int (x0)] rfl (Nat.le_of_ble_eq_true rfl) (fun _ => rfl) d_TM_line_162 (fun r4 u4 h4 => ?_)
                      subst h4
                      refine rx_ws (ws' := [(a 0, oTM w h a), (a 2, cI ta 576 (g))]) ?_ rfl
                      refine rx_iload C 8 rfl d_TM_line_165 ?_
                      refine rx_if_eqN C (by omega) d_TM_line_167 (fun c167 => ?_) (fun c167 => by exfalso; omega)
                      refine rx_iload C 13 rfl d_TM_line_175 ?_
                      refine rx_imul C d_TM_line_177 ?_
                      refine rx_iadd C d_TM_line_178 ?_
                      refine rx_gen (fun px hpx => ?_)
                      refine rx_istore C (Nat.le_of_ble_eq_true rfl) [1, 2, 3, 4, 5, 6, 7, 8, 9, 10, 11, 12, 13, 14, 0] (lv' := [(0, .ref (a 0)), (1, .int (x0)), (2, .int (y0)), (3, .int (x1)), (4, .int (y1)), (5, .int (v)), (6, .int (nI (adN x0 x1))), (7, .int (nI (adN y0 y1))), (8, .int (nI (0))), (9, .int (nI (adN y0 y1))), (10, .int (nI (adN x0 x1))), (11, .int (nI (cn (fun k => isPx w h ((fun k => lnP x0 x1 (othN (adN y0 y1) (adN x0 x1) k)) k) ((fun k => lnP y0 y1 k) k)) (k)))), (12, .int (nI (k))), (13, .int (nI (othN (adN y0 y1) (adN x0 x1) k))), (14, .int (px))]) rfl d_TM_line_179 ?_
                      refine rx_iload_n C 2 rfl d_TM_line_181 ?_
                      refine rx_iload C 4 rfl d_TM_line_182 ?_
                      refine rx_iload_n C 2 rfl d_TM_line_184 ?_
                      refine rx_isub C d_TM_line_185 ?_
                      refine rx_callSi C (c_TM_sign l D ta (y1 - y0)) cw_TM_71 ⟨rfl, rfl, by decide, by decide⟩ rfl [] rfl rfl [.int (y0)] rfl (Nat.le_of_ble_eq_true rfl) (fun _ => rfl) d_TM_line_186 (fun r5 u5 h5 => ?_)
                      subst h5
                      refine rx_ws (ws' := [(a 0, oTM w h a), (a 2, cI ta 576 (g))]) ?_ rfl
                      refine rx_iload C 8 rfl d_TM_line_189 ?_
                      refine rx_if_eqN C (by omega) d_TM_line_191 (fun c191 => ?_) (fun c191 => by exfalso; omega)
                      refine rx_iload C 12 rfl d_TM_line_199 ?_
                      refine rx_imul C d_TM_line_201 ?_
                      refine rx_iadd C d_TM_line_202 ?_
                      refine rx_gen (fun py hpy => ?_)
                      refine rx_istore C (Nat.le_of_ble_eq_true rfl) [1, 2, 3, 4, 5, 6, 7, 8, 9, 10, 11, 12, 13, 14, 15, 0] (lv' := [(0, .ref (a 0)), (1, .int (x0)), (2, .int (y0)), (3, .int (x1)), (4, .int (y1)), (5, .int (v)), (6, .int (nI (adN x0 x1))), (7, .int (nI (adN y0 y1))), (8, .int (nI (0))), (9, .int (nI (adN y0 y1))), (10, .int (nI (adN x0 x1))), (11, .int (nI (cn (fun k => isPx w h ((fun k => lnP x0 x1 (othN (adN y0 y1) (adN x0 x1) k)) k) ((fun k => lnP y0 y1 k) k)) (k)))), (12, .int (nI (k))), (13, .int (nI (othN (adN y0 y1) (adN x0 x1) k))), (14, .int (px)), (15, .int (py))]) rfl d_TM_line_203 ?_
                      have ex : (fun k => lnP x0 x1 (othN (adN y0 y1) (adN x0 x1) k)) k = px := hpx.symm
                      have ey : (fun k => lnP y0 y1 k) k = py := hpy.symm
                      refine rx_aload_n C 0 rfl d_TM_line_205 ?_
                      refine rx_iload C 14 rfl d_TM_line_206 ?_
                      refine rx_iload C 15 rfl d_TM_line_208 ?_
                      refine rx_callVi C (c_TM_isPixel l D ta w h a px py hw hh) cw_TM_75 ⟨rfl, rfl, by decide, by decide⟩ rfl [0] rfl rfl (q0 := 0) rfl rfl rfl [] rfl (Nat.le_of_ble_eq_true rfl) (fun _ => rfl) d_TM_line_210 (fun r6 u6 h6 => ?_)
                      refine rx_ws (ws' := [(a 0, oTM w h a), (a 2, cI ta 576 (g))]) ?_ rfl
                      rcases h6 with ⟨rfl, i, j, hi, hj, e1, e2⟩ | ⟨rfl, e1⟩
                      · skip
                        clear hpx hpy
                        subst e1 e2
                        show G 213 [(0, .ref (a 0)), (1, .int (x0)), (2, .int (y0)), (3, .int (x1)), (4, .int (y1)), (5, .int (v)), (6, .int (nI (adN x0 x1))), (7, .int (nI (adN y0 y1))), (8, .int (nI (0))), (9, .int (nI (adN y0 y1))), (10, .int (nI (adN x0 x1))), (11, .int (nI (cn (fun k => isPx w h ((fun k => lnP x0 x1 (othN (adN y0 y1) (adN x0 x1) k)) k) ((fun k => lnP y0 y1 k) k)) (k)))), (12, .int (nI (k))), (13, .int (nI (othN (adN y0 y1) (adN x0 x1) k))), (14, .int (nI (i))), (15, .int (nI (j)))] [.int (nI (1))] [(a 0, oTM w h a), (a 2, cI ta 576 (g))]
                        refine rx_if_eqN C (by omega) d_TM_line_213 (fun c213 => by exfalso; omega) (fun c213 => ?_)
                        refine rx_aload_n C 0 rfl d_TM_line_216 ?_
                        refine rx_get C 0 2 i_TM rfl rfl (by decide) g_190 rfl rfl d_TM_line_217 ?_
                        refine rx_bipush C (nI 24) (by decide) d_TM_line_220 ?_
                        refine rx_iload C 15 rfl d_TM_line_222 ?_
                        refine rx_imulN C d_TM_line_224 ?_
                        refine rx_iload C 14 rfl d_TM_line_225 ?_
                        refine rx_iaddN C d_TM_line_227 ?_
                        refine rx_iload C 5 rfl d_TM_line_228 ?_
                        refine rx_iast C 1 rfl (by decide) ((24 * j) + i) (rfl) (by omega) (ws' := [(a 0, oTM w h a), (a 2, cI ta 576 (upd g ((24 * j) + i) v))]) rfl d_TM_line_230 ?_
                        refine rx_iinc C 11 rfl (nI (cn (fun k => isPx w h ((fun k => lnP x0 x1 (othN (adN y0 y1) (adN x0 x1) k)) k) ((fun k => lnP y0 y1 k) k)) (k) + 1)) (nI_add _ _) (Nat.le_of_ble_eq_true rfl) [1, 2, 3, 4, 5, 6, 7, 8, 9, 10, 11, 0, 12, 13, 14, 15] (lv' := [(0, .ref (a 0)), (1, .int (x0)), (2, .int (y0)), (3, .int (x1)), (4, .int (y1)), (5, .int (v)), (6, .int (nI (adN x0 x1))), (7, .int (nI (adN y0 y1))), (8, .int (nI (0))), (9, .int (nI (adN y0 y1))), (10, .int (nI (adN x0 x1))), (11, .int (nI (cn (fun k => isPx w h ((fun k => lnP x0 x1 (othN (adN y0 y1) (adN x0 x1) k)) k) ((fun k => lnP y0 y1 k) k)) (k) + 1))), (12, .int (nI (k))), (13, .int (nI (othN (adN y0 y1) (adN x0 x1) k))), (14, .int (nI (i))), (15, .int (nI (j)))]) rfl d_TM_line_231 ?_
                        refine rx_iinc C 12 rfl (nI (k + 1)) (nI_add _ _) (Nat.le_of_ble_eq_true rfl) [1, 2, 3, 4, 5, 6, 7, 8, 9, 10, 11, 12, 0, 13, 14, 15] (lv' := [(0, .ref (a 0)), (1, .int (x0)), (2, .int (y0)), (3, .int (x1)), (4, .int (y1)), (5, .int (v)), (6, .int (nI (adN x0 x1))), (7, .int (nI (adN y0 y1))), (8, .int (nI (0))), (9, .int (nI (adN y0 y1))), (10, .int (nI (adN x0 x1))), (11, .int (nI (cn (fun k => isPx w h ((fun k => lnP x0 x1 (othN (adN y0 y1) (adN x0 x1) k)) k) ((fun k => lnP y0 y1 k) k)) (k) + 1))), (12, .int (nI (k + 1))), (13, .int (nI (othN (adN y0 y1) (adN x0 x1) k))), (14, .int (nI (i))), (15, .int (nI (j)))]) rfl d_TM_line_234 ?_
                        refine rx_goto C d_TM_line_237 ?_
                        have hh9 : (fun k => isPx w h ((fun k => lnP x0 x1 (othN (adN y0 y1) (adN x0 x1) k)) k) ((fun k => lnP y0 y1 k) k)) k := ⟨i, j, hi, hj, ex, ey⟩
                        rw [← cn_y (P := fun k => isPx w h ((fun k => lnP x0 x1 (othN (adN y0 y1) (adN x0 x1) k)) k) ((fun k => lnP y0 y1 k) k)) (n := k) hh9]
                        have hmx : mx w (w * j + i) = 24 * j + i := mx_eq j hi
                        refine rx_lv C [0, 1, 2, 3, 4, 5, 6, 7, 8, 9, 10, 11, 12] rfl ?_
                        exact ih (k + 1) _ (by omega) (by omega) (pnt_y (f' := fun p => upd g (24 * j + i) v (mx w p)) hw0 hw hh hP hi hj ex ey (by show upd _ _ _ _ = _; rw [hmx, pk_us]) (fun p hp => pk_un (fun q => hp (mx_inj hw0 hw (q.trans hmx.symm)))))
                      · skip
                        show G 213 [(0, .ref (a 0)), (1, .int (x0)), (2, .int (y0)), (3, .int (x1)), (4, .int (y1)), (5, .int (v)), (6, .int (nI (adN x0 x1))), (7, .int (nI (adN y0 y1))), (8, .int (nI (0))), (9, .int (nI (adN y0 y1))), (10, .int (nI (adN x0 x1))), (11, .int (nI (cn (fun k => isPx w h ((fun k => lnP x0 x1 (othN (adN y0 y1) (adN x0 x1) k)) k) ((fun k => lnP y0 y1 k) k)) (k)))), (12, .int (nI (k))), (13, .int (nI (othN (adN y0 y1) (adN x0 x1) k))), (14, .int (px)), (15, .int (py))] [.int (nI (0))] [(a 0, oTM w h a), (a 2, cI ta 576 (g))]
                        refine rx_if_eqN C (by omega) d_TM_line_213 (fun c213 => ?_) (fun c213 => by exfalso; omega)
                        refine rx_iinc C 12 rfl (nI (k + 1)) (nI_add _ _) (Nat.le_of_ble_eq_true rfl) [1, 2, 3, 4, 5, 6, 7, 8, 9, 10, 11, 12, 0, 13, 14, 15] (lv' := [(0, .ref (a 0)), (1, .int (x0)), (2, .int (y0)), (3, .int (x1)), (4, .int (y1)), (5, .int (v)), (6, .int (nI (adN x0 x1))), (7, .int (nI (adN y0 y1))), (8, .int (nI (0))), (9, .int (nI (adN y0 y1))), (10, .int (nI (adN x0 x1))), (11, .int (nI (cn (fun k => isPx w h ((fun k => lnP x0 x1 (othN (adN y0 y1) (adN x0 x1) k)) k) ((fun k => lnP y0 y1 k) k)) (k)))), (12, .int (nI (k + 1))), (13, .int (nI (othN (adN y0 y1) (adN x0 x1) k))), (14, .int (px)), (15, .int (py))]) rfl d_TM_line_234 ?_
                        refine rx_goto C d_TM_line_237 ?_
                        have hh9 : ¬ (fun k => isPx w h ((fun k => lnP x0 x1 (othN (adN y0 y1) (adN x0 x1) k)) k) ((fun k => lnP y0 y1 k) k)) k := fun q => e1 (by rw [← ex, ← ey]; exact q)
                        rw [← cn_n (P := fun k => isPx w h ((fun k => lnP x0 x1 (othN (adN y0 y1) (adN x0 x1) k)) k) ((fun k => lnP y0 y1 k) k)) (n := k) hh9]
                        refine rx_lv C [0, 1, 2, 3, 4, 5, 6, 7, 8, 9, 10, 11, 12] rfl ?_
                        exact ih (k + 1) _ (by omega) (by omega) (pnt_n hw0 hP hh9)
                    refine rx_iload C 9 rfl d_TM_line_121 ?_
                    refine rx_if_neN C (by omega) d_TM_line_123 (fun c123 => ?_) (fun c123 => ?_)
                    · skip
                      have hlt : 2 * k * (adN x0 x1) < 2 ^ 40 := by rw [Nat.mul_assoc]; have := Nat.mul_le_mul (show k ≤ 32768 by omega) (show (adN x0 x1) ≤ 32768 by omega); omega
                      refine rx_ldc2 C g_264 d_TM_line_130 ?_
                      refine rx_iload C 12 rfl d_TM_line_133 ?_
                      refine rx_i2lN C (by omega) d_TM_line_135 ?_
                      refine rx_lmul C d_TM_line_136 ?_
                      refine rx_iload C 10 rfl d_TM_line_137 ?_
                      refine rx_i2lN C (by omega) d_TM_line_139 ?_
                      refine rx_lmul C d_TM_line_140 ?_
                      refine rx_iload C 9 rfl d_TM_line_141 ?_
                      refine rx_i2lN C (by omega) d_TM_line_143 ?_
                      refine rx_ladd C d_TM_line_144 ?_
                      refine rx_lconst C 1 (by decide) d_TM_line_145 ?_
                      refine rx_lsub C d_TM_line_146 ?_
                      refine rx_topl (lN (2 * k * (adN x0 x1) + (adN y0 y1) - 1)) (by rw [show (2 : Int64) = lN 2 from rfl, lN_mul, lN_mul, lN_add, show (1 : Int64) = lN 1 from rfl, lN_sub (by omega)]) ?_
                      refine rx_ldc2 C g_264 d_TM_line_147 ?_
                      refine rx_iload C 9 rfl d_TM_line_150 ?_
                      refine rx_i2lN C (by omega) d_TM_line_152 ?_
                      refine rx_lmul C d_TM_line_153 ?_
                      refine rx_topl (lN (2 * (adN y0 y1))) (by rw [show (2 : Int64) = lN 2 from rfl, lN_mul]) ?_
                      refine rx_ldiv C (by rw [show (0 : Int64) = lN 0 from rfl, pk_lEQ (by omega) (by decide)]; omega) d_TM_line_154 ?_
                      refine rx_topl (lN (othN (adN y0 y1) (adN x0 x1) k)) (by rw [pk_lDiv (by omega) (by omega) (by omega), othN, if_neg (by omega)]) ?_
                      refine rx_l2i C d_TM_line_155 ?_
                      refine rx_top (nI (othN (adN y0 y1) (adN x0 x1) k)) (lN_i _) ?_
                      exact K
                    · skip
                      refine rx_iconst C (nI 0) (by decide) d_TM_line_126 ?_
                      refine rx_goto C d_TM_line_127 ?_
                      refine rx_top (nI (othN (adN y0 y1) (adN x0 x1) k)) (by rw [othN, if_pos c123]) ?_
                      exact K
              exact loop _ 0 f (Nat.lt_succ_self _) (Nat.zero_le _) pnt_0
            · skip
              refine rx_iconst C (nI 1) (by decide) d_TM_line_73 ?_
              refine rx_goto C d_TM_line_74 ?_
              refine rx_istore C (Nat.le_of_ble_eq_true rfl) [1, 2, 3, 4, 5, 6, 7, 8, 0] (lv' := [(0, .ref (a 0)), (1, .int (x0)), (2, .int (y0)), (3, .int (x1)), (4, .int (y1)), (5, .int (v)), (6, .int (nI (adN x0 x1))), (7, .int (nI (adN y0 y1))), (8, .int (nI (1)))]) rfl d_TM_line_78 ?_
              refine rx_iload C 8 rfl d_TM_line_80 ?_
              refine rx_if_eqN C (by omega) d_TM_line_82 (fun c82 => by exfalso; omega) (fun c82 => ?_)
              refine rx_iload C 6 rfl d_TM_line_85 ?_
              refine rx_goto C d_TM_line_87 ?_
              refine rx_istore C (Nat.le_of_ble_eq_true rfl) [1, 2, 3, 4, 5, 6, 7, 8, 9, 0] (lv' := [(0, .ref (a 0)), (1, .int (x0)), (2, .int (y0)), (3, .int (x1)), (4, .int (y1)), (5, .int (v)), (6, .int (nI (adN x0 x1))), (7, .int (nI (adN y0 y1))), (8, .int (nI (1))), (9, .int (nI (adN x0 x1)))]) rfl d_TM_line_92 ?_
              refine rx_iload C 8 rfl d_TM_line_94 ?_
              refine rx_if_eqN C (by omega) d_TM_line_96 (fun c96 => by exfalso; omega) (fun c96 => ?_)
              refine rx_iload C 7 rfl d_TM_line_99 ?_
              refine rx_goto C d_TM_line_101 ?_
              refine rx_istore C (Nat.le_of_ble_eq_true rfl) [1, 2, 3, 4, 5, 6, 7, 8, 9, 10, 0] (lv' := [(0, .ref (a 0)), (1, .int (x0)), (2, .int (y0)), (3, .int (x1)), (4, .int (y1)), (5, .int (v)), (6, .int (nI (adN x0 x1))), (7, .int (nI (adN y0 y1))), (8, .int (nI (1))), (9, .int (nI (adN x0 x1))), (10, .int (nI (adN y0 y1)))]) rfl d_TM_line_106 ?_
              refine rx_iconst C (nI 0) (by decide) d_TM_line_108 ?_
              refine rx_istore C (Nat.le_of_ble_eq_true rfl) [1, 2, 3, 4, 5, 6, 7, 8, 9, 10, 11, 0] (lv' := [(0, .ref (a 0)), (1, .int (x0)), (2, .int (y0)), (3, .int (x1)), (4, .int (y1)), (5, .int (v)), (6, .int (nI (adN x0 x1))), (7, .int (nI (adN y0 y1))), (8, .int (nI (1))), (9, .int (nI (adN x0 x1))), (10, .int (nI (adN y0 y1))), (11, .int (nI (0)))]) rfl d_TM_line_109 ?_
              refine rx_iconst C (nI 0) (by decide) d_TM_line_111 ?_
              refine rx_istore C (Nat.le_of_ble_eq_true rfl) [1, 2, 3, 4, 5, 6, 7, 8, 9, 10, 11, 12, 0] (lv' := [(0, .ref (a 0)), (1, .int (x0)), (2, .int (y0)), (3, .int (x1)), (4, .int (y1)), (5, .int (v)), (6, .int (nI (adN x0 x1))), (7, .int (nI (adN y0 y1))), (8, .int (nI (1))), (9, .int (nI (adN x0 x1))), (10, .int (nI (adN y0 y1))), (11, .int (nI (0))), (12, .int (nI (0)))]) rfl d_TM_line_112 ?_
              have loop : ∀ (n : Nat) (k : Nat) (g : Nat → Int32), adN x0 x1 + 1 - k < n → (k ≤ adN x0 x1 + 1) → (pnt (fun k => lnP x0 x1 k) (fun k => lnP y0 y1 (othN (adN x0 x1) (adN y0 y1) k)) w h v (fun p => f (mx w p)) (fun p => g (mx w p)) k) → G 114 [(0, .ref (a 0)), (1, .int (x0)), (2, .int (y0)), (3, .int (x1)), (4, .int (y1)), (5, .int (v)), (6, .int (nI (adN x0 x1))), (7, .int (nI (adN y0 y1))), (8, .int (nI (1))), (9, .int (nI (adN x0 x1))), (10, .int (nI (adN y0 y1))), (11, .int (nI (cn (fun k => isPx w h ((fun k => lnP x0 x1 k) k) ((fun k => lnP y0 y1 (othN (adN x0 x1) (adN y0 y1) k)) k)) (k)))), (12, .int (nI (k)))] [] [(a 0, oTM w h a), (a 2, cI ta 576 (g))] := by
                intro n
                induction n with
                | zero => intro k g hm; exact absurd hm (Nat.not_lt_zero _)
                | succ n ih =>
                  intro k g hm hk hP
                  refine rx_iload C 12 rfl d_TM_line_114 ?_
                  refine rx_iload C 9 rfl d_TM_line_116 ?_
                  refine rx_icmp_gtN C (by omega) (by omega) d_TM_line_118 (fun c118 => ?_) (fun c118 => ?_)
                  · skip
                    obtain rfl : k = adN x0 x1 + 1 := by omega
                    show G 240 [(0, .ref (a 0)), (1, .int (x0)), (2, .int (y0)), (3, .int (x1)), (4, .int (y1)), (5, .int (v)), (6, .int (nI (adN x0 x1))), (7, .int (nI (adN y0 y1))), (8, .int (nI (1))), (9, .int (nI (adN x0 x1))), (10, .int (nI (adN y0 y1))), (11, .int (nI (cn (fun k => isPx w h ((fun k => lnP x0 x1 k) k) ((fun k => lnP y0 y1 (othN (adN x0 x1) (adN y0 y1) k)) k)) (adN x0 x1 + 1)))), (12, .int (nI (adN x0 x1 + 1)))] [] [(a 0, oTM w h a), (a 2, cI ta 576 (g))]
                    refine rx_iload C 11 rfl d_TM_line_240 ?_
                    exact hret _ _ _ _ g d_TM_line_242 (rfl) (Or.inr ⟨p0, p1, p2, p3, Or.inl ⟨c70, rfl, hP⟩⟩)
                  · skip
                    have K : G 156 [(0, .ref (a 0)), (1, .int (x0)), (2, .int (y0)), (3, .int (x1)), (4, .int (y1)), (5, .int (v)), (6, .int (nI (adN x0 x1))), (7, .int (nI (adN y0 y1))), (8, .int (nI (1))), (9, .int (nI (adN x0 x1))), (10, .int (nI (adN y0 y1))), (11, .int (nI (cn (fun k => isPx w h ((fun k => lnP x0 x1 k) k) ((fun k => lnP y0 y1 (othN (adN x0 x1) (adN y0 y1) k)) k)) (k)))), (12, .int (nI (k)))] [.int (nI (othN (adN x0 x1) (adN y0 y1) k))] [(a 0, oTM w h a), (a 2, cI ta 576 (g))] := by
                      refine rx_istore C (Nat.le_of_ble_eq_true rfl) [1, 2, 3, 4, 5, 6, 7, 8, 9, 10, 11, 12, 13, 0] (lv' := [(0, .ref (a 0)), (1, .int (x0)), (2, .int (y0)), (3, .int (x1)), (4, .int (y1)), (5, .int (v)), (6, .int (nI (adN x0 x1))), (7, .int (nI (adN y0 y1))), (8, .int (nI (1))), (9, .int (nI (adN x0 x1))), (10, .int (nI (adN y0 y1))), (11, .int (nI (cn (fun k => isPx w h ((fun k => lnP x0 x1 k) k) ((fun k => lnP y0 y1 (othN (adN x0 x1) (adN y0 y1) k)) k)) (k)))), (12, .int (nI (k))), (13, .int (nI (othN (adN x0 x1) (adN y0 y1) k)))]) rfl d_TM_line_156 ?_
                      refine rx_iload_n C 1 rfl d_TM_line_158 ?_
                      refine rx_iload_n C 3 rfl d_TM_line_159 ?_
                      refine rx_iload_n C 1 rfl d_TM_line_160 ?_
                      refine rx_isub C d_TM_line_161 ?_
                      refine rx_callSi C (c_TM_sign l D ta (x1 - x0)) cw_TM_71 ⟨rfl, rfl, by decide, by decide⟩ rfl [] rfl rfl [.int (x0)] rfl (Nat.le_of_ble_eq_true rfl) (fun _ => rfl) d_TM_line_162 (fun r4 u4 h4 => ?_)
                      subst h4
                      refine rx_ws (ws' := [(a 0, oTM w h a), (a 2, cI ta 576 (g))]) ?_ rfl
                      refine rx_iload C 8 rfl d_TM_line_165 ?_
                      refine rx_if_eqN C (by omega) d_TM_line_167 (fun c167 => by exfalso; omega) (fun c167 => ?_)
                      refine rx_iload C 12 rfl d_TM_line_170 ?_
                      refine rx_goto C d_TM_line_172 ?_
                      refine rx_imul C d_TM_line_177 ?_
                      refine rx_iadd C d_TM_line_178 ?_
                      refine rx_gen (fun px hpx => ?_)
                      refine rx_istore C (Nat.le_of_ble_eq_true rfl) [1, 2, 3, 4, 5, 6, 7, 8, 9, 10, 11, 12, 13, 14, 0] (lv' := [(0, .ref (a 0)), (1, .int (x0)), (2, .int (y0)), (3, .int (x1)), (4, .int (y1)), (5, .int (v)), (6, .int (nI (adN x0 x1))), (7, .int (nI (adN y0 y1))), (8, .int (nI (1))), (9, .int (nI (adN x0 x1))), (10, .int (nI (adN y0 y1))), (11, .int (nI (cn (fun k => isPx w h ((fun k => lnP x0 x1 k) k) ((fun k => lnP y0 y1 (othN (adN x0 x1) (adN y0 y1) k)) k)) (k)))), (12, .int (nI (k))), (13, .int (nI (othN (adN x0 x1) (adN y0 y1) k))), (14, .int (px))]) rfl d_TM_line_179 ?_
                      refine rx_iload_n C 2 rfl d_TM_line_181 ?_
                      refine rx_iload C 4 rfl d_TM_line_182 ?_
                      refine rx_iload_n C 2 rfl d_TM_line_184 ?_
                      refine rx_isub C d_TM_line_185 ?_
                      refine rx_callSi C (c_TM_sign l D ta (y1 - y0)) cw_TM_71 ⟨rfl, rfl, by decide, by decide⟩ rfl [] rfl rfl [.int (y0)] rfl (Nat.le_of_ble_eq_true rfl) (fun _ => rfl) d_TM_line_186 (fun r5 u5 h5 => ?_)
                      subst h5
                      refine rx_ws (ws' := [(a 0, oTM w h a), (a 2, cI ta 576 (g))]) ?_ rfl
                      refine rx_iload C 8 rfl d_TM_line_189 ?_
                      refine rx_if_eqN C (by omega) d_TM_line_191 (fun c191 => by exfalso; omega) (fun c191 => ?_)
                      refine rx_iload C 13 rfl d_TM_line_194 ?_
                      refine rx_goto C d_TM_line_196 ?_
                      refine rx_imul C d_TM_line_201 ?_
                      refine rx_iadd C d_TM_line_202 ?_
                      refine rx_gen (fun py hpy => ?_)
                      refine rx_istore C (Nat.le_of_ble_eq_true rfl) [1, 2, 3, 4, 5, 6, 7, 8, 9, 10, 11, 12, 13, 14, 15, 0] (lv' := [(0, .ref (a 0)), (1, .int (x0)), (2, .int (y0)), (3, .int (x1)), (4, .int (y1)), (5, .int (v)), (6, .int (nI (adN x0 x1))), (7, .int (nI (adN y0 y1))), (8, .int (nI (1))), (9, .int (nI (adN x0 x1))), (10, .int (nI (adN y0 y1))), (11, .int (nI (cn (fun k => isPx w h ((fun k => lnP x0 x1 k) k) ((fun k => lnP y0 y1 (othN (adN x0 x1) (adN y0 y1) k)) k)) (k)))), (12, .int (nI (k))), (13, .int (nI (othN (adN x0 x1) (adN y0 y1) k))), (14, .int (px)), (15, .int (py))]) rfl d_TM_line_203 ?_
                      have ex : (fun k => lnP x0 x1 k) k = px := hpx.symm
                      have ey : (fun k => lnP y0 y1 (othN (adN x0 x1) (adN y0 y1) k)) k = py := hpy.symm
                      refine rx_aload_n C 0 rfl d_TM_line_205 ?_
                      refine rx_iload C 14 rfl d_TM_line_206 ?_
                      refine rx_iload C 15 rfl d_TM_line_208 ?_
                      refine rx_callVi C (c_TM_isPixel l D ta w h a px py hw hh) cw_TM_75 ⟨rfl, rfl, by decide, by decide⟩ rfl [0] rfl rfl (q0 := 0) rfl rfl rfl [] rfl (Nat.le_of_ble_eq_true rfl) (fun _ => rfl) d_TM_line_210 (fun r6 u6 h6 => ?_)
                      refine rx_ws (ws' := [(a 0, oTM w h a), (a 2, cI ta 576 (g))]) ?_ rfl
                      rcases h6 with ⟨rfl, i, j, hi, hj, e1, e2⟩ | ⟨rfl, e1⟩
                      · skip
                        clear hpx hpy
                        subst e1 e2
                        show G 213 [(0, .ref (a 0)), (1, .int (x0)), (2, .int (y0)), (3, .int (x1)), (4, .int (y1)), (5, .int (v)), (6, .int (nI (adN x0 x1))), (7, .int (nI (adN y0 y1))), (8, .int (nI (1))), (9, .int (nI (adN x0 x1))), (10, .int (nI (adN y0 y1))), (11, .int (nI (cn (fun k => isPx w h ((fun k => lnP x0 x1 k) k) ((fun k => lnP y0 y1 (othN (adN x0 x1) (adN y0 y1) k)) k)) (k)))), (12, .int (nI (k))), (13, .int (nI (othN (adN x0 x1) (adN y0 y1) k))), (14, .int (nI (i))), (15, .int (nI (j)))] [.int (nI (1))] [(a 0, oTM w h a), (a 2, cI ta 576 (g))]
                        refine rx_if_eqN C (by omega) d_TM_line_213 (fun c213 => by exfalso; omega) (fun c213 => ?_)
                        refine rx_aload_n C 0 rfl d_TM_line_216 ?_
                        refine rx_get C 0 2 i_TM rfl rfl (by decide) g_190 rfl rfl d_TM_line_217 ?_
                        refine rx_bipush C (nI 24) (by decide) d_TM_line_220 ?_
                        refine rx_iload C 15 rfl d_TM_line_222 ?_
                        refine rx_imulN C d_TM_line_224 ?_
                        refine rx_iload C 14 rfl d_TM_line_225 ?_
                        refine rx_iaddN C d_TM_line_227 ?_
                        refine rx_iload C 5 rfl d_TM_line_228 ?_
                        refine rx_iast C 1 rfl (by decide) ((24 * j) + i) (rfl) (by omega) (ws' := [(a 0, oTM w h a), (a 2, cI ta 576 (upd g ((24 * j) + i) v))]) rfl d_TM_line_230 ?_
                        refine rx_iinc C 11 rfl (nI (cn (fun k => isPx w h ((fun k => lnP x0 x1 k) k) ((fun k => lnP y0 y1 (othN (adN x0 x1) (adN y0 y1) k)) k)) (k) + 1)) (nI_add _ _) (Nat.le_of_ble_eq_true rfl) [1, 2, 3, 4, 5, 6, 7, 8, 9, 10, 11, 0, 12, 13, 14, 15] (lv' := [(0, .ref (a 0)), (1, .int (x0)), (2, .int (y0)), (3, .int (x1)), (4, .int (y1)), (5, .int (v)), (6, .int (nI (adN x0 x1))), (7, .int (nI (adN y0 y1))), (8, .int (nI (1))), (9, .int (nI (adN x0 x1))), (10, .int (nI (adN y0 y1))), (11, .int (nI (cn (fun k => isPx w h ((fun k => lnP x0 x1 k) k) ((fun k => lnP y0 y1 (othN (adN x0 x1) (adN y0 y1) k)) k)) (k) + 1))), (12, .int (nI (k))), (13, .int (nI (othN (adN x0 x1) (adN y0 y1) k))), (14, .int (nI (i))), (15, .int (nI (j)))]) rfl d_TM_line_231 ?_
                        refine rx_iinc C 12 rfl (nI (k + 1)) (nI_add _ _) (Nat.le_of_ble_eq_true rfl) [1, 2, 3, 4, 5, 6, 7, 8, 9, 10, 11, 12, 0, 13, 14, 15] (lv' := [(0, .ref (a 0)), (1, .int (x0)), (2, .int (y0)), (3, .int (x1)), (4, .int (y1)), (5, .int (v)), (6, .int (nI (adN x0 x1))), (7, .int (nI (adN y0 y1))), (8, .int (nI (1))), (9, .int (nI (adN x0 x1))), (10, .int (nI (adN y0 y1))), (11, .int (nI (cn (fun k => isPx w h ((fun k => lnP x0 x1 k) k) ((fun k => lnP y0 y1 (othN (adN x0 x1) (adN y0 y1) k)) k)) (k) + 1))), (12, .int (nI (k + 1))), (13, .int (nI (othN (adN x0 x1) (adN y0 y1) k))), (14, .int (nI (i))), (15, .int (nI (j)))]) rfl d_TM_line_234 ?_
                        refine rx_goto C d_TM_line_237 ?_
                        have hh9 : (fun k => isPx w h ((fun k => lnP x0 x1 k) k) ((fun k => lnP y0 y1 (othN (adN x0 x1) (adN y0 y1) k)) k)) k := ⟨i, j, hi, hj, ex, ey⟩
                        rw [← cn_y (P := fun k => isPx w h ((fun k => lnP x0 x1 k) k) ((fun k => lnP y0 y1 (othN (adN x0 x1) (adN y0 y1) k)) k)) (n := k) hh9]
                        have hmx : mx w (w * j + i) = 24 * j + i := mx_eq j hi
                        refine rx_lv C [0, 1, 2, 3, 4, 5, 6, 7, 8, 9, 10, 11, 12] rfl ?_
                        exact ih (k + 1) _ (by omega) (by omega) (pnt_y (f' := fun p => upd g (24 * j + i) v (mx w p)) hw0 hw hh hP hi hj ex ey (by show upd _ _ _ _ = _; rw [hmx, pk_us]) (fun p hp => pk_un (fun q => hp (mx_inj hw0 hw (q.trans hmx.symm)))))
                      · skip
                        show G 213 [(0, .ref (a 0)), (1, .int (x0)), (2, .int (y0)), (3, .int (x1)), (4, .int (y1)), (5, .int (v)), (6, .int (nI (adN x0 x1))), (7, .int (nI (adN y0 y1))), (8, .int (nI (1))), (9, .int (nI (adN x0 x1))), (10, .int (nI (adN y0 y1))), (11, .int (nI (cn (fun k => isPx w h ((fun k => lnP x0 x1 k) k) ((fun k => lnP y0 y1 (othN (adN x0 x1) (adN y0 y1) k)) k)) (k)))), (12, .int (nI (k))), (13, .int (nI (othN (adN x0 x1) (adN y0 y1) k))), (14, .int (px)), (15, .int (py))] [.int (nI (0))] [(a 0, oTM w h a), (a 2, cI ta 576 (g))]
                        refine rx_if_eqN C (by omega) d_TM_line_213 (fun c213 => ?_) (fun c213 => by exfalso; omega)
                        refine rx_iinc C 12 rfl (nI (k + 1)) (nI_add _ _) (Nat.le_of_ble_eq_true rfl) [1, 2, 3, 4, 5, 6, 7, 8, 9, 10, 11, 12, 0, 13, 14, 15] (lv' := [(0, .ref (a 0)), (1, .int (x0)), (2, .int (y0)), (3, .int (x1)), (4, .int (y1)), (5, .int (v)), (6, .int (nI (adN x0 x1))), (7, .int (nI (adN y0 y1))), (8, .int (nI (1))), (9, .int (nI (adN x0 x1))), (10, .int (nI (adN y0 y1))), (11, .int (nI (cn (fun k => isPx w h ((fun k => lnP x0 x1 k) k) ((fun k => lnP y0 y1 (othN (adN x0 x1) (adN y0 y1) k)) k)) (k)))), (12, .int (nI (k + 1))), (13, .int (nI (othN (adN x0 x1) (adN y0 y1) k))), (14, .int (px)), (15, .int (py))]) rfl d_TM_line_234 ?_
                        refine rx_goto C d_TM_line_237 ?_
                        have hh9 : ¬ (fun k => isPx w h ((fun k => lnP x0 x1 k) k) ((fun k => lnP y0 y1 (othN (adN x0 x1) (adN y0 y1) k)) k)) k := fun q => e1 (by rw [← ex, ← ey]; exact q)
                        rw [← cn_n (P := fun k => isPx w h ((fun k => lnP x0 x1 k) k) ((fun k => lnP y0 y1 (othN (adN x0 x1) (adN y0 y1) k)) k)) (n := k) hh9]
                        refine rx_lv C [0, 1, 2, 3, 4, 5, 6, 7, 8, 9, 10, 11, 12] rfl ?_
                        exact ih (k + 1) _ (by omega) (by omega) (pnt_n hw0 hP hh9)
                    refine rx_iload C 9 rfl d_TM_line_121 ?_
                    refine rx_if_neN C (by omega) d_TM_line_123 (fun c123 => ?_) (fun c123 => ?_)
                    · skip
                      have hlt : 2 * k * (adN y0 y1) < 2 ^ 40 := by rw [Nat.mul_assoc]; have := Nat.mul_le_mul (show k ≤ 32768 by omega) (show (adN y0 y1) ≤ 32768 by omega); omega
                      refine rx_ldc2 C g_264 d_TM_line_130 ?_
                      refine rx_iload C 12 rfl d_TM_line_133 ?_
                      refine rx_i2lN C (by omega) d_TM_line_135 ?_
                      refine rx_lmul C d_TM_line_136 ?_
                      refine rx_iload C 10 rfl d_TM_line_137 ?_
                      refine rx_i2lN C (by omega) d_TM_line_139 ?_
                      refine rx_lmul C d_TM_line_140 ?_
                      refine rx_iload C 9 rfl d_TM_line_141 ?_
                      refine rx_i2lN C (by omega) d_TM_line_143 ?_
                      refine rx_ladd C d_TM_line_144 ?_
                      refine rx_lconst C 1 (by decide) d_TM_line_145 ?_
                      refine rx_lsub C d_TM_line_146 ?_
                      refine rx_topl (lN (2 * k * (adN y0 y1) + (adN x0 x1) - 1)) (by rw [show (2 : Int64) = lN 2 from rfl, lN_mul, lN_mul, lN_add, show (1 : Int64) = lN 1 from rfl, lN_sub (by omega)]) ?_
                      refine rx_ldc2 C g_264 d_TM_line_147 ?_
                      refine rx_iload C 9 rfl d_TM_line_150 ?_
                      refine rx_i2lN C (by omega) d_TM_line_152 ?_
                      refine rx_lmul C d_TM_line_153 ?_
                      refine rx_topl (lN (2 * (adN x0 x1))) (by rw [show (2 : Int64) = lN 2 from rfl, lN_mul]) ?_
                      refine rx_ldiv C (by rw [show (0 : Int64) = lN 0 from rfl, pk_lEQ (by omega) (by decide)]; omega) d_TM_line_154 ?_
                      refine rx_topl (lN (othN (adN x0 x1) (adN y0 y1) k)) (by rw [pk_lDiv (by omega) (by omega) (by omega), othN, if_neg (by omega)]) ?_
                      refine rx_l2i C d_TM_line_155 ?_
                      refine rx_top (nI (othN (adN x0 x1) (adN y0 y1) k)) (lN_i _) ?_
                      exact K
                    · skip
                      refine rx_iconst C (nI 0) (by decide) d_TM_line_126 ?_
                      refine rx_goto C d_TM_line_127 ?_
                      refine rx_top (nI (othN (adN x0 x1) (adN y0 y1) k)) (by rw [othN, if_pos c123]) ?_
                      exact K
              exact loop _ 0 f (Nat.lt_succ_self _) (Nat.zero_le _) pnt_0
          refine rx_iload_n C 3 rfl d_TM_line_31 ?_
          refine rx_iload_n C 1 rfl d_TM_line_32 ?_
          refine rx_icmp_ge C d_TM_line_33 (fun c33 => ?_) (fun c33 => ?_)
          · skip
            refine rx_iload_n C 3 rfl d_TM_line_42 ?_
            refine rx_iload_n C 1 rfl d_TM_line_43 ?_
            refine rx_isub C d_TM_line_44 ?_
            refine rx_top (nI (adN x0 x1)) (abs_ad3 p0 p2 c33) ?_
            refine rx_istore C (Nat.le_of_ble_eq_true rfl) [1, 2, 3, 4, 5, 6, 0] (lv' := [(0, .ref (a 0)), (1, .int (x0)), (2, .int (y0)), (3, .int (x1)), (4, .int (y1)), (5, .int (v)), (6, .int (nI (adN x0 x1)))]) rfl d_TM_line_45 ?_
            refine rx_iload C 4 rfl d_TM_line_47 ?_
            refine rx_iload_n C 2 rfl d_TM_line_49 ?_
            refine rx_icmp_ge C d_TM_line_50 (fun c50 => ?_) (fun c50 => ?_)
            · skip
              refine rx_iload C 4 rfl d_TM_line_60 ?_
              refine rx_iload_n C 2 rfl d_TM_line_62 ?_
              refine rx_isub C d_TM_line_63 ?_
              refine rx_top (nI (adN y0 y1)) (abs_ad3 p1 p3 c50) ?_
              refine rx_istore C (Nat.le_of_ble_eq_true rfl) [1, 2, 3, 4, 5, 6, 7, 0] (lv' := [(0, .ref (a 0)), (1, .int (x0)), (2, .int (y0)), (3, .int (x1)), (4, .int (y1)), (5, .int (v)), (6, .int (nI (adN x0 x1))), (7, .int (nI (adN y0 y1)))]) rfl d_TM_line_64 ?_
              exact K66
            · skip
              refine rx_iload_n C 2 rfl d_TM_line_53 ?_
              refine rx_iload C 4 rfl d_TM_line_54 ?_
              refine rx_isub C d_TM_line_56 ?_
              refine rx_goto C d_TM_line_57 ?_
              refine rx_top (nI (adN y0 y1)) (abs_ad2 p1 p3 c50) ?_
              refine rx_istore C (Nat.le_of_ble_eq_true rfl) [1, 2, 3, 4, 5, 6, 7, 0] (lv' := [(0, .ref (a 0)), (1, .int (x0)), (2, .int (y0)), (3, .int (x1)), (4, .int (y1)), (5, .int (v)), (6, .int (nI (adN x0 x1))), (7, .int (nI (adN y0 y1)))]) rfl d_TM_line_64 ?_
              exact K66
          · skip
            refine rx_iload_n C 1 rfl d_TM_line_36 ?_
            refine rx_iload_n C 3 rfl d_TM_line_37 ?_
            refine rx_isub C d_TM_line_38 ?_
            refine rx_goto C d_TM_line_39 ?_
            refine rx_top (nI (adN x0 x1)) (abs_ad2 p0 p2 c33) ?_
            refine rx_istore C (Nat.le_of_ble_eq_true rfl) [1, 2, 3, 4, 5, 6, 0] (lv' := [(0, .ref (a 0)), (1, .int (x0)), (2, .int (y0)), (3, .int (x1)), (4, .int (y1)), (5, .int (v)), (6, .int (nI (adN x0 x1)))]) rfl d_TM_line_45 ?_
            refine rx_iload C 4 rfl d_TM_line_47 ?_
            refine rx_iload_n C 2 rfl d_TM_line_49 ?_
            refine rx_icmp_ge C d_TM_line_50 (fun c50 => ?_) (fun c50 => ?_)
            · skip
              refine rx_iload C 4 rfl d_TM_line_60 ?_
              refine rx_iload_n C 2 rfl d_TM_line_62 ?_
              refine rx_isub C d_TM_line_63 ?_
              refine rx_top (nI (adN y0 y1)) (abs_ad3 p1 p3 c50) ?_
              refine rx_istore C (Nat.le_of_ble_eq_true rfl) [1, 2, 3, 4, 5, 6, 7, 0] (lv' := [(0, .ref (a 0)), (1, .int (x0)), (2, .int (y0)), (3, .int (x1)), (4, .int (y1)), (5, .int (v)), (6, .int (nI (adN x0 x1))), (7, .int (nI (adN y0 y1)))]) rfl d_TM_line_64 ?_
              exact K66
            · skip
              refine rx_iload_n C 2 rfl d_TM_line_53 ?_
              refine rx_iload C 4 rfl d_TM_line_54 ?_
              refine rx_isub C d_TM_line_56 ?_
              refine rx_goto C d_TM_line_57 ?_
              refine rx_top (nI (adN y0 y1)) (abs_ad2 p1 p3 c50) ?_
              refine rx_istore C (Nat.le_of_ble_eq_true rfl) [1, 2, 3, 4, 5, 6, 7, 0] (lv' := [(0, .ref (a 0)), (1, .int (x0)), (2, .int (y0)), (3, .int (x1)), (4, .int (y1)), (5, .int (v)), (6, .int (nI (adN x0 x1))), (7, .int (nI (adN y0 y1)))]) rfl d_TM_line_64 ?_
              exact K66
end
section
/-! ===== pieces of one colour, plainly ===== -/
theorem cn_lt {P : Nat → Prop} {k : Nat} (hk : ¬ P k) : ∀ n : Nat, k < n → cn P n < n
  | 0, h => absurd h (Nat.not_lt_zero _)
  | n + 1, h => by
    by_cases e : k = n
    · subst e; rw [cn_n hk]; have := cn_le (P := P) k; omega
    · have ih := cn_lt hk n (by omega)
      by_cases hp : P n
      · rw [cn_y hp]; omega
      · rw [cn_n hp]; omega
theorem cn_add {P Q : Nat → Prop} {k : Nat} (hk : ¬ P k) (hq : ∀ x, Q x ↔ (P x ∨ x = k)) : ∀ n : Nat, k < n → cn Q n = cn P n + 1
  | 0, h => absurd h (Nat.not_lt_zero _)
  | n + 1, h => by
    by_cases e : k = n
    · subst e
      rw [cn_y ((hq k).mpr (Or.inr rfl)), cn_n hk]
      rw [cn_congr k (fun x hx => (hq x).trans ⟨fun q => q.elim id (fun q => absurd q (by omega)), Or.inl⟩)]
    · have ih := cn_add hk hq n (by omega)
      by_cases hp : P n
      · rw [cn_y hp, cn_y ((hq n).mpr (Or.inl hp)), ih]
      · rw [cn_n hp, cn_n (fun q => ((hq n).mp q).elim hp (fun q => e q.symm)), ih]
theorem cn_none {P : Nat → Prop} : ∀ n : Nat, (∀ k, k < n → ¬ P k) → cn P n = 0
  | 0, _ => rfl
  | n + 1, h => by rw [cn_n (h n (by omega))]; exact cn_none n (fun k hk => h k (by omega))
def adjP (w i j : Nat) : Prop := (0 < i % w ∧ j + 1 = i) ∨ (i % w + 1 < w ∧ j = i + 1) ∨ j + w = i ∨ j = i + w
def Closed (w h : Nat) (col : Nat → Int32) (c : Int32) (S : Nat → Prop) : Prop := ∀ i j, i < w * h → j < w * h → S i → adjP w i j → col j = c → S j
/-- S is the least set with S0 and fr that no neighbour of colour c leaves -/
def leastC (w h : Nat) (col : Nat → Int32) (c : Int32) (S0 : Nat → Prop) (fr : Nat) (S : Nat → Prop) : Prop :=
  (∀ k, k < w * h → S0 k → S k) ∧ S fr ∧ Closed w h col c S ∧ ∀ T : Nat → Prop, (∀ k, k < w * h → S0 k → T k) → T fr → Closed w h col c T → ∀ k, k < w * h → S k → T k
theorem leastC_u {w h : Nat} {col col' : Nat → Int32} {c : Int32} {S0 S0' : Nat → Prop} {fr : Nat} {S S' : Nat → Prop} (hc : ∀ k, k < w * h → col k = col' k) (h0 : ∀ k, k < w * h → (S0 k ↔ S0' k)) (h1 : leastC w h col c S0 fr S) (h2 : leastC w h col' c S0' fr S') : ∀ k, k < w * h → (S k ↔ S' k) := by
  have cc : ∀ T, Closed w h col' c T → Closed w h col c T := fun T q i j hi hj a b d => q i j hi hj a b (by rw [← hc j hj]; exact d)
  have cc' : ∀ T, Closed w h col c T → Closed w h col' c T := fun T q i j hi hj a b d => q i j hi hj a b (by rw [hc j hj]; exact d)
  exact fun k hk => ⟨h1.2.2.2 S' (fun k hk q => h2.1 k hk ((h0 k hk).mp q)) h2.2.1 (cc _ h2.2.2.1) k hk, h2.2.2.2 S (fun k hk q => h1.1 k hk ((h0 k hk).mpr q)) h1.2.1 (cc' _ h1.2.2.1) k hk⟩
theorem leastC_0 {w h : Nat} {col : Nat → Int32} {c : Int32} {S0 S0' : Nat → Prop} {fr : Nat} {S : Nat → Prop} (h0 : ∀ k, k < w * h → (S0 k ↔ S0' k)) (h1 : leastC w h col c S0 fr S) : leastC w h col c S0' fr S :=
  ⟨fun k hk q => h1.1 k hk ((h0 k hk).mpr q), h1.2.1, h1.2.2.1, fun T a b d => h1.2.2.2 T (fun k hk q => a k hk ((h0 k hk).mp q)) b d⟩
abbrev nz (f : Nat → Int32) : Nat → Prop := fun k => ¬ f k = 0
/-- the raster's stack of pixels while it spreads; X: pixels whose neighbours are being pushed now -/
def SJ (w h : Nat) (col sn0 : Nat → Int32) (c : Int32) (fr : Nat) (X : Nat → Prop) (t : Nat) (stk sn : Nat → Int32) (N : Nat) : Prop :=
  (∀ k, k < w * h → nz sn0 k → nz sn k) ∧ nz sn fr ∧
  (∀ T : Nat → Prop, (∀ k, k < w * h → nz sn0 k → T k) → T fr → Closed w h col c T → ∀ k, k < w * h → nz sn k → T k) ∧
  (∀ s, s < t → ∃ i, i < w * h ∧ stk s = nI i ∧ nz sn i) ∧
  (∀ i j, i < w * h → j < w * h → nz sn i → adjP w i j → col j = c → nz sn j ∨ (∃ s, s < t ∧ stk s = nI i) ∨ X i) ∧
  cn (nz sn) (w * h) = cn (nz sn0) (w * h) + N + t
theorem nz_upd {sn : Nat → Int32} {k x : Nat} : nz (upd sn k (nI 1)) x ↔ (nz sn x ∨ x = k) := by
  by_cases e : x = k
  · subst e
    exact ⟨fun _ => Or.inr rfl, fun _ => by show ¬ upd _ _ _ _ = 0; rw [pk_us]; decide⟩
  · show ¬ upd _ _ _ _ = 0 ↔ _
    rw [pk_un e]
    exact ⟨Or.inl, fun q => q.elim id (fun q => absurd q e)⟩
theorem SJ_start {w h : Nat} {col stk sn : Nat → Int32} {fr : Nat} (hfr : fr < w * h) (h0 : sn fr = 0) (hC : Closed w h col (col fr) (nz sn)) : SJ w h col sn (col fr) fr (fun _ => False) 1 (upd stk 0 (nI fr)) (upd sn fr (nI 1)) 0 := by
  refine ⟨fun k hk q => nz_upd.mpr (Or.inl q), nz_upd.mpr (Or.inr rfl), fun T a b _ k hk q => ?_, fun s hs => ⟨fr, hfr, ?_, nz_upd.mpr (Or.inr rfl)⟩, fun i j hi hj q a b => ?_, ?_⟩
  · rcases nz_upd.mp q with q | q
    · exact a k hk q
    · rw [q]; exact b
  · rw [show s = 0 by omega]; exact pk_us
  · rcases nz_upd.mp q with q | q
    · exact Or.inl (nz_upd.mpr (Or.inl (hC i j hi hj q a b)))
    · exact Or.inr (Or.inl ⟨0, by omega, by rw [q]; exact pk_us⟩)
  · rw [cn_add (P := nz sn) (k := fr) (fun q => q h0) (fun x => nz_upd) (w * h) hfr]
theorem SJ_pop {w h : Nat} {col sn0 stk sn : Nat → Int32} {c : Int32} {fr t N : Nat} (hwh : w * h ≤ 576) (h1 : SJ w h col sn0 c fr (fun _ => False) (t + 1) stk sn N) : ∃ i, i < w * h ∧ stk t = nI i ∧ nz sn i ∧ SJ w h col sn0 c fr (fun z => z = i) t stk sn (N + 1) := by
  obtain ⟨a, b, d, e, f, g⟩ := h1
  obtain ⟨i, hi, ei, ni⟩ := e t (by omega)
  refine ⟨i, hi, ei, ni, a, b, d, fun s hs => e s (by omega), fun i' j hi' hj q ad cj => ?_, by omega⟩
  rcases f i' j hi' hj q ad cj with q | ⟨s, hs, q⟩ | q
  · exact Or.inl q
  · rcases Nat.lt_or_ge s t with hh | hh
    · exact Or.inr (Or.inl ⟨s, hh, q⟩)
    · rw [show s = t by omega, ei, nI_eq (by omega) (by omega)] at q
      exact Or.inr (Or.inr q.symm)
  · exact absurd q id
def Cand (w h i : Nat) (p : Int32) : Prop := p < 0 ∨ ∃ k, k < w * h ∧ p = nI k ∧ adjP w i k
theorem SJ_room {w h : Nat} {col sn0 stk sn : Nat → Int32} {c : Int32} {fr t N : Nat} {X : Nat → Prop} (h1 : SJ w h col sn0 c fr X t stk sn N) {k : Nat} (hk : k < w * h) (h0 : sn k = 0) : t < w * h := by
  have := cn_lt (P := nz sn) (k := k) (fun q => q h0) (w * h) hk
  have := h1.2.2.2.2.2
  omega
theorem push_pre {w h i : Nat} {col sn0 stk sn : Nat → Int32} {c p : Int32} {fr t N : Nat} {X : Nat → Prop} (hwh : w * h ≤ 576) (h1 : SJ w h col sn0 c fr X t stk sn N) (hp : Cand w h i p) : p < 0 ∨ ∃ k : Nat, k < 576 ∧ p = nI k ∧ (sn k = 0 → col k = c → t < 576) := by
  rcases hp with q | ⟨k, hk, e, -⟩
  · exact Or.inl q
  · exact Or.inr ⟨k, by omega, e, fun q _ => by have := SJ_room h1 hk q; omega⟩
theorem push_post {w h i : Nat} {col sn0 stk sn : Nat → Int32} {c p r : Int32} {fr t N : Nat} {u : (Nat → Int32) × (Nat → Int32)} (hwh : w * h ≤ 576) (hi : i < w * h) (hni : nz sn i) (h1 : SJ w h col sn0 c fr (fun z => z = i) t stk sn N) (hp : Cand w h i p)
    (hr : (r = nI t ∧ u = (stk, sn) ∧ (p < 0 ∨ ∃ k : Nat, k < 576 ∧ p = nI k ∧ (¬ sn k = 0 ∨ ¬ col k = c))) ∨ (∃ k : Nat, k < 576 ∧ p = nI k ∧ sn k = 0 ∧ col k = c ∧ r = nI (t + 1) ∧ u = (upd stk t (nI k), upd sn k (nI 1)))) :
    ∃ t2, r = nI t2 ∧ t ≤ t2 ∧ SJ w h col sn0 c fr (fun z => z = i) t2 u.1 u.2 N ∧ (∀ x, nz sn x → nz u.2 x) ∧ ∀ k, k < w * h → p = nI k → col k = c → nz u.2 k := by
  rcases hr with ⟨rfl, rfl, q⟩ | ⟨k, hk, e, s0, ck, rfl, rfl⟩
  · refine ⟨t, rfl, Nat.le_refl _, h1, fun _ q => q, fun k hk e ck => ?_⟩
    rcases q with q | ⟨k2, hk2, e2, q⟩
    · rw [e] at q; exact absurd q (nI_pos (by omega))
    · rw [e, nI_eq (by omega) (by omega)] at e2
      subst e2
      rcases q with q | q
      · exact q
      · exact absurd ck q
  · have hkw : k < w * h ∧ adjP w i k := by
      rcases hp with q | ⟨k2, hk2, e2, ad⟩
      · rw [e] at q; exact absurd q (nI_pos (by omega))
      · rw [e, nI_eq (by omega) (by omega)] at e2
        subst e2; exact ⟨hk2, ad⟩
    obtain ⟨a, b, d, e9, f, g⟩ := h1
    refine ⟨t + 1, rfl, Nat.le_succ _, ⟨fun x hx q => nz_upd.mpr (Or.inl (a x hx q)), nz_upd.mpr (Or.inl b), fun T ta tb tc x hx q => ?_, fun s hs => ?_, fun i' j hi' hj q ad cj => ?_, ?_⟩, fun x q => nz_upd.mpr (Or.inl q), fun k2 hk2 e2 _ => ?_⟩
    · rcases nz_upd.mp q with q | q
      · exact d T ta tb tc x hx q
      · rw [q]; exact tc i k hi hkw.1 (d T ta tb tc i hi hni) hkw.2 ck
    · rcases Nat.lt_or_ge s t with hh | hh
      · obtain ⟨z, z1, z2, z3⟩ := e9 s hh
        refine ⟨z, z1, ?_, nz_upd.mpr (Or.inl z3)⟩
        show upd _ _ _ _ = _
        rw [pk_un (by omega)]; exact z2
      · refine ⟨k, hkw.1, ?_, nz_upd.mpr (Or.inr rfl)⟩
        rw [show s = t by omega]; exact pk_us
    · rcases nz_upd.mp q with q | q
      · rcases f i' j hi' hj q ad cj with q | ⟨s, hs, q⟩ | q
        · exact Or.inl (nz_upd.mpr (Or.inl q))
        · refine Or.inr (Or.inl ⟨s, by omega, ?_⟩)
          show upd _ _ _ _ = _
          rw [pk_un (by omega)]; exact q
        · exact Or.inr (Or.inr q)
      · exact Or.inr (Or.inl ⟨t, by omega, by rw [q]; exact pk_us⟩)
    · rw [cn_add (P := nz sn) (k := k) (fun q => q s0) (fun x => nz_upd) (w * h) hkw.1]; omega
    · rw [e, nI_eq (by omega) (by omega)] at e2
      exact nz_upd.mpr (Or.inr e2.symm)
theorem SJ_done {w h i : Nat} {col sn0 stk sn : Nat → Int32} {c : Int32} {fr t N : Nat} (h1 : SJ w h col sn0 c fr (fun z => z = i) t stk sn N) (hall : ∀ j, j < w * h → adjP w i j → col j = c → nz sn j) : SJ w h col sn0 c fr (fun _ => False) t stk sn N := by
  obtain ⟨a, b, d, e, f, g⟩ := h1
  refine ⟨a, b, d, e, fun i' j hi hj q ad cj => ?_, g⟩
  rcases f i' j hi hj q ad cj with q | q | q
  · exact Or.inl q
  · exact Or.inr (Or.inl q)
  · subst q; exact Or.inl (hall j hj ad cj)
theorem SJ_end {w h : Nat} {col sn0 stk sn : Nat → Int32} {c : Int32} {fr N : Nat} (h1 : SJ w h col sn0 c fr (fun _ => False) 0 stk sn N) : leastC w h col c (nz sn0) fr (nz sn) ∧ cn (nz sn) (w * h) = cn (nz sn0) (w * h) + N := by
  obtain ⟨a, b, d, e, f, g⟩ := h1
  refine ⟨⟨a, b, fun i j hi hj q ad cj => ?_, d⟩, g⟩
  rcases f i j hi hj q ad cj with q | ⟨s, hs, -⟩ | q
  · exact q
  · exact absurd hs (Nat.not_lt_zero _)
  · exact absurd q id
/-! the model's marks -/
def MI (w h : Nat) (col : Nat → Int32) (c : Int32) (M0 : Nat → Prop) (fr : Nat) (M : Nat → Prop) (N : Nat) : Prop :=
  (∀ k, k < w * h → M0 k → M k) ∧ M fr ∧ (∀ T : Nat → Prop, (∀ k, k < w * h → M0 k → T k) → T fr → Closed w h col c T → ∀ k, k < w * h → M k → T k) ∧ (¬ M0 fr → cn M (w * h) = cn M0 (w * h) + N)
theorem MI_start {w h : Nat} {col : Nat → Int32} {c : Int32} {M0 M : Nat → Prop} {fr : Nat} (hfr : fr < w * h) (hM : ∀ x, M x ↔ (M0 x ∨ x = fr)) : MI w h col c M0 fr M 1 := by
  refine ⟨fun k _ q => (hM k).mpr (Or.inl q), (hM fr).mpr (Or.inr rfl), fun T a b _ k hk q => ?_, fun q => cn_add q hM (w * h) hfr⟩
  rcases (hM k).mp q with q | q
  · exact a k hk q
  · rw [q]; exact b
theorem MI_add {w h : Nat} {col : Nat → Int32} {c : Int32} {M0 M M' : Nat → Prop} {fr N k i : Nat} (h1 : MI w h col c M0 fr M N) (hk : k < w * h) (hi : i < w * h) (nk : ¬ M k) (mi : M i) (ad : adjP w i k) (ck : col k = c) (hM : ∀ x, M' x ↔ (M x ∨ x = k)) : MI w h col c M0 fr M' (N + 1) := by
  obtain ⟨a, b, d, e⟩ := h1
  refine ⟨fun x hx q => (hM x).mpr (Or.inl (a x hx q)), (hM fr).mpr (Or.inl b), fun T ta tb tc x hx q => ?_, fun q => ?_⟩
  · rcases (hM x).mp q with q | q
    · exact d T ta tb tc x hx q
    · rw [q]; exact tc i k hi hk (d T ta tb tc i hi mi) ad ck
  · rw [cn_add nk hM (w * h) hk, e q]; omega
theorem MI_end {w h : Nat} {col : Nat → Int32} {c : Int32} {M0 M : Nat → Prop} {fr N : Nat} (h1 : MI w h col c M0 fr M N) (hC : Closed w h col c M) : leastC w h col c M0 fr M ∧ (¬ M0 fr → cn M (w * h) = cn M0 (w * h) + N) := ⟨⟨h1.1, h1.2.1, hC, h1.2.2.1⟩, h1.2.2.2⟩
/-- who lies beside pixel w*y+x -/
theorem adj_cases {w h x y i : Nat} (hx : x < w) (hi : i < w * h) (ad : adjP w i (w * y + x)) : (0 < x ∧ i = w * y + (x - 1)) ∨ (x + 1 < w ∧ i = w * y + (x + 1)) ∨ (0 < y ∧ i = w * (y - 1) + x) ∨ (y + 1 < h ∧ i = w * (y + 1) + x) := by
  rcases ad with ⟨m, e⟩ | ⟨m, e⟩ | e | e
  · rcases Nat.lt_or_ge (x + 1) w with q | q
    · exact Or.inr (Or.inl ⟨q, by omega⟩)
    · have : i = w * (y + 1) + 0 := by rw [Nat.mul_succ]; omega
      rw [this, px_mod (y + 1) (by omega)] at m
      omega
  · rcases Nat.eq_zero_or_pos x with q | q
    · subst q
      rcases Nat.eq_zero_or_pos y with hz | hz
      · subst hz; omega
      · obtain ⟨z, rfl⟩ : ∃ z, y = z + 1 := ⟨y - 1, by omega⟩
        have : i = w * z + (w - 1) := by rw [Nat.mul_succ] at e; omega
        rw [this, px_mod z (by omega)] at m
        omega
    · exact Or.inl ⟨q, by omega⟩
  · refine Or.inr (Or.inr (Or.inr ⟨?_, by rw [Nat.mul_succ]; omega⟩))
    have : w * (y + 1) < w * h := by rw [Nat.mul_succ]; omega
    exact Nat.lt_of_mul_lt_mul_left this
  · rcases Nat.eq_zero_or_pos y with hz | hz
    · subst hz; omega
    · obtain ⟨z, rfl⟩ : ∃ z, y = z + 1 := ⟨y - 1, by omega⟩
      refine Or.inr (Or.inr (Or.inl ⟨by omega, ?_⟩))
      rw [Nat.mul_succ] at e
      show i = w * z + x
      omega
theorem adj_l {w x y : Nat} (hx : x < w) (h0 : 0 < x) : adjP w (w * y + (x - 1)) (w * y + x) := Or.inr (Or.inl ⟨by rw [px_mod y (by omega)]; omega, by omega⟩)
theorem adj_r {w x y : Nat} (hx : x + 1 < w) : adjP w (w * y + (x + 1)) (w * y + x) := Or.inl ⟨by rw [px_mod y hx]; omega, by omega⟩
theorem adj_u {w x y : Nat} (h0 : 0 < y) : adjP w (w * (y - 1) + x) (w * y + x) := by
  obtain ⟨z, rfl⟩ : ∃ z, y = z + 1 := ⟨y - 1, by omega⟩
  refine Or.inr (Or.inr (Or.inr ?_))
  rw [Nat.mul_succ]; show _ = w * z + x + w; omega
theorem adj_d {w x y : Nat} : adjP w (w * (y + 1) + x) (w * y + x) := Or.inr (Or.inr (Or.inl (by rw [Nat.mul_succ]; omega)))
theorem mx_lt {w h k : Nat} (hw0 : 0 < w) (hw : w ≤ 24) (hh : h ≤ 24) (hk : k < w * h) : mx w k < 576 := by
  unfold mx
  have := Nat.mod_lt k hw0
  have : k / w < h := Nat.div_lt_of_lt_mul hk
  omega
/-! what a fill and a count of pieces answer -/
def fillP (w h : Nat) (x y v : Int32) (f0 f : Nat → Int32) (r : Int32) : Prop :=
  (¬ isPx w h x y ∧ r = nI 0 ∧ ∀ k, k < w * h → f k = f0 k) ∨
  ∃ i j : Nat, i < w ∧ j < h ∧ x = nI i ∧ y = nI j ∧
    ((f0 (w * j + i) = v ∧ r = nI 0 ∧ ∀ k, k < w * h → f k = f0 k) ∨
     (¬ f0 (w * j + i) = v ∧ ∃ S, leastC w h f0 (f0 (w * j + i)) (fun _ => False) (w * j + i) S ∧ r = nI (cn S (w * h)) ∧ ∀ k, k < w * h → (S k → f k = v) ∧ (¬ S k → f k = f0 k)))
theorem fillP_u {w h : Nat} {x y v : Int32} {f0 f f0' f' : Nat → Int32} {r r' : Int32} (hw : w ≤ 24) (hh : h ≤ 24) (h0 : ∀ k, k < w * h → f0 k = f0' k) (h1 : fillP w h x y v f0 f r) (h2 : fillP w h x y v f0' f' r') : r = r' ∧ ∀ k, k < w * h → f k = f' k := by
  rcases h1 with ⟨a1, a2, a3⟩ | ⟨i, j, hi, hj, rfl, rfl, h1⟩
  · rcases h2 with ⟨b1, b2, b3⟩ | ⟨i, j, hi, hj, e1, e2, -⟩
    · exact ⟨a2.trans b2.symm, fun k hk => by rw [a3 k hk, b3 k hk, h0 k hk]⟩
    · exact absurd ⟨i, j, hi, hj, e1, e2⟩ a1
  · rcases h2 with ⟨b1, -, -⟩ | ⟨i', j', hi', hj', e1, e2, h2⟩
    · exact absurd ⟨i, j, hi, hj, rfl, rfl⟩ b1
    · rw [nI_eq (by omega) (by omega)] at e1 e2
      subst e1; subst e2
      have e0 := h0 _ (px_lt hi hj)
      rcases h1 with ⟨a1, a2, a3⟩ | ⟨a1, S, a2, a3, a4⟩ <;> rcases h2 with ⟨b1, b2, b3⟩ | ⟨b1, S', b2, b3, b4⟩
      · exact ⟨a2.trans b2.symm, fun k hk => by rw [a3 k hk, b3 k hk, h0 k hk]⟩
      · exact absurd (e0.symm.trans a1) b1
      · exact absurd (e0.trans b1) a1
      · rw [← e0] at b2
        have hS := leastC_u h0 (fun _ _ => Iff.rfl) a2 b2
        refine ⟨by rw [a3, b3, cn_congr _ hS], fun k hk => ?_⟩
        by_cases q : S k
        · rw [(a4 k hk).1 q, (b4 k hk).1 ((hS k hk).mp q)]
        · rw [(a4 k hk).2 q, (b4 k hk).2 (fun z => q ((hS k hk).mpr z)), h0 k hk]
def pcR (w h : Nat) (col : Nat → Int32) (v : Int32) : Nat → (Nat → Prop) → Nat → Prop
  | 0, S, N => (∀ k, k < w * h → ¬ S k) ∧ N = 0
  | n + 1, S, N => ∃ S1 N1, pcR w h col v n S1 N1 ∧ ((col n = v ∧ ¬ S1 n ∧ leastC w h col v S1 n S ∧ N = N1 + 1) ∨ (¬ (col n = v ∧ ¬ S1 n) ∧ (∀ k, k < w * h → (S k ↔ S1 k)) ∧ N = N1))
theorem pcR_u {w h : Nat} {col col' : Nat → Int32} {v : Int32} (hc : ∀ k, k < w * h → col k = col' k) : ∀ (n : Nat) (S S' : Nat → Prop) (N N' : Nat), n ≤ w * h → pcR w h col v n S N → pcR w h col' v n S' N' → (∀ k, k < w * h → (S k ↔ S' k)) ∧ N = N'
  | 0, S, S', N, N', _, h1, h2 => ⟨fun k hk => ⟨fun q => absurd q (h1.1 k hk), fun q => absurd q (h2.1 k hk)⟩, h1.2.trans h2.2.symm⟩
  | n + 1, S, S', N, N', hn, ⟨S1, N1, p1, q1⟩, ⟨S2, N2, p2, q2⟩ => by
    obtain ⟨ih1, ih2⟩ := pcR_u hc n S1 S2 N1 N2 (by omega) p1 p2
    have e := hc n (by omega)
    have e2 := ih1 n (by omega)
    rcases q1 with ⟨a1, a2, a3, a4⟩ | ⟨a1, a2, a3⟩ <;> rcases q2 with ⟨b1, b2, b3, b4⟩ | ⟨b1, b2, b3⟩
    · exact ⟨leastC_u hc ih1 a3 b3, by omega⟩
    · exact absurd ⟨e.symm.trans a1, fun q => a2 (e2.mpr q)⟩ b1
    · exact absurd ⟨e.trans b1, fun q => b2 (e2.mp q)⟩ a1
    · exact ⟨fun k hk => (a2 k hk).trans ((ih1 k hk).trans (b2 k hk).symm), by omega⟩
end
section
theorem m1_ (s : Nat) : nI (s + 1) + Int32.ofInt (-1) = nI s := by rw [show Int32.ofInt (-1) = -1 from by decide]; exact pk_m1 s
set_option maxHeartbeats 4000000 in
set_option maxRecDepth 100000 in
theorem c_TR_spread (l : Launch) (D : va_G) (ta : Nat → ClassId) (w h : Nat) (a : Nat → Nat) (col stk sn : Nat → Int32) (fr : Nat) (hw0 : 0 < w) (hw : w ≤ 24) (hh : h ≤ 24) (hfr : fr < w * h) (h0 : sn fr = 0) (hC : Closed w h col (col fr) (nz sn)) : Cti l y_TR_spread b_TR_spread 7 .int rm_TR_spread D ta [.ref (a 0), .int (nI (fr))] [(a 0, oTR w h a), (a 2, cI ta 576 (col)), (a 4, cS ta 576 (stk)), (a 5, cZ ta 576 (sn))] (fun u : (Nat → Int32) × (Nat → Int32) => [(a 0, oTR w h a), (a 2, cI ta 576 (col)), (a 4, cS ta 576 (u.1)), (a 5, cZ ta 576 (u.2))]) (fun r u => ∃ N, r = nI N ∧ leastC w h col (col fr) (nz sn) fr (nz u.2) ∧ cn (nz u.2) (w * h) = cn (nz sn) (w * h) + N) := by
  have hwh : w * h ≤ 576 := Nat.mul_le_mul hw hh
  refine start_i rfl (Nat.le_of_ble_eq_true rfl) (fun G C hret => ?_)
  show G 0 [(0, .ref (a 0)), (1, .int (nI (fr)))] [] [(a 0, oTR w h a), (a 2, cI ta 576 (col)), (a 4, cS ta 576 (stk)), (a 5, cZ ta 576 (sn))]
  refine rx_aload_n C 0 rfl d_TR_spread_0 ?_
  refine rx_get C 0 2 i_TR rfl rfl (by decide) g_44 rfl rfl d_TR_spread_1 ?_
  refine rx_iload_n C 1 rfl d_TR_spread_4 ?_
  refine rx_iald C 1 rfl (by decide) (fr) (rfl) (by omega) d_TR_spread_5 ?_
  refine rx_istore_n C (Nat.le_of_ble_eq_true rfl) [1, 2, 0] (lv' := [(0, .ref (a 0)), (1, .int (nI (fr))), (2, .int (col fr))]) rfl d_TR_spread_6 ?_
  refine rx_iconst C (nI 0) (by decide) d_TR_spread_7 ?_
  refine rx_istore_n C (Nat.le_of_ble_eq_true rfl) [1, 2, 3, 0] (lv' := [(0, .ref (a 0)), (1, .int (nI (fr))), (2, .int (col fr)), (3, .int (nI (0)))]) rfl d_TR_spread_8 ?_
  refine rx_iconst C (nI 0) (by decide) d_TR_spread_9 ?_
  refine rx_istore C (Nat.le_of_ble_eq_true rfl) [1, 2, 3, 4, 0] (lv' := [(0, .ref (a 0)), (1, .int (nI (fr))), (2, .int (col fr)), (3, .int (nI (0))), (4, .int (nI (0)))]) rfl d_TR_spread_10 ?_
  refine rx_aload_n C 0 rfl d_TR_spread_12 ?_
  refine rx_get C 0 5 i_TR rfl rfl (by decide) g_47 rfl rfl d_TR_spread_13 ?_
  refine rx_iload_n C 1 rfl d_TR_spread_16 ?_
  refine rx_iconst C (nI 1) (by decide) d_TR_spread_17 ?_
  refine rx_zast C 3 rfl (by decide) (rfl) (fr) (rfl) (by omega) (ws' := [(a 0, oTR w h a), (a 2, cI ta 576 (col)), (a 4, cS ta 576 (stk)), (a 5, cZ ta 576 (upd sn fr (nI (1))))]) rfl d_TR_spread_18 ?_
  refine rx_aload_n C 0 rfl d_TR_spread_19 ?_
  refine rx_get C 0 4 i_TR rfl rfl (by decide) g_46 rfl rfl d_TR_spread_20 ?_
  refine rx_iload C 4 rfl d_TR_spread_23 ?_
  refine rx_iinc C 4 rfl (nI (1)) (by decide) (Nat.le_of_ble_eq_true rfl) [1, 2, 3, 4, 0] (lv' := [(0, .ref (a 0)), (1, .int (nI (fr))), (2, .int (col fr)), (3, .int (nI (0))), (4, .int (nI (1)))]) rfl d_TR_spread_25 ?_
  refine rx_iload_n C 1 rfl d_TR_spread_28 ?_
  refine rx_i2s C d_TR_spread_29 ?_
  refine rx_top (nI (fr)) (short_id (by omega)) ?_
  refine rx_sast C 2 rfl (by decide) (by rw [← short_id (show fr < 32768 by omega)]; exact pk_vs _) (0) (rfl) (by omega) (ws' := [(a 0, oTR w h a), (a 2, cI ta 576 (col)), (a 4, cS ta 576 (upd stk 0 (nI (fr)))), (a 5, cZ ta 576 (upd sn fr (nI (1))))]) rfl d_TR_spread_30 ?_
  have loop : ∀ (n : Nat) (N t : Nat) (sk sq : Nat → Int32), 2 * (w * h - cn (nz sq) (w * h)) + t < n → (SJ w h col sn (col fr) fr (fun z => False) (t) (sk) (sq) (N)) → G 31 [(0, .ref (a 0)), (1, .int (nI (fr))), (2, .int (col fr)), (3, .int (nI (N))), (4, .int (nI (t)))] [] [(a 0, oTR w h a), (a 2, cI ta 576 (col)), (a 4, cS ta 576 (sk)), (a 5, cZ ta 576 (sq))] := by
    intro n
    induction n with
    | zero => intro N t sk sq hm; exact absurd hm (Nat.not_lt_zero _)
    | succ n ih =>
      intro N t sk sq hm hI
      have htt : t ≤ 576 := by have := cn_le (P := nz sq) (w * h); have := hI.2.2.2.2.2; omega
      refine rx_iload C 4 rfl d_TR_spread_31 ?_
      refine rx_if_leN C (by omega) d_TR_spread_33 (fun c33 => ?_) (fun c33 => ?_)
      · skip
        refine rx_iload_n C 3 rfl d_TR_spread_168 ?_
        subst c33
        exact hret _ _ _ _ (sk, sq) d_TR_spread_169 (rfl) (⟨N, rfl, SJ_end hI⟩)
      · skip
        obtain ⟨s, rfl⟩ : ∃ s, t = s + 1 := ⟨t - 1, by omega⟩
        obtain ⟨i, hi, hki, hni, hJ⟩ := SJ_pop hwh hI
        have hs : s < 576 := by have := cn_le (P := nz sq) (w * h); have := hI.2.2.2.2.2; omega
        refine rx_aload_n C 0 rfl d_TR_spread_36 ?_
        refine rx_get C 0 4 i_TR rfl rfl (by decide) g_46 rfl rfl d_TR_spread_37 ?_
        refine rx_iinc C 4 rfl (nI s) (m1_ s) (Nat.le_of_ble_eq_true rfl) [1, 2, 3, 4, 0] (lv' := [(0, .ref (a 0)), (1, .int (nI (fr))), (2, .int (col fr)), (3, .int (nI (N))), (4, .int (nI (s)))]) rfl d_TR_spread_40 ?_
        refine rx_iload C 4 rfl d_TR_spread_43 ?_
        refine rx_sald C 2 rfl (by decide) (s) (rfl) (by omega) d_TR_spread_45 ?_
        refine rx_top (nI (i)) (hki) ?_
        refine rx_istore C (Nat.le_of_ble_eq_true rfl) [1, 2, 3, 4, 5, 0] (lv' := [(0, .ref (a 0)), (1, .int (nI (fr))), (2, .int (col fr)), (3, .int (nI (N))), (4, .int (nI (s))), (5, .int (nI (i)))]) rfl d_TR_spread_46 ?_
        refine rx_iinc C 3 rfl (nI (N + 1)) (nI_add _ _) (Nat.le_of_ble_eq_true rfl) [1, 2, 3, 0, 4, 5] (lv' := [(0, .ref (a 0)), (1, .int (nI (fr))), (2, .int (col fr)), (3, .int (nI (N + 1))), (4, .int (nI (s))), (5, .int (nI (i)))]) rfl d_TR_spread_48 ?_
        refine rx_iload C 5 rfl d_TR_spread_51 ?_
        refine rx_aload_n C 0 rfl d_TR_spread_53 ?_
        refine rx_get C 0 0 i_TR rfl rfl (by decide) g_42 rfl rfl d_TR_spread_54 ?_
        refine rx_iremN C (by omega) (by omega) (by omega) d_TR_spread_57 ?_
        refine rx_istore C (Nat.le_of_ble_eq_true rfl) [1, 2, 3, 4, 5, 6, 0] (lv' := [(0, .ref (a 0)), (1, .int (nI (fr))), (2, .int (col fr)), (3, .int (nI (N + 1))), (4, .int (nI (s))), (5, .int (nI (i))), (6, .int (nI (i % w)))]) rfl d_TR_spread_58 ?_
        have K4 : ∀ (t7 : Nat) (k7 n7 : Nat → Int32) (p : Int32), s ≤ t7 → SJ w h col sn (col fr) fr (fun z => z = i) (t7) (k7) (n7) (N + 1) → nz n7 i → (∀ k, k < w * h → 0 < i % w → k + 1 = i → col k = col fr → nz n7 k) → (∀ k, k < w * h → i % w + 1 < w → k = i + 1 → col k = col fr → nz n7 k) → (∀ k, k < w * h → k + w = i → col k = col fr → nz n7 k) → Cand w h i p → (∀ k, k < w * h → k = i + w → p = nI k) → G 157 [(0, .ref (a 0)), (1, .int (nI (fr))), (2, .int (col fr)), (3, .int (nI (N + 1))), (4, .int (nI (t7))), (5, .int (nI (i))), (6, .int (nI (i % w)))] [.int (p), .ref (a 0)] [(a 0, oTR w h a), (a 2, cI ta 576 (col)), (a 4, cS ta 576 (k7)), (a 5, cZ ta 576 (n7))] := by
          intro t7 k7 n7 p hs7 hJ7 hn_n7 g1 g2 g3 hp hpp
          refine rx_iload_n C 2 rfl d_TR_spread_157 ?_
          refine rx_iload C 4 rfl d_TR_spread_158 ?_
          refine rx_callVi C (c_TR_push l D ta w h a col k7 n7 (p) (col fr) t7 (push_pre hwh hJ7 hp)) cw_TR_107 ⟨rfl, rfl, by decide, by decide⟩ rfl [0, 1, 2, 3] rfl rfl (q0 := 0) rfl rfl rfl [] rfl (Nat.le_of_ble_eq_true rfl) (fun _ => rfl) d_TR_spread_160 (fun r8 u8 h8 => ?_)
          refine rx_ws (ws' := [(a 0, oTR w h a), (a 2, cI ta 576 (col)), (a 4, cS ta 576 (u8.1)), (a 5, cZ ta 576 (u8.2))]) ?_ rfl
          obtain ⟨t8, rfl, ht8, hJ8, hu8, hv8⟩ := push_post hwh hi hn_n7 hJ7 hp h8
          obtain ⟨k8, n8⟩ := u8
          dsimp only at hJ8 hu8 hv8
          show G 163 [(0, .ref (a 0)), (1, .int (nI (fr))), (2, .int (col fr)), (3, .int (nI (N + 1))), (4, .int (nI (t7))), (5, .int (nI (i))), (6, .int (nI (i % w)))] [.int (nI (t8))] [(a 0, oTR w h a), (a 2, cI ta 576 (col)), (a 4, cS ta 576 (k8)), (a 5, cZ ta 576 (n8))]
          have hn_n8 : nz n8 i := hu8 i hn_n7
          refine rx_istore C (Nat.le_of_ble_eq_true rfl) [1, 2, 3, 4, 0, 5, 6] (lv' := [(0, .ref (a 0)), (1, .int (nI (fr))), (2, .int (col fr)), (3, .int (nI (N + 1))), (4, .int (nI (t8))), (5, .int (nI (i))), (6, .int (nI (i % w)))]) rfl d_TR_spread_163 ?_
          refine rx_goto C d_TR_spread_165 ?_
          refine rx_lv C [0, 1, 2, 3, 4] rfl ?_
          refine ih (N + 1) t8 k8 n8 ?_ (SJ_done hJ8 (fun j hj ad cj => ?_))
          · have b1 := hJ8.2.2.2.2.2; have b2 := cn_le (P := nz n8) (w * h); have b3 := hI.2.2.2.2.2; omega
          · rcases ad with ⟨m1, m2⟩ | ⟨m1, m2⟩ | m1 | m1
            · exact hu8 j (g1 j hj m1 m2 cj)
            · exact hu8 j (g2 j hj m1 m2 cj)
            · exact hu8 j (g3 j hj m1 cj)
            · exact hv8 j hj (hpp j hj m1) cj
        have K2 : ∀ (t5 : Nat) (k5 n5 : Nat → Int32) (p : Int32), s ≤ t5 → SJ w h col sn (col fr) fr (fun z => z = i) (t5) (k5) (n5) (N + 1) → nz n5 i → (∀ k, k < w * h → 0 < i % w → k + 1 = i → col k = col fr → nz n5 k) → Cand w h i p → (∀ k, k < w * h → i % w + 1 < w → k = i + 1 → p = nI k) → G 102 [(0, .ref (a 0)), (1, .int (nI (fr))), (2, .int (col fr)), (3, .int (nI (N + 1))), (4, .int (nI (t5))), (5, .int (nI (i))), (6, .int (nI (i % w)))] [.int (p), .ref (a 0)] [(a 0, oTR w h a), (a 2, cI ta 576 (col)), (a 4, cS ta 576 (k5)), (a 5, cZ ta 576 (n5))] := by
          intro t5 k5 n5 p hs5 hJ5 hn_n5 g1 hp hpp
          refine rx_iload_n C 2 rfl d_TR_spread_102 ?_
          refine rx_iload C 4 rfl d_TR_spread_103 ?_
          refine rx_callVi C (c_TR_push l D ta w h a col k5 n5 (p) (col fr) t5 (push_pre hwh hJ5 hp)) cw_TR_107 ⟨rfl, rfl, by decide, by decide⟩ rfl [0, 1, 2, 3] rfl rfl (q0 := 0) rfl rfl rfl [] rfl (Nat.le_of_ble_eq_true rfl) (fun _ => rfl) d_TR_spread_105 (fun r6 u6 h6 => ?_)
          refine rx_ws (ws' := [(a 0, oTR w h a), (a 2, cI ta 576 (col)), (a 4, cS ta 576 (u6.1)), (a 5, cZ ta 576 (u6.2))]) ?_ rfl
          obtain ⟨t6, rfl, ht6, hJ6, hu6, hv6⟩ := push_post hwh hi hn_n5 hJ5 hp h6
          obtain ⟨k6, n6⟩ := u6
          dsimp only at hJ6 hu6 hv6
          show G 108 [(0, .ref (a 0)), (1, .int (nI (fr))), (2, .int (col fr)), (3, .int (nI (N + 1))), (4, .int (nI (t5))), (5, .int (nI (i))), (6, .int (nI (i % w)))] [.int (nI (t6))] [(a 0, oTR w h a), (a 2, cI ta 576 (col)), (a 4, cS ta 576 (k6)), (a 5, cZ ta 576 (n6))]
          have hn_n6 : nz n6 i := hu6 i hn_n5
          refine rx_istore C (Nat.le_of_ble_eq_true rfl) [1, 2, 3, 4, 0, 5, 6] (lv' := [(0, .ref (a 0)), (1, .int (nI (fr))), (2, .int (col fr)), (3, .int (nI (N + 1))), (4, .int (nI (t6))), (5, .int (nI (i))), (6, .int (nI (i % w)))]) rfl d_TR_spread_108 ?_
          refine rx_aload_n C 0 rfl d_TR_spread_110 ?_
          refine rx_iload C 5 rfl d_TR_spread_111 ?_
          refine rx_aload_n C 0 rfl d_TR_spread_113 ?_
          refine rx_get C 0 0 i_TR rfl rfl (by decide) g_42 rfl rfl d_TR_spread_114 ?_
          refine rx_isub C d_TR_spread_117 ?_
          refine rx_iload_n C 2 rfl d_TR_spread_118 ?_
          refine rx_iload C 4 rfl d_TR_spread_119 ?_
          have hp3 : Cand w h i (nI i - nI w) := by
            rcases Nat.lt_or_ge i w with q | q
            · exact Or.inl (pk_sneg (by omega) q)
            · exact Or.inr ⟨i - w, by omega, pk_sub q, Or.inr (Or.inr (Or.inl (by omega)))⟩
          refine rx_callVi C (c_TR_push l D ta w h a col k6 n6 (nI i - nI w) (col fr) t6 (push_pre hwh hJ6 hp3)) cw_TR_107 ⟨rfl, rfl, by decide, by decide⟩ rfl [0, 1, 2, 3] rfl rfl (q0 := 0) rfl rfl rfl [] rfl (Nat.le_of_ble_eq_true rfl) (fun _ => rfl) d_TR_spread_121 (fun r7 u7 h7 => ?_)
          refine rx_ws (ws' := [(a 0, oTR w h a), (a 2, cI ta 576 (col)), (a 4, cS ta 576 (u7.1)), (a 5, cZ ta 576 (u7.2))]) ?_ rfl
          obtain ⟨t7, rfl, ht7, hJ7, hu7, hv7⟩ := push_post hwh hi hn_n6 hJ6 hp3 h7
          obtain ⟨k7, n7⟩ := u7
          dsimp only at hJ7 hu7 hv7
          show G 124 [(0, .ref (a 0)), (1, .int (nI (fr))), (2, .int (col fr)), (3, .int (nI (N + 1))), (4, .int (nI (t6))), (5, .int (nI (i))), (6, .int (nI (i % w)))] [.int (nI (t7))] [(a 0, oTR w h a), (a 2, cI ta 576 (col)), (a 4, cS ta 576 (k7)), (a 5, cZ ta 576 (n7))]
          have hn_n7 : nz n7 i := hu7 i hn_n6
          refine rx_istore C (Nat.le_of_ble_eq_true rfl) [1, 2, 3, 4, 0, 5, 6] (lv' := [(0, .ref (a 0)), (1, .int (nI (fr))), (2, .int (col fr)), (3, .int (nI (N + 1))), (4, .int (nI (t7))), (5, .int (nI (i))), (6, .int (nI (i % w)))]) rfl d_TR_spread_124 ?_
          refine rx_aload_n C 0 rfl d_TR_spread_126 ?_
          refine rx_iload C 5 rfl d_TR_spread_127 ?_
          refine rx_aload_n C 0 rfl d_TR_spread_129 ?_
          refine rx_get C 0 0 i_TR rfl rfl (by decide) g_42 rfl rfl d_TR_spread_130 ?_
          refine rx_iaddN C d_TR_spread_133 ?_
          refine rx_aload_n C 0 rfl d_TR_spread_134 ?_
          refine rx_get C 0 0 i_TR rfl rfl (by decide) g_42 rfl rfl d_TR_spread_135 ?_
          refine rx_aload_n C 0 rfl d_TR_spread_138 ?_
          refine rx_get C 0 1 i_TR rfl rfl (by decide) g_43 rfl rfl d_TR_spread_139 ?_
          refine rx_imulN C d_TR_spread_142 ?_
          have g1' : ∀ k, k < w * h → 0 < i % w → k + 1 = i → col k = col fr → nz n7 k := fun k hk b1 b2 b3 => hu7 k (hu6 k (g1 k hk b1 b2 b3))
          have g2' : ∀ k, k < w * h → i % w + 1 < w → k = i + 1 → col k = col fr → nz n7 k := fun k hk b1 b2 b3 => hu7 k (hv6 k hk (hpp k hk b1 b2) b3)
          have g3' : ∀ k, k < w * h → k + w = i → col k = col fr → nz n7 k := fun k hk b1 b2 => hv7 k hk (by rw [pk_sub (by omega), show i - w = k by omega]) b2
          refine rx_icmp_geN C (by omega) (by omega) d_TR_spread_143 (fun c143 => ?_) (fun c143 => ?_)
          · skip
            refine rx_iconst C (-1) (by decide) d_TR_spread_156 ?_
            exact K4 t7 k7 n7 _ (by omega) hJ7 hn_n7 g1' g2' g3' (Or.inl (by decide)) (fun k hk e => absurd hk (by omega))
          · skip
            refine rx_iload C 5 rfl d_TR_spread_146 ?_
            refine rx_aload_n C 0 rfl d_TR_spread_148 ?_
            refine rx_get C 0 0 i_TR rfl rfl (by decide) g_42 rfl rfl d_TR_spread_149 ?_
            refine rx_iaddN C d_TR_spread_152 ?_
            refine rx_goto C d_TR_spread_153 ?_
            exact K4 t7 k7 n7 _ (by omega) hJ7 hn_n7 g1' g2' g3' (Or.inr ⟨i + w, c143, rfl, Or.inr (Or.inr (Or.inr rfl))⟩) (fun k hk e => by rw [e])
        have K1 : ∀ (p : Int32), Cand w h i p → (∀ k, k < w * h → 0 < i % w → k + 1 = i → p = nI k) → G 74 [(0, .ref (a 0)), (1, .int (nI (fr))), (2, .int (col fr)), (3, .int (nI (N + 1))), (4, .int (nI (s))), (5, .int (nI (i))), (6, .int (nI (i % w)))] [.int (p), .ref (a 0)] [(a 0, oTR w h a), (a 2, cI ta 576 (col)), (a 4, cS ta 576 (sk)), (a 5, cZ ta 576 (sq))] := by
          intro p hp hpp
          refine rx_iload_n C 2 rfl d_TR_spread_74 ?_
          refine rx_iload C 4 rfl d_TR_spread_75 ?_
          refine rx_callVi C (c_TR_push l D ta w h a col sk sq (p) (col fr) s (push_pre hwh hJ hp)) cw_TR_107 ⟨rfl, rfl, by decide, by decide⟩ rfl [0, 1, 2, 3] rfl rfl (q0 := 0) rfl rfl rfl [] rfl (Nat.le_of_ble_eq_true rfl) (fun _ => rfl) d_TR_spread_77 (fun r5 u5 h5 => ?_)
          refine rx_ws (ws' := [(a 0, oTR w h a), (a 2, cI ta 576 (col)), (a 4, cS ta 576 (u5.1)), (a 5, cZ ta 576 (u5.2))]) ?_ rfl
          obtain ⟨t5, rfl, ht5, hJ5, hu5, hv5⟩ := push_post hwh hi hni hJ hp h5
          obtain ⟨k5, n5⟩ := u5
          dsimp only at hJ5 hu5 hv5
          show G 80 [(0, .ref (a 0)), (1, .int (nI (fr))), (2, .int (col fr)), (3, .int (nI (N + 1))), (4, .int (nI (s))), (5, .int (nI (i))), (6, .int (nI (i % w)))] [.int (nI (t5))] [(a 0, oTR w h a), (a 2, cI ta 576 (col)), (a 4, cS ta 576 (k5)), (a 5, cZ ta 576 (n5))]
          have hn_n5 : nz n5 i := hu5 i hni
          refine rx_istore C (Nat.le_of_ble_eq_true rfl) [1, 2, 3, 4, 0, 5, 6] (lv' := [(0, .ref (a 0)), (1, .int (nI (fr))), (2, .int (col fr)), (3, .int (nI (N + 1))), (4, .int (nI (t5))), (5, .int (nI (i))), (6, .int (nI (i % w)))]) rfl d_TR_spread_80 ?_
          refine rx_aload_n C 0 rfl d_TR_spread_82 ?_
          refine rx_iload C 6 rfl d_TR_spread_83 ?_
          refine rx_aload_n C 0 rfl d_TR_spread_85 ?_
          refine rx_get C 0 0 i_TR rfl rfl (by decide) g_42 rfl rfl d_TR_spread_86 ?_
          refine rx_iconst C (nI 1) (by decide) d_TR_spread_89 ?_
          refine rx_isubN C (by omega) d_TR_spread_90 ?_
          have g1' : ∀ k, k < w * h → 0 < i % w → k + 1 = i → col k = col fr → nz n5 k := fun k hk b1 b2 b3 => hv5 k hk (hpp k hk b1 b2) b3
          refine rx_icmp_geN C (by have := Nat.mod_lt i hw0; omega) (by omega) d_TR_spread_91 (fun c91 => ?_) (fun c91 => ?_)
          · skip
            refine rx_iconst C (-1) (by decide) d_TR_spread_101 ?_
            exact K2 t5 k5 n5 _ (by omega) hJ5 hn_n5 g1' (Or.inl (by decide)) (fun k hk e => absurd e (by omega))
          · skip
            refine rx_iload C 5 rfl d_TR_spread_94 ?_
            refine rx_iconst C (nI 1) (by decide) d_TR_spread_96 ?_
            refine rx_iaddN C d_TR_spread_97 ?_
            refine rx_goto C d_TR_spread_98 ?_
            refine K2 t5 k5 n5 _ (by omega) hJ5 hn_n5 g1' (Or.inr ⟨i + 1, ?_, rfl, Or.inr (Or.inl ⟨by omega, rfl⟩)⟩) (fun k hk _ e => by rw [e])
            have q1 := Nat.div_add_mod i w
            have q2 := px_lt (x := i % w + 1) (y := i / w) (w := w) (h := h) (by omega) (Nat.div_lt_of_lt_mul hi)
            omega
        refine rx_aload_n C 0 rfl d_TR_spread_60 ?_
        refine rx_iload C 6 rfl d_TR_spread_61 ?_
        refine rx_if_leN C (by have := Nat.mod_lt i hw0; omega) d_TR_spread_63 (fun c63 => ?_) (fun c63 => ?_)
        · skip
          refine rx_iconst C (-1) (by decide) d_TR_spread_73 ?_
          exact K1 _ (Or.inl (by decide)) (fun k hk e => absurd e (by omega))
        · skip
          have hi0 : 0 < i := Nat.pos_of_ne_zero (fun q => by rw [q, Nat.zero_mod] at c63; exact absurd c63 (by decide))
          refine rx_iload C 5 rfl d_TR_spread_66 ?_
          refine rx_iconst C (nI 1) (by decide) d_TR_spread_68 ?_
          refine rx_isubN C (by omega) d_TR_spread_69 ?_
          refine rx_goto C d_TR_spread_70 ?_
          exact K1 _ (Or.inr ⟨i - 1, by omega, rfl, Or.inl ⟨c63, by omega⟩⟩) (fun k hk _ e => by rw [show i - 1 = k by omega])
  exact loop _ 0 1 _ _ (Nat.lt_succ_self _) (SJ_start hfr h0 hC)
end
section
theorem besN {w h x y : Nat} {mk : Nat → Int32} (hx : x < w) (F1 : 0 < x → mk (24 * y + x - 1) = 0) (F2 : x + 1 < w → mk (24 * y + x + 1) = 0) (F3 : 0 < y → mk (24 * y + x - 24) = 0) (F4 : y + 1 < h → mk (24 * y + x + 24) = 0) : ¬ ∃ i, i < w * h ∧ nz (fun k => mk (mx w k)) i ∧ adjP w i (w * y + x) := by
  rintro ⟨i, hi, q, ad⟩
  rcases adj_cases hx hi ad with ⟨a, rfl⟩ | ⟨a, rfl⟩ | ⟨a, rfl⟩ | ⟨a, rfl⟩
  · refine q ?_
    show mk (mx w _) = 0
    rw [mx_eq y (by omega), show 24 * y + (x - 1) = 24 * y + x - 1 by omega]; exact F1 a
  · refine q ?_
    show mk (mx w _) = 0
    rw [mx_eq y a]; exact F2 a
  · refine q ?_
    show mk (mx w _) = 0
    rw [mx_eq (y - 1) hx, show 24 * (y - 1) + x = 24 * y + x - 24 by omega]; exact F3 a
  · refine q ?_
    show mk (mx w _) = 0
    rw [mx_eq (y + 1) hx, show 24 * (y + 1) + x = 24 * y + x + 24 by omega]; exact F4 a
theorem bes1 {w h x y : Nat} {mk : Nat → Int32} (hx : x < w) (hy : y < h) (a : 0 < x) (q : ¬ mk (24 * y + x - 1) = 0) : ∃ i, i < w * h ∧ nz (fun k => mk (mx w k)) i ∧ adjP w i (w * y + x) :=
  ⟨w * y + (x - 1), px_lt (by omega) hy, by show ¬ mk (mx w _) = 0; rw [mx_eq y (by omega), show 24 * y + (x - 1) = 24 * y + x - 1 by omega]; exact q, adj_l hx a⟩
theorem bes2 {w h x y : Nat} {mk : Nat → Int32} (hy : y < h) (a : x + 1 < w) (q : ¬ mk (24 * y + x + 1) = 0) : ∃ i, i < w * h ∧ nz (fun k => mk (mx w k)) i ∧ adjP w i (w * y + x) :=
  ⟨w * y + (x + 1), px_lt a hy, by show ¬ mk (mx w _) = 0; rw [mx_eq y a]; exact q, adj_r a⟩
theorem bes3 {w h x y : Nat} {mk : Nat → Int32} (hx : x < w) (hy : y < h) (a : 0 < y) (q : ¬ mk (24 * y + x - 24) = 0) : ∃ i, i < w * h ∧ nz (fun k => mk (mx w k)) i ∧ adjP w i (w * y + x) :=
  ⟨w * (y - 1) + x, px_lt hx (by omega), by show ¬ mk (mx w _) = 0; rw [mx_eq (y - 1) hx, show 24 * (y - 1) + x = 24 * y + x - 24 by omega]; exact q, adj_u a⟩
theorem bes4 {w h x y : Nat} {mk : Nat → Int32} (hx : x < w) (a : y + 1 < h) (q : ¬ mk (24 * y + x + 24) = 0) : ∃ i, i < w * h ∧ nz (fun k => mk (mx w k)) i ∧ adjP w i (w * y + x) :=
  ⟨w * (y + 1) + x, px_lt hx a, by show ¬ mk (mx w _) = 0; rw [mx_eq (y + 1) hx, show 24 * (y + 1) + x = 24 * y + x + 24 by omega]; exact q, adj_d⟩
/-- one pass over the pixels, n of them done -/
def PI (w h : Nat) (col : Nat → Int32) (c : Int32) (M0 : Nat → Prop) (fr cnS n g N : Nat) (M : Nat → Prop) : Prop :=
  MI w h col c M0 fr M N ∧ ((g = 1 ∧ cnS < cn M (w * h)) ∨ (g = 0 ∧ cnS ≤ cn M (w * h) ∧ ∀ k, k < n → k < w * h → col k = c → (∃ i, i < w * h ∧ M i ∧ adjP w i k) → M k))
theorem PI_skip {w h : Nat} {col : Nat → Int32} {c : Int32} {M0 M : Nat → Prop} {fr cnS n g N : Nat} (h1 : PI w h col c M0 fr cnS n g N M) (hn : M n ∨ ¬ col n = c ∨ ¬ ∃ i, i < w * h ∧ M i ∧ adjP w i n) : PI w h col c M0 fr cnS (n + 1) g N M := by
  refine ⟨h1.1, h1.2.imp id (fun ⟨a, b, d⟩ => ⟨a, b, fun k hk hk2 ck ex => ?_⟩)⟩
  rcases Nat.lt_or_ge k n with q | q
  · exact d k q hk2 ck ex
  · rw [show k = n by omega] at ck ex ⊢
    rcases hn with q | q | q
    · exact q
    · exact absurd ck q
    · exact absurd ex q
theorem PI_mark {w h : Nat} {col : Nat → Int32} {c : Int32} {M0 M M' : Nat → Prop} {fr cnS n g N : Nat} (h1 : PI w h col c M0 fr cnS n g N M) (hn : n < w * h) (nk : ¬ M n) (ck : col n = c) (ex : ∃ i, i < w * h ∧ M i ∧ adjP w i n) (hM : ∀ x, M' x ↔ (M x ∨ x = n)) : PI w h col c M0 fr cnS (n + 1) 1 (N + 1) M' := by
  obtain ⟨i, hi, mi, ad⟩ := ex
  refine ⟨MI_add h1.1 hn hi nk mi ad ck hM, Or.inl ⟨rfl, ?_⟩⟩
  rw [cn_add nk hM (w * h) hn]
  rcases h1.2 with ⟨-, q⟩ | ⟨-, q, -⟩ <;> omega
theorem PI_end {w h : Nat} {col : Nat → Int32} {c : Int32} {M0 M : Nat → Prop} {fr cnS g N : Nat} (h1 : PI w h col c M0 fr cnS (w * h) g N M) : g ≤ 1 ∧ MI w h col c M0 fr M N ∧ (g = 0 → Closed w h col c M) ∧ 2 * (w * h - cn M (w * h)) + g < 2 * (w * h - cnS) + 1 := by
  have hle := cn_le (P := M) (w * h)
  refine ⟨?_, h1.1, fun q i j hi hj mi ad cj => ?_, ?_⟩
  · rcases h1.2 with ⟨q, -⟩ | ⟨q, -, -⟩ <;> omega
  · rcases h1.2 with ⟨q', -⟩ | ⟨-, -, d⟩
    · omega
    · exact d j hj hj cj ⟨i, hi, mi, ad⟩
  · rcases h1.2 with ⟨q, q2⟩ | ⟨q, q2, -⟩ <;> omega
theorem nzm_upd {w k n : Nat} {mk : Nat → Int32} (hw0 : 0 < w) (hw : w ≤ 24) (hn : mx w n = k) (x : Nat) : nz (fun z => upd mk k (nI 1) (mx w z)) x ↔ (nz (fun z => mk (mx w z)) x ∨ x = n) := by
  have h1 := nz_upd (sn := mk) (k := k) (x := mx w x)
  refine h1.trans ⟨fun q => q.imp id (fun q => mx_inj hw0 hw (q.trans hn.symm)), fun q => q.imp id (fun q => by rw [q, hn])⟩
theorem upd_self {f : Nat → Int32} {n : Nat} : upd f n (f n) = f := funext fun k => by
  by_cases h : k = n
  · subst h; exact pk_us
  · exact pk_un h
set_option maxHeartbeats 4000000 in
set_option maxRecDepth 100000 in
theorem c_TM_mark (l : Launch) (D : va_G) (ta : Nat → ClassId) (w h : Nat) (a : Nat → Nat) (col mk : Nat → Int32) (i0 j0 : Nat) (hw0 : 0 < w) (hw : w ≤ 24) (hh : h ≤ 24) (hi0 : i0 < w) (hj0 : j0 < h) : Cti l y_TM_mark b_TM_mark 10 .int rm_TM_mark D ta [.ref (a 0), .int (nI (i0)), .int (nI (j0))] [(a 0, oTM w h a), (a 2, cI ta 576 (col)), (a 7, cZ ta 576 (mk))] (fun u : Nat → Int32 => [(a 0, oTM w h a), (a 2, cI ta 576 (col)), (a 7, cZ ta 576 (u))]) (fun r u => ∃ N, r = nI N ∧ leastC w h (fun k => col (mx w k)) (col (24 * j0 + i0)) (nz (fun k => mk (mx w k))) (w * j0 + i0) (nz (fun k => u (mx w k))) ∧ (¬ (nz (fun k => mk (mx w k))) (w * j0 + i0) → cn (nz (fun k => u (mx w k))) (w * h) = cn (nz (fun k => mk (mx w k))) (w * h) + N)) := by
  have hwh : w * h ≤ 576 := Nat.mul_le_mul hw hh
  refine start_i rfl (Nat.le_of_ble_eq_true rfl) (fun G C hret => ?_)
  show G 0 [(0, .ref (a 0)), (1, .int (nI (i0))), (2, .int (nI (j0)))] [] [(a 0, oTM w h a), (a 2, cI ta 576 (col)), (a 7, cZ ta 576 (mk))]
  have hmf : mx w (w * j0 + i0) = 24 * j0 + i0 := mx_eq j0 hi0
  refine rx_aload_n C 0 rfl d_TM_mark_0 ?_
  refine rx_get C 0 2 i_TM rfl rfl (by decide) g_190 rfl rfl d_TM_mark_1 ?_
  refine rx_bipush C (nI 24) (by decide) d_TM_mark_4 ?_
  refine rx_iload_n C 2 rfl d_TM_mark_6 ?_
  refine rx_imulN C d_TM_mark_7 ?_
  refine rx_iload_n C 1 rfl d_TM_mark_8 ?_
  refine rx_iaddN C d_TM_mark_9 ?_
  refine rx_iald C 1 rfl (by decide) ((24 * j0) + i0) (rfl) (by omega) d_TM_mark_10 ?_
  refine rx_istore_n C (Nat.le_of_ble_eq_true rfl) [1, 2, 3, 0] (lv' := [(0, .ref (a 0)), (1, .int (nI (i0))), (2, .int (nI (j0))), (3, .int (col ((24 * j0) + i0)))]) rfl d_TM_mark_11 ?_
  refine rx_aload_n C 0 rfl d_TM_mark_12 ?_
  refine rx_get C 0 7 i_TM rfl rfl (by decide) g_195 rfl rfl d_TM_mark_13 ?_
  refine rx_bipush C (nI 24) (by decide) d_TM_mark_16 ?_
  refine rx_iload_n C 2 rfl d_TM_mark_18 ?_
  refine rx_imulN C d_TM_mark_19 ?_
  refine rx_iload_n C 1 rfl d_TM_mark_20 ?_
  refine rx_iaddN C d_TM_mark_21 ?_
  refine rx_iconst C (nI 1) (by decide) d_TM_mark_22 ?_
  refine rx_zast C 2 rfl (by decide) (rfl) ((24 * j0) + i0) (rfl) (by omega) (ws' := [(a 0, oTM w h a), (a 2, cI ta 576 (col)), (a 7, cZ ta 576 (upd mk ((24 * j0) + i0) (nI (1))))]) rfl d_TM_mark_23 ?_
  refine rx_iconst C (nI 1) (by decide) d_TM_mark_24 ?_
  refine rx_istore C (Nat.le_of_ble_eq_true rfl) [1, 2, 3, 4, 0] (lv' := [(0, .ref (a 0)), (1, .int (nI (i0))), (2, .int (nI (j0))), (3, .int (col ((24 * j0) + i0))), (4, .int (nI (1)))]) rfl d_TM_mark_25 ?_
  refine rx_iconst C (nI 1) (by decide) d_TM_mark_27 ?_
  refine rx_istore C (Nat.le_of_ble_eq_true rfl) [1, 2, 3, 4, 5, 0] (lv' := [(0, .ref (a 0)), (1, .int (nI (i0))), (2, .int (nI (j0))), (3, .int (col ((24 * j0) + i0))), (4, .int (nI (1))), (5, .int (nI (1)))]) rfl d_TM_mark_28 ?_
  have loop : ∀ (n : Nat) (N g : Nat) (mk9 : Nat → Int32), 2 * (w * h - cn (nz (fun k => mk9 (mx w k))) (w * h)) + g < n → (g ≤ 1) → (MI w h (fun k => col (mx w k)) (col (24 * j0 + i0)) (nz (fun k => mk (mx w k))) (w * j0 + i0) (nz (fun k => mk9 (mx w k))) (N)) → (g = 0 → Closed w h (fun k => col (mx w k)) (col (24 * j0 + i0)) (nz (fun k => mk9 (mx w k)))) → G 30 [(0, .ref (a 0)), (1, .int (nI (i0))), (2, .int (nI (j0))), (3, .int (col (24 * j0 + i0))), (4, .int (nI (N))), (5, .int (nI (g)))] [] [(a 0, oTM w h a), (a 2, cI ta 576 (col)), (a 7, cZ ta 576 (mk9))] := by
    intro n
    induction n with
    | zero => intro N g mk9 hm; exact absurd hm (Nat.not_lt_zero _)
    | succ n ih =>
      intro N g mk9 hm hg hM hCl
      refine rx_iload C 5 rfl d_TM_mark_30 ?_
      refine rx_if_eqN C (by omega) d_TM_mark_32 (fun c32 => ?_) (fun c32 => ?_)
      · skip
        refine rx_iload C 4 rfl d_TM_mark_216 ?_
        exact hret _ _ _ _ mk9 d_TM_mark_218 (rfl) (⟨N, rfl, MI_end hM (hCl c32)⟩)
      · skip
        obtain rfl : g = 1 := by omega
        show G 35 [(0, .ref (a 0)), (1, .int (nI (i0))), (2, .int (nI (j0))), (3, .int (col (24 * j0 + i0))), (4, .int (nI (N))), (5, .int (nI (1)))] [] [(a 0, oTM w h a), (a 2, cI ta 576 (col)), (a 7, cZ ta 576 (mk9))]
        refine rx_iconst C (nI 0) (by decide) d_TM_mark_35 ?_
        refine rx_istore C (Nat.le_of_ble_eq_true rfl) [1, 2, 3, 4, 5, 0] (lv' := [(0, .ref (a 0)), (1, .int (nI (i0))), (2, .int (nI (j0))), (3, .int (col (24 * j0 + i0))), (4, .int (nI (N))), (5, .int (nI (0)))]) rfl d_TM_mark_36 ?_
        refine rx_iconst C (nI 0) (by decide) d_TM_mark_38 ?_
        refine rx_istore C (Nat.le_of_ble_eq_true rfl) [1, 2, 3, 4, 5, 6, 0] (lv' := [(0, .ref (a 0)), (1, .int (nI (i0))), (2, .int (nI (j0))), (3, .int (col (24 * j0 + i0))), (4, .int (nI (N))), (5, .int (nI (0))), (6, .int (nI (0)))]) rfl d_TM_mark_39 ?_
        have loop2 : ∀ (n2 : Nat) (y g2 N2 : Nat) (mk8 : Nat → Int32), h - y < n2 → (y ≤ h) → (PI w h (fun k => col (mx w k)) (col (24 * j0 + i0)) (nz (fun k => mk (mx w k))) (w * j0 + i0) (cn (nz (fun k => mk9 (mx w k))) (w * h)) (w * y) (g2) (N2) (nz (fun k => mk8 (mx w k)))) → G 41 [(0, .ref (a 0)), (1, .int (nI (i0))), (2, .int (nI (j0))), (3, .int (col (24 * j0 + i0))), (4, .int (nI (N2))), (5, .int (nI (g2))), (6, .int (nI (y)))] [] [(a 0, oTM w h a), (a 2, cI ta 576 (col)), (a 7, cZ ta 576 (mk8))] := by
          intro n2
          induction n2 with
          | zero => intro y g2 N2 mk8 hm; exact absurd hm (Nat.not_lt_zero _)
          | succ n2 ih2 =>
            intro y g2 N2 mk8 hm2 hy hQ
            refine rx_iload C 6 rfl d_TM_mark_41 ?_
            refine rx_aload_n C 0 rfl d_TM_mark_43 ?_
            refine rx_get C 0 1 i_TM rfl rfl (by decide) g_189 rfl rfl d_TM_mark_44 ?_
            refine rx_icmp_geN C (by omega) (by omega) d_TM_mark_47 (fun c47 => ?_) (fun c47 => ?_)
            · skip
              obtain rfl : h = y := by omega
              show G 213 [(0, .ref (a 0)), (1, .int (nI (i0))), (2, .int (nI (j0))), (3, .int (col (24 * j0 + i0))), (4, .int (nI (N2))), (5, .int (nI (g2))), (6, .int (nI (h)))] [] [(a 0, oTM w h a), (a 2, cI ta 576 (col)), (a 7, cZ ta 576 (mk8))]
              refine rx_goto C d_TM_mark_213 ?_
              obtain ⟨e1, e2, e3, e4⟩ := PI_end hQ
              exact rx_lv C [0, 1, 2, 3, 4, 5] rfl (ih N2 g2 mk8 (by omega) e1 e2 e3)
            · skip
              refine rx_iconst C (nI 0) (by decide) d_TM_mark_50 ?_
              refine rx_istore C (Nat.le_of_ble_eq_true rfl) [1, 2, 3, 4, 5, 6, 7, 0] (lv' := [(0, .ref (a 0)), (1, .int (nI (i0))), (2, .int (nI (j0))), (3, .int (col (24 * j0 + i0))), (4, .int (nI (N2))), (5, .int (nI (g2))), (6, .int (nI (y))), (7, .int (nI (0)))]) rfl d_TM_mark_51 ?_
              have loop3 : ∀ (n3 : Nat) (x g3 N3 : Nat) (mk7 : Nat → Int32), w - x < n3 → (x ≤ w) → (PI w h (fun k => col (mx w k)) (col (24 * j0 + i0)) (nz (fun k => mk (mx w k))) (w * j0 + i0) (cn (nz (fun k => mk9 (mx w k))) (w * h)) (w * y + x) (g3) (N3) (nz (fun k => mk7 (mx w k)))) → G 53 [(0, .ref (a 0)), (1, .int (nI (i0))), (2, .int (nI (j0))), (3, .int (col (24 * j0 + i0))), (4, .int (nI (N3))), (5, .int (nI (g3))), (6, .int (nI (y))), (7, .int (nI (x)))] [] [(a 0, oTM w h a), (a 2, cI ta 576 (col)), (a 7, cZ ta 576 (mk7))] := by
                intro n3
                induction n3 with
                | zero => intro x g3 N3 mk7 hm; exact absurd hm (Nat.not_lt_zero _)
                | succ n3 ih3 =>
                  intro x g3 N3 mk7 hm3 hx hR
                  refine rx_iload C 7 rfl d_TM_mark_53 ?_
                  refine rx_aload_n C 0 rfl d_TM_mark_55 ?_
                  refine rx_get C 0 0 i_TM rfl rfl (by decide) g_188 rfl rfl d_TM_mark_56 ?_
                  refine rx_icmp_geN C (by omega) (by omega) d_TM_mark_59 (fun c59 => ?_) (fun c59 => ?_)
                  · skip
                    obtain rfl : w = x := by omega
                    show G 207 [(0, .ref (a 0)), (1, .int (nI (i0))), (2, .int (nI (j0))), (3, .int (col (24 * j0 + i0))), (4, .int (nI (N3))), (5, .int (nI (g3))), (6, .int (nI (y))), (7, .int (nI (w)))] [] [(a 0, oTM w h a), (a 2, cI ta 576 (col)), (a 7, cZ ta 576 (mk7))]
                    refine rx_iinc C 6 rfl (nI (y + 1)) (nI_add _ _) (Nat.le_of_ble_eq_true rfl) [1, 2, 3, 4, 5, 6, 0, 7] (lv' := [(0, .ref (a 0)), (1, .int (nI (i0))), (2, .int (nI (j0))), (3, .int (col (24 * j0 + i0))), (4, .int (nI (N3))), (5, .int (nI (g3))), (6, .int (nI (y + 1))), (7, .int (nI (w)))]) rfl d_TM_mark_207 ?_
                    refine rx_goto C d_TM_mark_210 ?_
                    rw [← Nat.mul_succ] at hR
                    exact rx_lv C [0, 1, 2, 3, 4, 5, 6] rfl (ih2 (y + 1) g3 N3 mk7 (by omega) (by omega) hR)
                  · skip
                    have hmx : mx w (w * y + x) = 24 * y + x := mx_eq y c59
                    have hlt : w * y + x < w * h := px_lt c59 c47
                    refine rx_bipush C (nI 24) (by decide) d_TM_mark_62 ?_
                    refine rx_iload C 6 rfl d_TM_mark_64 ?_
                    refine rx_imulN C d_TM_mark_66 ?_
                    refine rx_iload C 7 rfl d_TM_mark_67 ?_
                    refine rx_iaddN C d_TM_mark_69 ?_
                    refine rx_istore C (Nat.le_of_ble_eq_true rfl) [1, 2, 3, 4, 5, 6, 7, 8, 0] (lv' := [(0, .ref (a 0)), (1, .int (nI (i0))), (2, .int (nI (j0))), (3, .int (col (24 * j0 + i0))), (4, .int (nI (N3))), (5, .int (nI (g3))), (6, .int (nI (y))), (7, .int (nI (x))), (8, .int (nI ((24 * y) + x)))]) rfl d_TM_mark_70 ?_
                    have K201 : ∀ (N4 g4 : Nat) (mk6 : Nat → Int32), PI w h (fun k => col (mx w k)) (col (24 * j0 + i0)) (nz (fun k => mk (mx w k))) (w * j0 + i0) (cn (nz (fun k => mk9 (mx w k))) (w * h)) (w * y + x + 1) (g4) (N4) (nz (fun k => mk6 (mx w k))) → G 201 [(0, .ref (a 0)), (1, .int (nI (i0))), (2, .int (nI (j0))), (3, .int (col (24 * j0 + i0))), (4, .int (nI (N4))), (5, .int (nI (g4))), (6, .int (nI (y))), (7, .int (nI (x)))] [] [(a 0, oTM w h a), (a 2, cI ta 576 (col)), (a 7, cZ ta 576 (mk6))] := by
                      intro N4 g4 mk6 hT
                      refine rx_iinc C 7 rfl (nI (x + 1)) (nI_add _ _) (Nat.le_of_ble_eq_true rfl) [1, 2, 3, 4, 5, 6, 7, 0] (lv' := [(0, .ref (a 0)), (1, .int (nI (i0))), (2, .int (nI (j0))), (3, .int (col (24 * j0 + i0))), (4, .int (nI (N4))), (5, .int (nI (g4))), (6, .int (nI (y))), (7, .int (nI (x + 1)))]) rfl d_TM_mark_201 ?_
                      refine rx_goto C d_TM_mark_204 ?_
                      exact ih3 (x + 1) g4 N4 mk6 (by omega) (by omega) hT
                    have K159 : ∀ b : Nat, ((b = 1 ∧ ∃ i, i < w * h ∧ (nz (fun k => mk7 (mx w k))) i ∧ adjP w i (w * y + x)) ∨ (b = 0 ∧ ¬ ∃ i, i < w * h ∧ (nz (fun k => mk7 (mx w k))) i ∧ adjP w i (w * y + x))) → G 159 [(0, .ref (a 0)), (1, .int (nI (i0))), (2, .int (nI (j0))), (3, .int (col (24 * j0 + i0))), (4, .int (nI (N3))), (5, .int (nI (g3))), (6, .int (nI (y))), (7, .int (nI (x))), (8, .int (nI ((24 * y) + x)))] [.int (nI (b))] [(a 0, oTM w h a), (a 2, cI ta 576 (col)), (a 7, cZ ta 576 (mk7))] := by
                      intro b hb
                      refine rx_istore C (Nat.le_of_ble_eq_true rfl) [1, 2, 3, 4, 5, 6, 7, 8, 9, 0] (lv' := [(0, .ref (a 0)), (1, .int (nI (i0))), (2, .int (nI (j0))), (3, .int (col (24 * j0 + i0))), (4, .int (nI (N3))), (5, .int (nI (g3))), (6, .int (nI (y))), (7, .int (nI (x))), (8, .int (nI ((24 * y) + x))), (9, .int (nI (b)))]) rfl d_TM_mark_159 ?_
                      refine rx_aload_n C 0 rfl d_TM_mark_161 ?_
                      refine rx_get C 0 7 i_TM rfl rfl (by decide) g_195 rfl rfl d_TM_mark_162 ?_
                      refine rx_iload C 8 rfl d_TM_mark_165 ?_
                      refine rx_zald C 2 rfl (by decide) ((24 * y) + x) (rfl) (by omega) d_TM_mark_167 ?_
                      refine rx_if_ne C d_TM_mark_168 (fun c168 => ?_) (fun c168 => ?_)
                      · skip
                        refine rx_lv C [0, 1, 2, 3, 4, 5, 6, 7] rfl ?_
                        exact K201 _ _ _ (PI_skip hR (Or.inl (by show ¬ mk7 (mx w _) = 0; rw [hmx]; exact c168)))
                      · skip
                        refine rx_aload_n C 0 rfl d_TM_mark_171 ?_
                        refine rx_get C 0 2 i_TM rfl rfl (by decide) g_190 rfl rfl d_TM_mark_172 ?_
                        refine rx_iload C 8 rfl d_TM_mark_175 ?_
                        refine rx_iald C 1 rfl (by decide) ((24 * y) + x) (rfl) (by omega) d_TM_mark_177 ?_
                        refine rx_iload_n C 3 rfl d_TM_mark_178 ?_
                        refine rx_icmp_ne C d_TM_mark_179 (fun c179 => ?_) (fun c179 => ?_)
                        · skip
                          refine rx_lv C [0, 1, 2, 3, 4, 5, 6, 7] rfl ?_
                          exact K201 _ _ _ (PI_skip hR (Or.inr (Or.inl (by show ¬ col (mx w _) = _; rw [hmx]; exact c179))))
                        · skip
                          refine rx_iload C 9 rfl d_TM_mark_182 ?_
                          refine rx_if_eqN C (by omega) d_TM_mark_184 (fun c184 => ?_) (fun c184 => ?_)
                          · skip
                            refine rx_lv C [0, 1, 2, 3, 4, 5, 6, 7] rfl ?_
                            exact K201 _ _ _ (PI_skip hR (Or.inr (Or.inr (hb.elim (fun q => absurd q.1 (by omega)) (fun q => q.2)))))
                          · skip
                            refine rx_aload_n C 0 rfl d_TM_mark_187 ?_
                            refine rx_get C 0 7 i_TM rfl rfl (by decide) g_195 rfl rfl d_TM_mark_188 ?_
                            refine rx_iload C 8 rfl d_TM_mark_191 ?_
                            refine rx_iconst C (nI 1) (by decide) d_TM_mark_193 ?_
                            refine rx_zast C 2 rfl (by decide) (rfl) ((24 * y) + x) (rfl) (by omega) (ws' := [(a 0, oTM w h a), (a 2, cI ta 576 (col)), (a 7, cZ ta 576 (upd mk7 ((24 * y) + x) (nI (1))))]) rfl d_TM_mark_194 ?_
                            refine rx_iinc C 4 rfl (nI (N3 + 1)) (nI_add _ _) (Nat.le_of_ble_eq_true rfl) [1, 2, 3, 4, 0, 5, 6, 7, 8, 9] (lv' := [(0, .ref (a 0)), (1, .int (nI (i0))), (2, .int (nI (j0))), (3, .int (col (24 * j0 + i0))), (4, .int (nI (N3 + 1))), (5, .int (nI (g3))), (6, .int (nI (y))), (7, .int (nI (x))), (8, .int (nI ((24 * y) + x))), (9, .int (nI (b)))]) rfl d_TM_mark_195 ?_
                            refine rx_iconst C (nI 1) (by decide) d_TM_mark_198 ?_
                            refine rx_istore C (Nat.le_of_ble_eq_true rfl) [1, 2, 3, 4, 5, 0, 6, 7, 8, 9] (lv' := [(0, .ref (a 0)), (1, .int (nI (i0))), (2, .int (nI (j0))), (3, .int (col (24 * j0 + i0))), (4, .int (nI (N3 + 1))), (5, .int (nI (1))), (6, .int (nI (y))), (7, .int (nI (x))), (8, .int (nI ((24 * y) + x))), (9, .int (nI (b)))]) rfl d_TM_mark_199 ?_
                            refine rx_lv C [0, 1, 2, 3, 4, 5, 6, 7] rfl ?_
                            exact K201 _ _ _ (PI_mark hR hlt (by show ¬ ¬ mk7 (mx w _) = 0; rw [hmx]; exact fun q => q c168) (by show col (mx w _) = _; rw [hmx]; exact c179) (hb.elim (fun q => q.2) (fun q => absurd q.1 c184)) (fun x => nzm_upd hw0 hw hmx x))
                    have K130 : (0 < x → mk7 (24 * y + x - 1) = 0) → (x + 1 < w → mk7 (24 * y + x + 1) = 0) → (0 < y → mk7 (24 * y + x - 24) = 0) → G 130 [(0, .ref (a 0)), (1, .int (nI (i0))), (2, .int (nI (j0))), (3, .int (col (24 * j0 + i0))), (4, .int (nI (N3))), (5, .int (nI (g3))), (6, .int (nI (y))), (7, .int (nI (x))), (8, .int (nI ((24 * y) + x)))] [] [(a 0, oTM w h a), (a 2, cI ta 576 (col)), (a 7, cZ ta 576 (mk7))] := by
                      intro F1 F2 F3
                      refine rx_iload C 6 rfl d_TM_mark_130 ?_
                      refine rx_iconst C (nI 1) (by decide) d_TM_mark_132 ?_
                      refine rx_iaddN C d_TM_mark_133 ?_
                      refine rx_aload_n C 0 rfl d_TM_mark_134 ?_
                      refine rx_get C 0 1 i_TM rfl rfl (by decide) g_189 rfl rfl d_TM_mark_135 ?_
                      refine rx_icmp_geN C (by omega) (by omega) d_TM_mark_138 (fun c138 => ?_) (fun c138 => ?_)
                      · skip
                        refine rx_iconst C (nI 0) (by decide) d_TM_mark_158 ?_
                        exact K159 0 (Or.inr ⟨rfl, besN c59 F1 F2 F3 (fun q => absurd q (by omega))⟩)
                      · skip
                        refine rx_aload_n C 0 rfl d_TM_mark_141 ?_
                        refine rx_get C 0 7 i_TM rfl rfl (by decide) g_195 rfl rfl d_TM_mark_142 ?_
                        refine rx_iload C 8 rfl d_TM_mark_145 ?_
                        refine rx_bipush C (nI 24) (by decide) d_TM_mark_147 ?_
                        refine rx_iaddN C d_TM_mark_149 ?_
                        refine rx_zald C 2 rfl (by decide) (((24 * y) + x) + 24) (rfl) (by omega) d_TM_mark_150 ?_
                        refine rx_if_eq C d_TM_mark_151 (fun c151 => ?_) (fun c151 => ?_)
                        · skip
                          refine rx_iconst C (nI 0) (by decide) d_TM_mark_158 ?_
                          exact K159 0 (Or.inr ⟨rfl, besN c59 F1 F2 F3 (fun _ => c151)⟩)
                        · skip
                          refine rx_iconst C (nI 1) (by decide) d_TM_mark_154 ?_
                          refine rx_goto C d_TM_mark_155 ?_
                          exact K159 1 (Or.inl ⟨rfl, bes4 c59 c138 c151⟩)
                    have K112 : (0 < x → mk7 (24 * y + x - 1) = 0) → (x + 1 < w → mk7 (24 * y + x + 1) = 0) → G 112 [(0, .ref (a 0)), (1, .int (nI (i0))), (2, .int (nI (j0))), (3, .int (col (24 * j0 + i0))), (4, .int (nI (N3))), (5, .int (nI (g3))), (6, .int (nI (y))), (7, .int (nI (x))), (8, .int (nI ((24 * y) + x)))] [] [(a 0, oTM w h a), (a 2, cI ta 576 (col)), (a 7, cZ ta 576 (mk7))] := by
                      intro F1 F2
                      refine rx_iload C 6 rfl d_TM_mark_112 ?_
                      refine rx_if_leN C (by omega) d_TM_mark_114 (fun c114 => ?_) (fun c114 => ?_)
                      · skip
                        exact K130 F1 F2 (fun q => absurd q (by omega))
                      · skip
                        refine rx_aload_n C 0 rfl d_TM_mark_117 ?_
                        refine rx_get C 0 7 i_TM rfl rfl (by decide) g_195 rfl rfl d_TM_mark_118 ?_
                        refine rx_iload C 8 rfl d_TM_mark_121 ?_
                        refine rx_bipush C (nI 24) (by decide) d_TM_mark_123 ?_
                        refine rx_isubN C (by omega) d_TM_mark_125 ?_
                        refine rx_zald C 2 rfl (by decide) (((24 * y) + x) - 24) (rfl) (by omega) d_TM_mark_126 ?_
                        refine rx_if_ne C d_TM_mark_127 (fun c127 => ?_) (fun c127 => ?_)
                        · skip
                          refine rx_iconst C (nI 1) (by decide) d_TM_mark_154 ?_
                          refine rx_goto C d_TM_mark_155 ?_
                          exact K159 1 (Or.inl ⟨rfl, bes3 c59 c47 c114 c127⟩)
                        · skip
                          exact K130 F1 F2 (fun _ => c127)
                    have K89 : (0 < x → mk7 (24 * y + x - 1) = 0) → G 89 [(0, .ref (a 0)), (1, .int (nI (i0))), (2, .int (nI (j0))), (3, .int (col (24 * j0 + i0))), (4, .int (nI (N3))), (5, .int (nI (g3))), (6, .int (nI (y))), (7, .int (nI (x))), (8, .int (nI ((24 * y) + x)))] [] [(a 0, oTM w h a), (a 2, cI ta 576 (col)), (a 7, cZ ta 576 (mk7))] := by
                      intro F1
                      refine rx_iload C 7 rfl d_TM_mark_89 ?_
                      refine rx_iconst C (nI 1) (by decide) d_TM_mark_91 ?_
                      refine rx_iaddN C d_TM_mark_92 ?_
                      refine rx_aload_n C 0 rfl d_TM_mark_93 ?_
                      refine rx_get C 0 0 i_TM rfl rfl (by decide) g_188 rfl rfl d_TM_mark_94 ?_
                      refine rx_icmp_geN C (by omega) (by omega) d_TM_mark_97 (fun c97 => ?_) (fun c97 => ?_)
                      · skip
                        exact K112 F1 (fun q => absurd q (by omega))
                      · skip
                        refine rx_aload_n C 0 rfl d_TM_mark_100 ?_
                        refine rx_get C 0 7 i_TM rfl rfl (by decide) g_195 rfl rfl d_TM_mark_101 ?_
                        refine rx_iload C 8 rfl d_TM_mark_104 ?_
                        refine rx_iconst C (nI 1) (by decide) d_TM_mark_106 ?_
                        refine rx_iaddN C d_TM_mark_107 ?_
                        refine rx_zald C 2 rfl (by decide) (((24 * y) + x) + 1) (rfl) (by omega) d_TM_mark_108 ?_
                        refine rx_if_ne C d_TM_mark_109 (fun c109 => ?_) (fun c109 => ?_)
                        · skip
                          refine rx_iconst C (nI 1) (by decide) d_TM_mark_154 ?_
                          refine rx_goto C d_TM_mark_155 ?_
                          exact K159 1 (Or.inl ⟨rfl, bes2 c47 c97 c109⟩)
                        · skip
                          exact K112 F1 (fun _ => c109)
                    refine rx_iload C 7 rfl d_TM_mark_72 ?_
                    refine rx_if_leN C (by omega) d_TM_mark_74 (fun c74 => ?_) (fun c74 => ?_)
                    · skip
                      exact K89 (fun q => absurd q (by omega))
                    · skip
                      refine rx_aload_n C 0 rfl d_TM_mark_77 ?_
                      refine rx_get C 0 7 i_TM rfl rfl (by decide) g_195 rfl rfl d_TM_mark_78 ?_
                      refine rx_iload C 8 rfl d_TM_mark_81 ?_
                      refine rx_iconst C (nI 1) (by decide) d_TM_mark_83 ?_
                      refine rx_isubN C (by omega) d_TM_mark_84 ?_
                      refine rx_zald C 2 rfl (by decide) (((24 * y) + x) - 1) (rfl) (by omega) d_TM_mark_85 ?_
                      refine rx_if_ne C d_TM_mark_86 (fun c86 => ?_) (fun c86 => ?_)
                      · skip
                        refine rx_iconst C (nI 1) (by decide) d_TM_mark_154 ?_
                        refine rx_goto C d_TM_mark_155 ?_
                        exact K159 1 (Or.inl ⟨rfl, bes1 c59 c47 c74 c86⟩)
                      · skip
                        exact K89 (fun _ => c86)
              exact loop3 _ 0 g2 N2 mk8 (Nat.lt_succ_self _) (Nat.zero_le _) hQ
        exact loop2 _ 0 0 N mk9 (Nat.lt_succ_self _) (Nat.zero_le _) ⟨hM, Or.inr ⟨rfl, Nat.le_refl _, fun k hk => absurd hk (Nat.not_lt_zero _)⟩⟩
  exact loop _ 1 1 _ (Nat.lt_succ_self _) (Nat.le_refl _) (MI_start (px_lt hi0 hj0) (fun x => nzm_upd hw0 hw hmf x)) (fun q => absurd q (by decide))
set_option maxHeartbeats 4000000 in
set_option maxRecDepth 100000 in
theorem c_TR_fill (l : Launch) (D : va_G) (ta : Nat → ClassId) (w h : Nat) (a : Nat → Nat) (col stk sn : Nat → Int32) (x y v : Int32) (hw0 : 0 < w) (hw : w ≤ 24) (hh : h ≤ 24) : Cti l y_TR_fill b_TR_fill 6 .int rm_TR_fill D ta [.ref (a 0), .int (x), .int (y), .int (v)] [(a 0, oTR w h a), (a 2, cI ta 576 (col)), (a 4, cS ta 576 (stk)), (a 5, cZ ta 576 (sn))] (fun u : (Nat → Int32) × (Nat → Int32) × (Nat → Int32) => [(a 0, oTR w h a), (a 2, cI ta 576 (u.1)), (a 4, cS ta 576 (u.2.1)), (a 5, cZ ta 576 (u.2.2))]) (fun r u => fillP w h x y v col u.1 r) := by
  have hwh : w * h ≤ 576 := Nat.mul_le_mul hw hh
  refine start_i rfl (Nat.le_of_ble_eq_true rfl) (fun G C hret => ?_)
  show G 0 [(0, .ref (a 0)), (1, .int (x)), (2, .int (y)), (3, .int (v))] [] [(a 0, oTR w h a), (a 2, cI ta 576 (col)), (a 4, cS ta 576 (stk)), (a 5, cZ ta 576 (sn))]
  refine rx_aload_n C 0 rfl d_TR_fill_0 ?_
  refine rx_iload_n C 1 rfl d_TR_fill_1 ?_
  refine rx_iload_n C 2 rfl d_TR_fill_2 ?_
  refine rx_callVi C (c_TR_isPixel l D ta w h a x y hw hh) cw_TR_93 ⟨rfl, rfl, by decide, by decide⟩ rfl [0] rfl rfl (q0 := 0) rfl rfl rfl [] rfl (Nat.le_of_ble_eq_true rfl) (fun _ => rfl) d_TR_fill_3 (fun r0 u0 h0 => ?_)
  refine rx_ws (ws' := [(a 0, oTR w h a), (a 2, cI ta 576 (col)), (a 4, cS ta 576 (stk)), (a 5, cZ ta 576 (sn))]) ?_ rfl
  rcases h0 with ⟨rfl, i, j, hi, hj, rfl, rfl⟩ | ⟨rfl, p0⟩
  · skip
    show G 6 [(0, .ref (a 0)), (1, .int (nI (i))), (2, .int (nI (j))), (3, .int (v))] [.int (nI (1))] [(a 0, oTR w h a), (a 2, cI ta 576 (col)), (a 4, cS ta 576 (stk)), (a 5, cZ ta 576 (sn))]
    have hpx := px_lt hi hj
    have hlt : w * j + i < 576 := Nat.lt_of_lt_of_le hpx hwh
    refine rx_if_eqN C (by omega) d_TR_fill_6 (fun c6 => by exfalso; omega) (fun c6 => ?_)
    refine rx_aload_n C 0 rfl d_TR_fill_9 ?_
    refine rx_get C 0 2 i_TR rfl rfl (by decide) g_44 rfl rfl d_TR_fill_10 ?_
    refine rx_aload_n C 0 rfl d_TR_fill_13 ?_
    refine rx_get C 0 0 i_TR rfl rfl (by decide) g_42 rfl rfl d_TR_fill_14 ?_
    refine rx_iload_n C 2 rfl d_TR_fill_17 ?_
    refine rx_imulN C d_TR_fill_18 ?_
    refine rx_iload_n C 1 rfl d_TR_fill_19 ?_
    refine rx_iaddN C d_TR_fill_20 ?_
    refine rx_iald C 1 rfl (by decide) ((w * j) + i) (rfl) (by omega) d_TR_fill_21 ?_
    refine rx_iload_n C 3 rfl d_TR_fill_22 ?_
    refine rx_icmp_ne C d_TR_fill_23 (fun c23 => ?_) (fun c23 => ?_)
    · skip
      refine rx_aload_n C 0 rfl d_TR_fill_28 ?_
      refine rx_callVv C (c_TR_forget l D ta w h a sn hw hh) cw_TR_111 ⟨rfl, rfl, by decide, by decide⟩ rfl [0, 3] rfl rfl (q0 := 0) rfl rfl rfl [] rfl (Nat.le_of_ble_eq_true rfl) (fun _ => rfl) d_TR_fill_29 (fun u1 h1 => ?_)
      refine rx_ws (ws' := [(a 0, oTR w h a), (a 2, cI ta 576 (col)), (a 4, cS ta 576 (stk)), (a 5, cZ ta 576 (u1))]) ?_ rfl
      have z0 : ∀ k, k < w * h → ¬ nz u1 k := fun k hk q => q (h1 k hk)
      refine rx_aload_n C 0 rfl d_TR_fill_32 ?_
      refine rx_aload_n C 0 rfl d_TR_fill_33 ?_
      refine rx_get C 0 0 i_TR rfl rfl (by decide) g_42 rfl rfl d_TR_fill_34 ?_
      refine rx_iload_n C 2 rfl d_TR_fill_37 ?_
      refine rx_imulN C d_TR_fill_38 ?_
      refine rx_iload_n C 1 rfl d_TR_fill_39 ?_
      refine rx_iaddN C d_TR_fill_40 ?_
      refine rx_callVi C (c_TR_spread l D ta w h a col stk u1 (w * j + i) hw0 hw hh hpx (h1 _ hpx) (fun i j hi hj q => absurd q (z0 i hi))) cw_TR_114 ⟨rfl, rfl, by decide, by decide⟩ rfl [0, 1, 2, 3] rfl rfl (q0 := 0) rfl rfl rfl [] rfl (Nat.le_of_ble_eq_true rfl) (fun _ => rfl) d_TR_fill_41 (fun r2 u2 h2 => ?_)
      refine rx_ws (ws' := [(a 0, oTR w h a), (a 2, cI ta 576 (col)), (a 4, cS ta 576 (u2.1)), (a 5, cZ ta 576 (u2.2))]) ?_ rfl
      obtain ⟨N, rfl, hL, hN⟩ := h2
      rw [cn_none (w * h) z0, Nat.zero_add] at hN
      refine rx_istore C (Nat.le_of_ble_eq_true rfl) [1, 2, 3, 4, 0] (lv' := [(0, .ref (a 0)), (1, .int (nI (i))), (2, .int (nI (j))), (3, .int (v)), (4, .int (nI (N)))]) rfl d_TR_fill_44 ?_
      refine rx_iconst C (nI 0) (by decide) d_TR_fill_46 ?_
      refine rx_istore C (Nat.le_of_ble_eq_true rfl) [1, 2, 3, 4, 5, 0] (lv' := [(0, .ref (a 0)), (1, .int (nI (i))), (2, .int (nI (j))), (3, .int (v)), (4, .int (nI (N))), (5, .int (nI (0)))]) rfl d_TR_fill_47 ?_
      have loop : ∀ (n : Nat) (k : Nat) (f : Nat → Int32), w * h - k < n → (k ≤ w * h) → (pixd (nz u2.2) (fun _ => v) col f k) → G 49 [(0, .ref (a 0)), (1, .int (nI (i))), (2, .int (nI (j))), (3, .int (v)), (4, .int (nI (N))), (5, .int (nI (k)))] [] [(a 0, oTR w h a), (a 2, cI ta 576 (f)), (a 4, cS ta 576 (u2.1)), (a 5, cZ ta 576 (u2.2))] := by
        intro n
        induction n with
        | zero => intro k f hm; exact absurd hm (Nat.not_lt_zero _)
        | succ n ih =>
          intro k f hm hk hI
          refine rx_iload C 5 rfl d_TR_fill_49 ?_
          refine rx_aload_n C 0 rfl d_TR_fill_51 ?_
          refine rx_get C 0 0 i_TR rfl rfl (by decide) g_42 rfl rfl d_TR_fill_52 ?_
          refine rx_aload_n C 0 rfl d_TR_fill_55 ?_
          refine rx_get C 0 1 i_TR rfl rfl (by decide) g_43 rfl rfl d_TR_fill_56 ?_
          refine rx_imulN C d_TR_fill_59 ?_
          refine rx_icmp_geN C (by omega) (by omega) d_TR_fill_60 (fun c60 => ?_) (fun c60 => ?_)
          · skip
            refine rx_iload C 4 rfl d_TR_fill_97 ?_
            obtain rfl : k = w * h := by omega
            exact hret _ _ _ _ (f, u2) d_TR_fill_99 (rfl) (Or.inr ⟨i, j, hi, hj, rfl, rfl, Or.inr ⟨c23, nz u2.2, leastC_0 (fun k hk => ⟨fun q => absurd q (z0 k hk), fun q => absurd q id⟩) hL, by rw [hN], fun k hk => ⟨fun q => (hI k).1 hk q, fun q => (hI k).2 (fun z => q z.2)⟩⟩⟩)
          · skip
            refine rx_aload_n C 0 rfl d_TR_fill_63 ?_
            refine rx_get C 0 2 i_TR rfl rfl (by decide) g_44 rfl rfl d_TR_fill_64 ?_
            refine rx_iload C 5 rfl d_TR_fill_67 ?_
            refine rx_aload_n C 0 rfl d_TR_fill_69 ?_
            refine rx_get C 0 5 i_TR rfl rfl (by decide) g_47 rfl rfl d_TR_fill_70 ?_
            refine rx_iload C 5 rfl d_TR_fill_73 ?_
            refine rx_zald C 3 rfl (by decide) (k) (rfl) (by omega) d_TR_fill_75 ?_
            refine rx_if_eq C d_TR_fill_76 (fun c76 => ?_) (fun c76 => ?_)
            · skip
              refine rx_aload_n C 0 rfl d_TR_fill_83 ?_
              refine rx_get C 0 2 i_TR rfl rfl (by decide) g_44 rfl rfl d_TR_fill_84 ?_
              refine rx_iload C 5 rfl d_TR_fill_87 ?_
              refine rx_iald C 1 rfl (by decide) (k) (rfl) (by omega) d_TR_fill_89 ?_
              refine rx_iast C 1 rfl (by decide) (k) (rfl) (by omega) (ws' := [(a 0, oTR w h a), (a 2, cI ta 576 (upd f k (f k))), (a 4, cS ta 576 (u2.1)), (a 5, cZ ta 576 (u2.2))]) rfl d_TR_fill_90 ?_
              refine rx_iinc C 5 rfl (nI (k + 1)) (nI_add _ _) (Nat.le_of_ble_eq_true rfl) [1, 2, 3, 4, 5, 0] (lv' := [(0, .ref (a 0)), (1, .int (nI (i))), (2, .int (nI (j))), (3, .int (v)), (4, .int (nI (N))), (5, .int (nI (k + 1)))]) rfl d_TR_fill_91 ?_
              refine rx_goto C d_TR_fill_94 ?_
              refine rx_ws (ws' := [(a 0, oTR w h a), (a 2, cI ta 576 (f)), (a 4, cS ta 576 (u2.1)), (a 5, cZ ta 576 (u2.2))]) ?_ (by rw [upd_self])
              exact ih (k + 1) f (by omega) (by omega) (pixd_n hI (fun q => q c76))
            · skip
              refine rx_iload_n C 3 rfl d_TR_fill_79 ?_
              refine rx_goto C d_TR_fill_80 ?_
              refine rx_iast C 1 rfl (by decide) (k) (rfl) (by omega) (ws' := [(a 0, oTR w h a), (a 2, cI ta 576 (upd f k v)), (a 4, cS ta 576 (u2.1)), (a 5, cZ ta 576 (u2.2))]) rfl d_TR_fill_90 ?_
              refine rx_iinc C 5 rfl (nI (k + 1)) (nI_add _ _) (Nat.le_of_ble_eq_true rfl) [1, 2, 3, 4, 5, 0] (lv' := [(0, .ref (a 0)), (1, .int (nI (i))), (2, .int (nI (j))), (3, .int (v)), (4, .int (nI (N))), (5, .int (nI (k + 1)))]) rfl d_TR_fill_91 ?_
              refine rx_goto C d_TR_fill_94 ?_
              exact ih (k + 1) _ (by omega) (by omega) (pixd_y hI c76 pk_us (fun p hp => pk_un hp))
      exact loop _ 0 col (Nat.lt_succ_self _) (Nat.zero_le _) pixd_0
    · skip
      refine rx_iconst C (nI 0) (by decide) d_TR_fill_26 ?_
      exact hret _ _ _ _ (col, stk, sn) d_TR_fill_27 (rfl) (Or.inr ⟨i, j, hi, hj, rfl, rfl, Or.inl ⟨c23, rfl, fun _ _ => rfl⟩⟩)
  · skip
    show G 6 [(0, .ref (a 0)), (1, .int (x)), (2, .int (y)), (3, .int (v))] [.int (nI (0))] [(a 0, oTR w h a), (a 2, cI ta 576 (col)), (a 4, cS ta 576 (stk)), (a 5, cZ ta 576 (sn))]
    refine rx_if_eqN C (by omega) d_TR_fill_6 (fun c6 => ?_) (fun c6 => by exfalso; omega)
    refine rx_iconst C (nI 0) (by decide) d_TR_fill_26 ?_
    exact hret _ _ _ _ (col, stk, sn) d_TR_fill_27 (rfl) (Or.inl ⟨p0, rfl, fun _ _ => rfl⟩)
set_option maxHeartbeats 4000000 in
set_option maxRecDepth 100000 in
theorem c_TM_fill (l : Launch) (D : va_G) (ta : Nat → ClassId) (w h : Nat) (a : Nat → Nat) (col mk : Nat → Int32) (x y v : Int32) (hw0 : 0 < w) (hw : w ≤ 24) (hh : h ≤ 24) : Cti l y_TM_fill b_TM_fill 6 .int rm_TM_fill D ta [.ref (a 0), .int (x), .int (y), .int (v)] [(a 0, oTM w h a), (a 2, cI ta 576 (col)), (a 7, cZ ta 576 (mk))] (fun u : (Nat → Int32) × (Nat → Int32) => [(a 0, oTM w h a), (a 2, cI ta 576 (u.1)), (a 7, cZ ta 576 (u.2))]) (fun r u => fillP w h x y v (fun k => col (mx w k)) (fun k => u.1 (mx w k)) r) := by
  have hwh : w * h ≤ 576 := Nat.mul_le_mul hw hh
  refine start_i rfl (Nat.le_of_ble_eq_true rfl) (fun G C hret => ?_)
  show G 0 [(0, .ref (a 0)), (1, .int (x)), (2, .int (y)), (3, .int (v))] [] [(a 0, oTM w h a), (a 2, cI ta 576 (col)), (a 7, cZ ta 576 (mk))]
  refine rx_aload_n C 0 rfl d_TM_fill_0 ?_
  refine rx_iload_n C 1 rfl d_TM_fill_1 ?_
  refine rx_iload_n C 2 rfl d_TM_fill_2 ?_
  refine rx_callVi C (c_TM_isPixel l D ta w h a x y hw hh) cw_TM_75 ⟨rfl, rfl, by decide, by decide⟩ rfl [0] rfl rfl (q0 := 0) rfl rfl rfl [] rfl (Nat.le_of_ble_eq_true rfl) (fun _ => rfl) d_TM_fill_3 (fun r0 u0 h0 => ?_)
  refine rx_ws (ws' := [(a 0, oTM w h a), (a 2, cI ta 576 (col)), (a 7, cZ ta 576 (mk))]) ?_ rfl
  rcases h0 with ⟨rfl, i, j, hi, hj, rfl, rfl⟩ | ⟨rfl, p0⟩
  · skip
    show G 6 [(0, .ref (a 0)), (1, .int (nI (i))), (2, .int (nI (j))), (3, .int (v))] [.int (nI (1))] [(a 0, oTM w h a), (a 2, cI ta 576 (col)), (a 7, cZ ta 576 (mk))]
    have hpx := px_lt hi hj
    have hmx : mx w (w * j + i) = 24 * j + i := mx_eq j hi
    refine rx_if_eqN C (by omega) d_TM_fill_6 (fun c6 => by exfalso; omega) (fun c6 => ?_)
    refine rx_aload_n C 0 rfl d_TM_fill_9 ?_
    refine rx_get C 0 2 i_TM rfl rfl (by decide) g_190 rfl rfl d_TM_fill_10 ?_
    refine rx_bipush C (nI 24) (by decide) d_TM_fill_13 ?_
    refine rx_iload_n C 2 rfl d_TM_fill_15 ?_
    refine rx_imulN C d_TM_fill_16 ?_
    refine rx_iload_n C 1 rfl d_TM_fill_17 ?_
    refine rx_iaddN C d_TM_fill_18 ?_
    refine rx_iald C 1 rfl (by decide) ((24 * j) + i) (rfl) (by omega) d_TM_fill_19 ?_
    refine rx_iload_n C 3 rfl d_TM_fill_20 ?_
    refine rx_icmp_ne C d_TM_fill_21 (fun c21 => ?_) (fun c21 => ?_)
    · skip
      refine rx_aload_n C 0 rfl d_TM_fill_26 ?_
      refine rx_callVv C (c_TM_unmark l D ta w h a mk hw hh) cw_TM_78 ⟨rfl, rfl, by decide, by decide⟩ rfl [0, 2] rfl rfl (q0 := 0) rfl rfl rfl [] rfl (Nat.le_of_ble_eq_true rfl) (fun _ => rfl) d_TM_fill_27 (fun u1 h1 => ?_)
      refine rx_ws (ws' := [(a 0, oTM w h a), (a 2, cI ta 576 (col)), (a 7, cZ ta 576 (u1))]) ?_ rfl
      have z0 : ∀ k, k < w * h → ¬ (nz (fun k => u1 (mx w k))) k := fun k hk q => q (h1 _ (mx_lt hw0 hw hh hk))
      refine rx_aload_n C 0 rfl d_TM_fill_30 ?_
      refine rx_iload_n C 1 rfl d_TM_fill_31 ?_
      refine rx_iload_n C 2 rfl d_TM_fill_32 ?_
      refine rx_callVi C (c_TM_mark l D ta w h a col u1 i j hw0 hw hh hi hj) cw_TM_81 ⟨rfl, rfl, by decide, by decide⟩ rfl [0, 1, 2] rfl rfl (q0 := 0) rfl rfl rfl [] rfl (Nat.le_of_ble_eq_true rfl) (fun _ => rfl) d_TM_fill_33 (fun r2 u2 h2 => ?_)
      refine rx_ws (ws' := [(a 0, oTM w h a), (a 2, cI ta 576 (col)), (a 7, cZ ta 576 (u2))]) ?_ rfl
      obtain ⟨N, rfl, hL, hN⟩ := h2
      have hN := hN (z0 _ hpx)
      rw [cn_none (w * h) z0, Nat.zero_add] at hN
      refine rx_istore C (Nat.le_of_ble_eq_true rfl) [1, 2, 3, 4, 0] (lv' := [(0, .ref (a 0)), (1, .int (nI (i))), (2, .int (nI (j))), (3, .int (v)), (4, .int (nI (N)))]) rfl d_TM_fill_36 ?_
      refine rx_iconst C (nI 0) (by decide) d_TM_fill_38 ?_
      refine rx_istore C (Nat.le_of_ble_eq_true rfl) [1, 2, 3, 4, 5, 0] (lv' := [(0, .ref (a 0)), (1, .int (nI (i))), (2, .int (nI (j))), (3, .int (v)), (4, .int (nI (N))), (5, .int (nI (0)))]) rfl d_TM_fill_39 ?_
      have loop : ∀ (n : Nat) (k : Nat) (f : Nat → Int32), 576 - k < n → (k ≤ 576) → (pixd (nz u2) (fun _ => v) col f k) → G 41 [(0, .ref (a 0)), (1, .int (nI (i))), (2, .int (nI (j))), (3, .int (v)), (4, .int (nI (N))), (5, .int (nI (k)))] [] [(a 0, oTM w h a), (a 2, cI ta 576 (f)), (a 7, cZ ta 576 (u2))] := by
        intro n
        induction n with
        | zero => intro k f hm; exact absurd hm (Nat.not_lt_zero _)
        | succ n ih =>
          intro k f hm hk hI
          refine rx_iload C 5 rfl d_TM_fill_41 ?_
          refine rx_sipush C (nI 576) (by decide) d_TM_fill_43 ?_
          refine rx_icmp_geN C (by omega) (by omega) d_TM_fill_46 (fun c46 => ?_) (fun c46 => ?_)
          · skip
            refine rx_iload C 4 rfl d_TM_fill_83 ?_
            obtain rfl : k = 576 := by omega
            rw [← hmx] at c21 hL
            exact hret _ _ _ _ (f, u2) d_TM_fill_85 (rfl) (Or.inr ⟨i, j, hi, hj, rfl, rfl, Or.inr ⟨c21, (nz (fun k => u2 (mx w k))), leastC_0 (fun k hk => ⟨fun q => absurd q (z0 k hk), fun q => absurd q id⟩) hL, by rw [hN], fun k hk => ⟨fun q => (hI _).1 (mx_lt hw0 hw hh hk) q, fun q => (hI _).2 (fun z => q z.2)⟩⟩⟩)
          · skip
            refine rx_aload_n C 0 rfl d_TM_fill_49 ?_
            refine rx_get C 0 2 i_TM rfl rfl (by decide) g_190 rfl rfl d_TM_fill_50 ?_
            refine rx_iload C 5 rfl d_TM_fill_53 ?_
            refine rx_aload_n C 0 rfl d_TM_fill_55 ?_
            refine rx_get C 0 7 i_TM rfl rfl (by decide) g_195 rfl rfl d_TM_fill_56 ?_
            refine rx_iload C 5 rfl d_TM_fill_59 ?_
            refine rx_zald C 2 rfl (by decide) (k) (rfl) (by omega) d_TM_fill_61 ?_
            refine rx_if_eq C d_TM_fill_62 (fun c62 => ?_) (fun c62 => ?_)
            · skip
              refine rx_aload_n C 0 rfl d_TM_fill_69 ?_
              refine rx_get C 0 2 i_TM rfl rfl (by decide) g_190 rfl rfl d_TM_fill_70 ?_
              refine rx_iload C 5 rfl d_TM_fill_73 ?_
              refine rx_iald C 1 rfl (by decide) (k) (rfl) (by omega) d_TM_fill_75 ?_
              refine rx_iast C 1 rfl (by decide) (k) (rfl) (by omega) (ws' := [(a 0, oTM w h a), (a 2, cI ta 576 (upd f k (f k))), (a 7, cZ ta 576 (u2))]) rfl d_TM_fill_76 ?_
              refine rx_iinc C 5 rfl (nI (k + 1)) (nI_add _ _) (Nat.le_of_ble_eq_true rfl) [1, 2, 3, 4, 5, 0] (lv' := [(0, .ref (a 0)), (1, .int (nI (i))), (2, .int (nI (j))), (3, .int (v)), (4, .int (nI (N))), (5, .int (nI (k + 1)))]) rfl d_TM_fill_77 ?_
              refine rx_goto C d_TM_fill_80 ?_
              refine rx_ws (ws' := [(a 0, oTM w h a), (a 2, cI ta 576 (f)), (a 7, cZ ta 576 (u2))]) ?_ (by rw [upd_self])
              exact ih (k + 1) f (by omega) (by omega) (pixd_n hI (fun q => q c62))
            · skip
              refine rx_iload_n C 3 rfl d_TM_fill_65 ?_
              refine rx_goto C d_TM_fill_66 ?_
              refine rx_iast C 1 rfl (by decide) (k) (rfl) (by omega) (ws' := [(a 0, oTM w h a), (a 2, cI ta 576 (upd f k v)), (a 7, cZ ta 576 (u2))]) rfl d_TM_fill_76 ?_
              refine rx_iinc C 5 rfl (nI (k + 1)) (nI_add _ _) (Nat.le_of_ble_eq_true rfl) [1, 2, 3, 4, 5, 0] (lv' := [(0, .ref (a 0)), (1, .int (nI (i))), (2, .int (nI (j))), (3, .int (v)), (4, .int (nI (N))), (5, .int (nI (k + 1)))]) rfl d_TM_fill_77 ?_
              refine rx_goto C d_TM_fill_80 ?_
              exact ih (k + 1) _ (by omega) (by omega) (pixd_y hI c62 pk_us (fun p hp => pk_un hp))
      exact loop _ 0 col (Nat.lt_succ_self _) (Nat.zero_le _) pixd_0
    · skip
      refine rx_iconst C (nI 0) (by decide) d_TM_fill_24 ?_
      exact hret _ _ _ _ (col, mk) d_TM_fill_25 (rfl) (Or.inr ⟨i, j, hi, hj, rfl, rfl, Or.inl ⟨by show col (mx w (w * j + i)) = v; rw [hmx]; exact c21, rfl, fun _ _ => rfl⟩⟩)
  · skip
    show G 6 [(0, .ref (a 0)), (1, .int (x)), (2, .int (y)), (3, .int (v))] [.int (nI (0))] [(a 0, oTM w h a), (a 2, cI ta 576 (col)), (a 7, cZ ta 576 (mk))]
    refine rx_if_eqN C (by omega) d_TM_fill_6 (fun c6 => ?_) (fun c6 => by exfalso; omega)
    refine rx_iconst C (nI 0) (by decide) d_TM_fill_24 ?_
    exact hret _ _ _ _ (col, mk) d_TM_fill_25 (rfl) (Or.inl ⟨p0, rfl, fun _ _ => rfl⟩)
set_option maxHeartbeats 4000000 in
set_option maxRecDepth 100000 in
theorem c_TR_pieces (l : Launch) (D : va_G) (ta : Nat → ClassId) (w h : Nat) (a : Nat → Nat) (col stk sn : Nat → Int32) (v : Int32) (hw0 : 0 < w) (hw : w ≤ 24) (hh : h ≤ 24) : Cti l y_TR_pieces b_TR_pieces 4 .int rm_TR_pieces D ta [.ref (a 0), .int (v)] [(a 0, oTR w h a), (a 2, cI ta 576 (col)), (a 4, cS ta 576 (stk)), (a 5, cZ ta 576 (sn))] (fun u : (Nat → Int32) × (Nat → Int32) => [(a 0, oTR w h a), (a 2, cI ta 576 (col)), (a 4, cS ta 576 (u.1)), (a 5, cZ ta 576 (u.2))]) (fun r u => ∃ S N, pcR w h col v (w * h) S N ∧ r = nI N) := by
  have hwh : w * h ≤ 576 := Nat.mul_le_mul hw hh
  refine start_i rfl (Nat.le_of_ble_eq_true rfl) (fun G C hret => ?_)
  show G 0 [(0, .ref (a 0)), (1, .int (v))] [] [(a 0, oTR w h a), (a 2, cI ta 576 (col)), (a 4, cS ta 576 (stk)), (a 5, cZ ta 576 (sn))]
  refine rx_aload_n C 0 rfl d_TR_pieces_0 ?_
  refine rx_callVv C (c_TR_forget l D ta w h a sn hw hh) cw_TR_111 ⟨rfl, rfl, by decide, by decide⟩ rfl [0, 3] rfl rfl (q0 := 0) rfl rfl rfl [] rfl (Nat.le_of_ble_eq_true rfl) (fun _ => rfl) d_TR_pieces_1 (fun u1 h1 => ?_)
  refine rx_ws (ws' := [(a 0, oTR w h a), (a 2, cI ta 576 (col)), (a 4, cS ta 576 (stk)), (a 5, cZ ta 576 (u1))]) ?_ rfl
  refine rx_iconst C (nI 0) (by decide) d_TR_pieces_4 ?_
  refine rx_istore_n C (Nat.le_of_ble_eq_true rfl) [1, 2, 0] (lv' := [(0, .ref (a 0)), (1, .int (v)), (2, .int (nI (0)))]) rfl d_TR_pieces_5 ?_
  refine rx_iconst C (nI 0) (by decide) d_TR_pieces_6 ?_
  refine rx_istore_n C (Nat.le_of_ble_eq_true rfl) [1, 2, 3, 0] (lv' := [(0, .ref (a 0)), (1, .int (v)), (2, .int (nI (0))), (3, .int (nI (0)))]) rfl d_TR_pieces_7 ?_
  have loop : ∀ (n : Nat) (k N : Nat) (sk sq : Nat → Int32), w * h - k < n → (k ≤ w * h) → (pcR w h col v k (nz sq) N) → (Closed w h col v (nz sq)) → G 8 [(0, .ref (a 0)), (1, .int (v)), (2, .int (nI (N))), (3, .int (nI (k)))] [] [(a 0, oTR w h a), (a 2, cI ta 576 (col)), (a 4, cS ta 576 (sk)), (a 5, cZ ta 576 (sq))] := by
    intro n
    induction n with
    | zero => intro k N sk sq hm; exact absurd hm (Nat.not_lt_zero _)
    | succ n ih =>
      intro k N sk sq hm hk hR hC
      refine rx_iload_n C 3 rfl d_TR_pieces_8 ?_
      refine rx_aload_n C 0 rfl d_TR_pieces_9 ?_
      refine rx_get C 0 0 i_TR rfl rfl (by decide) g_42 rfl rfl d_TR_pieces_10 ?_
      refine rx_aload_n C 0 rfl d_TR_pieces_13 ?_
      refine rx_get C 0 1 i_TR rfl rfl (by decide) g_43 rfl rfl d_TR_pieces_14 ?_
      refine rx_imulN C d_TR_pieces_17 ?_
      refine rx_icmp_geN C (by omega) (by omega) d_TR_pieces_18 (fun c18 => ?_) (fun c18 => ?_)
      · skip
        refine rx_iload_n C 2 rfl d_TR_pieces_55 ?_
        obtain rfl : k = w * h := by omega
        exact hret _ _ _ _ (sk, sq) d_TR_pieces_56 (rfl) (⟨_, N, hR, rfl⟩)
      · skip
        refine rx_aload_n C 0 rfl d_TR_pieces_21 ?_
        refine rx_get C 0 2 i_TR rfl rfl (by decide) g_44 rfl rfl d_TR_pieces_22 ?_
        refine rx_iload_n C 3 rfl d_TR_pieces_25 ?_
        refine rx_iald C 1 rfl (by decide) (k) (rfl) (by omega) d_TR_pieces_26 ?_
        refine rx_iload_n C 1 rfl d_TR_pieces_27 ?_
        refine rx_icmp_ne C d_TR_pieces_28 (fun c28 => ?_) (fun c28 => ?_)
        · skip
          refine rx_iinc C 3 rfl (nI (k + 1)) (nI_add _ _) (Nat.le_of_ble_eq_true rfl) [1, 2, 3, 0] (lv' := [(0, .ref (a 0)), (1, .int (v)), (2, .int (nI (N))), (3, .int (nI (k + 1)))]) rfl d_TR_pieces_49 ?_
          refine rx_goto C d_TR_pieces_52 ?_
          exact ih (k + 1) N sk sq (by omega) (by omega) ⟨_, _, hR, Or.inr ⟨fun q => c28 q.1, fun _ _ => Iff.rfl, rfl⟩⟩ hC
        · skip
          refine rx_aload_n C 0 rfl d_TR_pieces_31 ?_
          refine rx_get C 0 5 i_TR rfl rfl (by decide) g_47 rfl rfl d_TR_pieces_32 ?_
          refine rx_iload_n C 3 rfl d_TR_pieces_35 ?_
          refine rx_zald C 3 rfl (by decide) (k) (rfl) (by omega) d_TR_pieces_36 ?_
          refine rx_if_ne C d_TR_pieces_37 (fun c37 => ?_) (fun c37 => ?_)
          · skip
            refine rx_iinc C 3 rfl (nI (k + 1)) (nI_add _ _) (Nat.le_of_ble_eq_true rfl) [1, 2, 3, 0] (lv' := [(0, .ref (a 0)), (1, .int (v)), (2, .int (nI (N))), (3, .int (nI (k + 1)))]) rfl d_TR_pieces_49 ?_
            refine rx_goto C d_TR_pieces_52 ?_
            exact ih (k + 1) N sk sq (by omega) (by omega) ⟨_, _, hR, Or.inr ⟨fun q => q.2 c37, fun _ _ => Iff.rfl, rfl⟩⟩ hC
          · skip
            refine rx_iinc C 2 rfl (nI (N + 1)) (nI_add _ _) (Nat.le_of_ble_eq_true rfl) [1, 2, 0, 3] (lv' := [(0, .ref (a 0)), (1, .int (v)), (2, .int (nI (N + 1))), (3, .int (nI (k)))]) rfl d_TR_pieces_40 ?_
            refine rx_aload_n C 0 rfl d_TR_pieces_43 ?_
            refine rx_iload_n C 3 rfl d_TR_pieces_44 ?_
            refine rx_callVi C (c_TR_spread l D ta w h a col sk sq k hw0 hw hh (by omega) c37 (by rw [c28]; exact hC)) cw_TR_114 ⟨rfl, rfl, by decide, by decide⟩ rfl [0, 1, 2, 3] rfl rfl (q0 := 0) rfl rfl rfl [] rfl (Nat.le_of_ble_eq_true rfl) (fun _ => rfl) d_TR_pieces_45 (fun r2 u2 h2 => ?_)
            refine rx_ws (ws' := [(a 0, oTR w h a), (a 2, cI ta 576 (col)), (a 4, cS ta 576 (u2.1)), (a 5, cZ ta 576 (u2.2))]) ?_ rfl
            obtain ⟨N2, -, hL, -⟩ := h2
            rw [c28] at hL
            refine rx_pop C rfl d_TR_pieces_48 ?_
            refine rx_iinc C 3 rfl (nI (k + 1)) (nI_add _ _) (Nat.le_of_ble_eq_true rfl) [1, 2, 3, 0] (lv' := [(0, .ref (a 0)), (1, .int (v)), (2, .int (nI (N + 1))), (3, .int (nI (k + 1)))]) rfl d_TR_pieces_49 ?_
            refine rx_goto C d_TR_pieces_52 ?_
            exact ih (k + 1) (N + 1) _ _ (by omega) (by omega) ⟨_, _, hR, Or.inl ⟨c28, fun q => q c37, hL, rfl⟩⟩ hL.2.2.1
  have z0 : ∀ k, k < w * h → ¬ nz u1 k := fun k hk q => q (h1 k hk)
  exact loop _ 0 0 stk u1 (Nat.lt_succ_self _) (Nat.zero_le _) ⟨z0, rfl⟩ (fun i j hi hj q => absurd q (z0 i hi))
set_option maxHeartbeats 4000000 in
set_option maxRecDepth 100000 in
theorem c_TM_pieces (l : Launch) (D : va_G) (ta : Nat → ClassId) (w h : Nat) (a : Nat → Nat) (col mk : Nat → Int32) (v : Int32) (hw0 : 0 < w) (hw : w ≤ 24) (hh : h ≤ 24) : Cti l y_TM_pieces b_TM_pieces 5 .int rm_TM_pieces D ta [.ref (a 0), .int (v)] [(a 0, oTM w h a), (a 2, cI ta 576 (col)), (a 7, cZ ta 576 (mk))] (fun u : Nat → Int32 => [(a 0, oTM w h a), (a 2, cI ta 576 (col)), (a 7, cZ ta 576 (u))]) (fun r u => ∃ S N, pcR w h (fun k => col (mx w k)) v (w * h) S N ∧ r = nI N) := by
  have hwh : w * h ≤ 576 := Nat.mul_le_mul hw hh
  refine start_i rfl (Nat.le_of_ble_eq_true rfl) (fun G C hret => ?_)
  show G 0 [(0, .ref (a 0)), (1, .int (v))] [] [(a 0, oTM w h a), (a 2, cI ta 576 (col)), (a 7, cZ ta 576 (mk))]
  refine rx_aload_n C 0 rfl d_TM_pieces_0 ?_
  refine rx_callVv C (c_TM_unmark l D ta w h a mk hw hh) cw_TM_78 ⟨rfl, rfl, by decide, by decide⟩ rfl [0, 2] rfl rfl (q0 := 0) rfl rfl rfl [] rfl (Nat.le_of_ble_eq_true rfl) (fun _ => rfl) d_TM_pieces_1 (fun u1 h1 => ?_)
  refine rx_ws (ws' := [(a 0, oTM w h a), (a 2, cI ta 576 (col)), (a 7, cZ ta 576 (u1))]) ?_ rfl
  refine rx_iconst C (nI 0) (by decide) d_TM_pieces_4 ?_
  refine rx_istore_n C (Nat.le_of_ble_eq_true rfl) [1, 2, 0] (lv' := [(0, .ref (a 0)), (1, .int (v)), (2, .int (nI (0)))]) rfl d_TM_pieces_5 ?_
  refine rx_iconst C (nI 0) (by decide) d_TM_pieces_6 ?_
  refine rx_istore_n C (Nat.le_of_ble_eq_true rfl) [1, 2, 3, 0] (lv' := [(0, .ref (a 0)), (1, .int (v)), (2, .int (nI (0))), (3, .int (nI (0)))]) rfl d_TM_pieces_7 ?_
  have loop : ∀ (n : Nat) (y N : Nat) (m9 : Nat → Int32), h - y < n → (y ≤ h) → (pcR w h (fun k => col (mx w k)) v (w * y) (nz (fun k => m9 (mx w k))) (N)) → G 8 [(0, .ref (a 0)), (1, .int (v)), (2, .int (nI (N))), (3, .int (nI (y)))] [] [(a 0, oTM w h a), (a 2, cI ta 576 (col)), (a 7, cZ ta 576 (m9))] := by
    intro n
    induction n with
    | zero => intro y N m9 hm; exact absurd hm (Nat.not_lt_zero _)
    | succ n ih =>
      intro y N m9 hm hy hR
      refine rx_iload_n C 3 rfl d_TM_pieces_8 ?_
      refine rx_aload_n C 0 rfl d_TM_pieces_9 ?_
      refine rx_get C 0 1 i_TM rfl rfl (by decide) g_189 rfl rfl d_TM_pieces_10 ?_
      refine rx_icmp_geN C (by omega) (by omega) d_TM_pieces_13 (fun c13 => ?_) (fun c13 => ?_)
      · skip
        refine rx_iload_n C 2 rfl d_TM_pieces_82 ?_
        obtain rfl : h = y := by omega
        exact hret _ _ _ _ m9 d_TM_pieces_83 (rfl) (⟨_, N, hR, rfl⟩)
      · skip
        refine rx_iconst C (nI 0) (by decide) d_TM_pieces_16 ?_
        refine rx_istore C (Nat.le_of_ble_eq_true rfl) [1, 2, 3, 4, 0] (lv' := [(0, .ref (a 0)), (1, .int (v)), (2, .int (nI (N))), (3, .int (nI (y))), (4, .int (nI (0)))]) rfl d_TM_pieces_17 ?_
        have loop2 : ∀ (n2 : Nat) (x N2 : Nat) (m8 : Nat → Int32), w - x < n2 → (x ≤ w) → (pcR w h (fun k => col (mx w k)) v (w * y + x) (nz (fun k => m8 (mx w k))) (N2)) → G 19 [(0, .ref (a 0)), (1, .int (v)), (2, .int (nI (N2))), (3, .int (nI (y))), (4, .int (nI (x)))] [] [(a 0, oTM w h a), (a 2, cI ta 576 (col)), (a 7, cZ ta 576 (m8))] := by
          intro n2
          induction n2 with
          | zero => intro x N2 m8 hm; exact absurd hm (Nat.not_lt_zero _)
          | succ n2 ih2 =>
            intro x N2 m8 hm2 hx hT
            refine rx_iload C 4 rfl d_TM_pieces_19 ?_
            refine rx_aload_n C 0 rfl d_TM_pieces_21 ?_
            refine rx_get C 0 0 i_TM rfl rfl (by decide) g_188 rfl rfl d_TM_pieces_22 ?_
            refine rx_icmp_geN C (by omega) (by omega) d_TM_pieces_25 (fun c25 => ?_) (fun c25 => ?_)
            · skip
              obtain rfl : w = x := by omega
              show G 76 [(0, .ref (a 0)), (1, .int (v)), (2, .int (nI (N2))), (3, .int (nI (y))), (4, .int (nI (w)))] [] [(a 0, oTM w h a), (a 2, cI ta 576 (col)), (a 7, cZ ta 576 (m8))]
              refine rx_iinc C 3 rfl (nI (y + 1)) (nI_add _ _) (Nat.le_of_ble_eq_true rfl) [1, 2, 3, 0, 4] (lv' := [(0, .ref (a 0)), (1, .int (v)), (2, .int (nI (N2))), (3, .int (nI (y + 1))), (4, .int (nI (w)))]) rfl d_TM_pieces_76 ?_
              refine rx_goto C d_TM_pieces_79 ?_
              rw [← Nat.mul_succ] at hT
              exact rx_lv C [0, 1, 2, 3] rfl (ih (y + 1) N2 m8 (by omega) (by omega) hT)
            · skip
              have hmx : mx w (w * y + x) = 24 * y + x := mx_eq y c25
              refine rx_aload_n C 0 rfl d_TM_pieces_28 ?_
              refine rx_get C 0 2 i_TM rfl rfl (by decide) g_190 rfl rfl d_TM_pieces_29 ?_
              refine rx_bipush C (nI 24) (by decide) d_TM_pieces_32 ?_
              refine rx_iload_n C 3 rfl d_TM_pieces_34 ?_
              refine rx_imulN C d_TM_pieces_35 ?_
              refine rx_iload C 4 rfl d_TM_pieces_36 ?_
              refine rx_iaddN C d_TM_pieces_38 ?_
              refine rx_iald C 1 rfl (by decide) ((24 * y) + x) (rfl) (by omega) d_TM_pieces_39 ?_
              refine rx_iload_n C 1 rfl d_TM_pieces_40 ?_
              refine rx_icmp_ne C d_TM_pieces_41 (fun c41 => ?_) (fun c41 => ?_)
              · skip
                refine rx_iinc C 4 rfl (nI (x + 1)) (nI_add _ _) (Nat.le_of_ble_eq_true rfl) [1, 2, 3, 4, 0] (lv' := [(0, .ref (a 0)), (1, .int (v)), (2, .int (nI (N2))), (3, .int (nI (y))), (4, .int (nI (x + 1)))]) rfl d_TM_pieces_70 ?_
                refine rx_goto C d_TM_pieces_73 ?_
                exact ih2 (x + 1) N2 m8 (by omega) (by omega) ⟨_, _, hT, Or.inr ⟨fun q => c41 (by rw [← hmx]; exact q.1), fun _ _ => Iff.rfl, rfl⟩⟩
              · skip
                refine rx_aload_n C 0 rfl d_TM_pieces_44 ?_
                refine rx_get C 0 7 i_TM rfl rfl (by decide) g_195 rfl rfl d_TM_pieces_45 ?_
                refine rx_bipush C (nI 24) (by decide) d_TM_pieces_48 ?_
                refine rx_iload_n C 3 rfl d_TM_pieces_50 ?_
                refine rx_imulN C d_TM_pieces_51 ?_
                refine rx_iload C 4 rfl d_TM_pieces_52 ?_
                refine rx_iaddN C d_TM_pieces_54 ?_
                refine rx_zald C 2 rfl (by decide) ((24 * y) + x) (rfl) (by omega) d_TM_pieces_55 ?_
                refine rx_if_ne C d_TM_pieces_56 (fun c56 => ?_) (fun c56 => ?_)
                · skip
                  refine rx_iinc C 4 rfl (nI (x + 1)) (nI_add _ _) (Nat.le_of_ble_eq_true rfl) [1, 2, 3, 4, 0] (lv' := [(0, .ref (a 0)), (1, .int (v)), (2, .int (nI (N2))), (3, .int (nI (y))), (4, .int (nI (x + 1)))]) rfl d_TM_pieces_70 ?_
                  refine rx_goto C d_TM_pieces_73 ?_
                  exact ih2 (x + 1) N2 m8 (by omega) (by omega) ⟨_, _, hT, Or.inr ⟨fun q => q.2 (by show ¬ m8 (mx w (w * y + x)) = 0; rw [hmx]; exact c56), fun _ _ => Iff.rfl, rfl⟩⟩
                · skip
                  refine rx_aload_n C 0 rfl d_TM_pieces_59 ?_
                  refine rx_iload C 4 rfl d_TM_pieces_60 ?_
                  refine rx_iload_n C 3 rfl d_TM_pieces_62 ?_
                  refine rx_callVi C (c_TM_mark l D ta w h a col m8 x y hw0 hw hh c25 c13) cw_TM_81 ⟨rfl, rfl, by decide, by decide⟩ rfl [0, 1, 2] rfl rfl (q0 := 0) rfl rfl rfl [] rfl (Nat.le_of_ble_eq_true rfl) (fun _ => rfl) d_TM_pieces_63 (fun r2 u2 h2 => ?_)
                  refine rx_ws (ws' := [(a 0, oTM w h a), (a 2, cI ta 576 (col)), (a 7, cZ ta 576 (u2))]) ?_ rfl
                  obtain ⟨N3, -, hL, -⟩ := h2
                  rw [c41] at hL
                  refine rx_pop C rfl d_TM_pieces_66 ?_
                  refine rx_iinc C 2 rfl (nI (N2 + 1)) (nI_add _ _) (Nat.le_of_ble_eq_true rfl) [1, 2, 0, 3, 4] (lv' := [(0, .ref (a 0)), (1, .int (v)), (2, .int (nI (N2 + 1))), (3, .int (nI (y))), (4, .int (nI (x)))]) rfl d_TM_pieces_67 ?_
                  refine rx_iinc C 4 rfl (nI (x + 1)) (nI_add _ _) (Nat.le_of_ble_eq_true rfl) [1, 2, 3, 4, 0] (lv' := [(0, .ref (a 0)), (1, .int (v)), (2, .int (nI (N2 + 1))), (3, .int (nI (y))), (4, .int (nI (x + 1)))]) rfl d_TM_pieces_70 ?_
                  refine rx_goto C d_TM_pieces_73 ?_
                  exact ih2 (x + 1) (N2 + 1) _ (by omega) (by omega) ⟨_, _, hT, Or.inl ⟨by show col (mx w (w * y + x)) = v; rw [hmx]; exact c41, fun q => q (by show m8 (mx w (w * y + x)) = 0; rw [hmx]; exact c56), hL, rfl⟩⟩
        exact loop2 _ 0 N m9 (Nat.lt_succ_self _) (Nat.zero_le _) hR
  exact loop _ 0 0 u1 (Nat.lt_succ_self _) (Nat.zero_le _) ⟨fun k hk q => q (h1 _ (mx_lt hw0 hw hh hk)), rfl⟩
end
section
/-! ===== methods that make cells: the constructors ===== -/
abbrev GN : Type := Nat → Nat → GT
abbrev nestW : Cond := .methodLinkNest "TriangleRaster" 50 y_Ed_init "TriangleRaster"
def CXN (l : Launch) (cc : ByteArray) (nL : Nat) (own : String) (R : Room) (D : va_G) (ta : Nat → ClassId) (G : GN) : Prop :=
  ∃ (p : Program) (e : Env) (s : State) (m : MethodId) (args : Array Value) (below : List Frame) (meth : Method) (c : Code) (A : Nat → Prop) (H0 : Heap) (Q : State → Prop),
    p.tables.exec = Jvm.exec ∧ c.code = cc ∧ c.maxLocals = nL ∧ s.vm.findClass own = some m.cls ∧ (∀ w ∈ gw, w.before args s = true) ∧ va_K D cls3 (tys ta) s ∧ meth.name = "<init>" ∧ (∀ q, H0.size ≤ q → A q) ∧ va_Nw nestW s ∧ va_AO "TriangleRaster$Edge" s ∧
    G = fun ck cs pc lv st ws => ∀ (ls : Array Slot) (H : Heap) (locs : List Loc), lv_has ls nL lv → va_P D cls3 ws H → va_D A ws → va_S A H0 H locs → W p l e R s m args below meth c H locs ck cs Q (F0 m pc ls st)
theorem CXN.at {l : Launch} {cc : ByteArray} {nL : Nat} {own : String} {R : Room} {D : va_G} {ta : Nat → ClassId} {G : GN} {ck cs : Nat} (C : CXN l cc nL own R D ta G) (h1 : ck ≤ R.cells) (h2 : cs ≤ R.slots) : CX l cc nL own R D ta (G ck cs) := by
  obtain ⟨p, e, s, m, args, below, meth, c, A, H0, Q, hx, hb, hml, ho, hts, hK, -, -, -, -, rfl⟩ := C
  exact ⟨p, e, s, m, args, below, meth, c, A, H0, Q, ck, cs, hx, hb, hml, ho, hts, hK, h1, h2, rfl⟩
theorem ra_eq {s : State} {cA cB : ClassId} {ty : FieldType} (hty : ∀ C, ty ≠ .object C) (h1 : va_RA s cA ty) (h2 : va_RA s cB ty) : cA = cB := by
  cases ty with
  | object C => exact absurd rfl (hty C)
  | _ => exact Option.some.inj (Eq.trans (Eq.symm h1) h2)
section NX
variable {l : Launch} {cc : ByteArray} {nL : Nat} {own : String} {R : Room} {D : va_G} {ta : Nat → ClassId} {G : GN} {pc pc' ck cs ck' cs' : Nat} {lv : List (Nat × Value)} {st : List Value} {ws ws' : va_W}
theorem nx_new_int (C : CXN l cc nL own R D ta G) (N : Nat) (hN : N ≤ 1000) (h1 : ck + 1 = ck') (h2 : cs + N = cs') (hR : ck' ≤ R.cells ∧ cs' ≤ R.slots) (hd : Dc cc pc (.newarray .int) 2 pc') (k : ∀ q : Nat, G ck' cs' pc' lv (.ref q :: st) (ws ++ [(q, .inl (ta 0, N, .inl (fun _ => 0)))])) : G ck cs pc lv (.int (nI N) :: st) ws := by
  obtain ⟨p, e, s, m, args, below, meth, c, A, H0, Q, hx, hb, hml, ho, hts, hK, hin, hA, hnw, hao, rfl⟩ := C
  obtain ⟨hd, rfl⟩ := hd
  subst h1; subst h2
  refine fun ls H locs hl hP hD hS => va_newa (atype := .int) (ty := .int) (a0 := (N, .inl (fun _ => 0))) hx hb (hts _ g_38) rfl hK hP hD hS hA (fun _ => rfl) (nI_pos (by omega)) (nI_clamp (by omega)) (by have h4 : componentBytes .int ≤ 4 := (by decide); exact Nat.le_trans (Nat.mul_le_mul hN h4) (by decide)) hR.1 hR.2 hd (fun q cA H1 hK1 hP1 hD1 hS1 => ?_)
  have e1 : cA = ta 0 := ra_eq (fun C h => by cases h) (hK1.2 5 (cA, .int) rfl).2 (hK.2 0 (ta 0, .int) rfl).2
  rw [e1] at hP1 hD1
  exact k q ls H1 locs hl hP1 hD1 hS1
theorem nx_new_char (C : CXN l cc nL own R D ta G) (N : Nat) (hN : N ≤ 1000) (h1 : ck + 1 = ck') (h2 : cs + N = cs') (hR : ck' ≤ R.cells ∧ cs' ≤ R.slots) (hd : Dc cc pc (.newarray .char) 2 pc') (k : ∀ q : Nat, G ck' cs' pc' lv (.ref q :: st) (ws ++ [(q, .inl (ta 1, N, .inl (fun _ => 0)))])) : G ck cs pc lv (.int (nI N) :: st) ws := by
  obtain ⟨p, e, s, m, args, below, meth, c, A, H0, Q, hx, hb, hml, ho, hts, hK, hin, hA, hnw, hao, rfl⟩ := C
  obtain ⟨hd, rfl⟩ := hd
  subst h1; subst h2
  refine fun ls H locs hl hP hD hS => va_newa (atype := .char) (ty := .char) (a0 := (N, .inl (fun _ => 0))) hx hb (hts _ g_39) rfl hK hP hD hS hA (fun _ => rfl) (nI_pos (by omega)) (nI_clamp (by omega)) (by have h4 : componentBytes .char ≤ 4 := (by decide); exact Nat.le_trans (Nat.mul_le_mul hN h4) (by decide)) hR.1 hR.2 hd (fun q cA H1 hK1 hP1 hD1 hS1 => ?_)
  have e1 : cA = ta 1 := ra_eq (fun C h => by cases h) (hK1.2 5 (cA, .char) rfl).2 (hK.2 1 (ta 1, .char) rfl).2
  rw [e1] at hP1 hD1
  exact k q ls H1 locs hl hP1 hD1 hS1
theorem nx_new_short (C : CXN l cc nL own R D ta G) (N : Nat) (hN : N ≤ 1000) (h1 : ck + 1 = ck') (h2 : cs + N = cs') (hR : ck' ≤ R.cells ∧ cs' ≤ R.slots) (hd : Dc cc pc (.newarray .short) 2 pc') (k : ∀ q : Nat, G ck' cs' pc' lv (.ref q :: st) (ws ++ [(q, .inl (ta 2, N, .inl (fun _ => 0)))])) : G ck cs pc lv (.int (nI N) :: st) ws := by
  obtain ⟨p, e, s, m, args, below, meth, c, A, H0, Q, hx, hb, hml, ho, hts, hK, hin, hA, hnw, hao, rfl⟩ := C
  obtain ⟨hd, rfl⟩ := hd
  subst h1; subst h2
  refine fun ls H locs hl hP hD hS => va_newa (atype := .short) (ty := .short) (a0 := (N, .inl (fun _ => 0))) hx hb (hts _ g_40) rfl hK hP hD hS hA (fun _ => rfl) (nI_pos (by omega)) (nI_clamp (by omega)) (by have h4 : componentBytes .short ≤ 4 := (by decide); exact Nat.le_trans (Nat.mul_le_mul hN h4) (by decide)) hR.1 hR.2 hd (fun q cA H1 hK1 hP1 hD1 hS1 => ?_)
  have e1 : cA = ta 2 := ra_eq (fun C h => by cases h) (hK1.2 5 (cA, .short) rfl).2 (hK.2 2 (ta 2, .short) rfl).2
  rw [e1] at hP1 hD1
  exact k q ls H1 locs hl hP1 hD1 hS1
theorem nx_new_boolean (C : CXN l cc nL own R D ta G) (N : Nat) (hN : N ≤ 1000) (h1 : ck + 1 = ck') (h2 : cs + N = cs') (hR : ck' ≤ R.cells ∧ cs' ≤ R.slots) (hd : Dc cc pc (.newarray .boolean) 2 pc') (k : ∀ q : Nat, G ck' cs' pc' lv (.ref q :: st) (ws ++ [(q, .inl (ta 3, N, .inl (fun _ => 0)))])) : G ck cs pc lv (.int (nI N) :: st) ws := by
  obtain ⟨p, e, s, m, args, below, meth, c, A, H0, Q, hx, hb, hml, ho, hts, hK, hin, hA, hnw, hao, rfl⟩ := C
  obtain ⟨hd, rfl⟩ := hd
  subst h1; subst h2
  refine fun ls H locs hl hP hD hS => va_newa (atype := .boolean) (ty := .boolean) (a0 := (N, .inl (fun _ => 0))) hx hb (hts _ g_41) rfl hK hP hD hS hA (fun _ => rfl) (nI_pos (by omega)) (nI_clamp (by omega)) (by have h4 : componentBytes .boolean ≤ 4 := (by decide); exact Nat.le_trans (Nat.mul_le_mul hN h4) (by decide)) hR.1 hR.2 hd (fun q cA H1 hK1 hP1 hD1 hS1 => ?_)
  have e1 : cA = ta 3 := ra_eq (fun C h => by cases h) (hK1.2 5 (cA, .boolean) rfl).2 (hK.2 3 (ta 3, .boolean) rfl).2
  rw [e1] at hP1 hD1
  exact k q ls H1 locs hl hP1 hD1 hS1
theorem nx_newq (C : CXN l cc nL own R D ta G) {idx : Nat} (N : Nat) (hw : Cond.classLink own idx "TriangleRaster$Edge" ∈ gw) (hN : N ≤ 1000) (h1 : ck + 1 = ck') (h2 : cs + N = cs') (hR : ck' ≤ R.cells ∧ cs' ≤ R.slots) (hd : Dc cc pc (.anewarray idx) 3 pc') (k : ∀ q : Nat, G ck' cs' pc' lv (.ref q :: st) (ws ++ [(q, .inl (ta 4, N, .inr (.inr (.inr (.inr (fun _ => none))))))])) : G ck cs pc lv (.int (nI N) :: st) ws := by
  obtain ⟨p, e, s, m, args, below, meth, c, A, H0, Q, hx, hb, hml, ho, hts, hK, hin, hA, hnw, hao, rfl⟩ := C
  obtain ⟨hd, rfl⟩ := hd
  subst h1; subst h2
  refine fun ls H locs hl hP hD hS => va_newq hx hb ho (hts _ hw) hao hK hP hD hS hA (nI_pos (by omega)) (nI_clamp (by omega)) (by omega) hR.1 hR.2 hd (fun q cA H1 hK1 hP1 hD1 hS1 => ?_)
  have e1 : cA = ta 4 := by
    obtain ⟨-, -, -, -, -, h1⟩ := (hK1.2 5 (cA, .object "TriangleRaster$Edge") rfl).2
    obtain ⟨-, -, -, -, -, h2⟩ := (hK.2 4 (ta 4, .object "TriangleRaster$Edge") rfl).2
    exact Option.some.inj (Eq.trans (Eq.symm h1) h2)
  rw [e1] at hP1 hD1
  exact k q ls H1 locs hl hP1 hD1 hS1
theorem nx_newE (C : CXN l cc nL own R D ta G) {idx : Nat} (hw : Cond.classLink own idx "TriangleRaster$Edge" ∈ gw) (h1 : ck + 1 = ck') (h2 : cs + 5 = cs') (hR : ck' ≤ R.cells ∧ cs' ≤ R.slots) (hd : Dc cc pc (.new idx) 3 pc') (k : ∀ q : Nat, G ck' cs' pc' lv (.ref q :: st) (ws ++ [(q, oEd 0 0 0 0 0)])) : G ck cs pc lv st ws := by
  obtain ⟨p, e, s, m, args, below, meth, c, A, H0, Q, hx, hb, hml, ho, hts, hK, hin, hA, hnw, hao, rfl⟩ := C
  obtain ⟨hd, rfl⟩ := hd
  subst h1; subst h2
  exact fun ls H locs hl hP hD hS => va_new (ci := 1) (fs := [.long 0, .long 0, .long 0, .long 0, .int 0]) (C := R_Ed) (T := F_Ed) (N := 5) hx hb hts i_Ed t_Ed t_Ed_ok ho (hts _ hw) (hts _ g_16) (hts _ g_2) hK hP hD hS hA rfl (fun j hj => by rcases (show j = 0 ∨ j = 1 ∨ j = 2 ∨ j = 3 ∨ j = 4 by omega) with rfl | rfl | rfl | rfl | rfl <;> rfl) hR.1 hR.2 hd (fun q H1 hP1 hD1 hS1 => k q ls H1 locs hl hP1 hD1 hS1)
theorem nx_putF (C : CXN l cc nL own R D ta G) {a ci index N : Nat} {Cn : String} {T : u_T} (q0 kf : Nat) {fs : List Value} {v : Value} (hin : ∀ w ∈ u_ws Cn T N, w ∈ gw) (ty0 : Nat → FieldType) (hty : ∀ k, k < N → parseFieldDescriptor (T k).2.2.1 = some (ty0 k)) (hnm : ∀ a, a < N → ∀ b, b < N → a ≠ b → (T a).2.1 ≠ (T b).2.1) (he : ws[q0]? = some (a, .inr (ci, fs))) (hc : cls3[ci]? = some (Cn, T, N)) (hk : kf < N) (hw : Cond.fieldLink own index own (T kf).2.1 (T kf).2.2.1 ∈ gw) (hrf : (T kf).1 = own) (hfin : (T kf).2.2.2 = true) (hn : narrow (ty0 kf) v = v) (hfit : fits (ty0 kf) v = true) (hln : kf < fs.length) (hws : ws.set q0 (a, .inr (ci, fs.set kf v)) = ws') (hd : Dc cc pc (.putfield index) 3 pc') (k : G ck cs pc' lv st ws') : G ck cs pc lv (v :: .ref a :: st) ws := by
  obtain ⟨p, e, s, m, args, below, meth, c, A, H0, Q, hx, hb, hml, ho, hts, hK, hini, hA, hnw, hao, rfl⟩ := C
  obtain ⟨hd, rfl⟩ := hd
  subst hws
  exact fun ls H locs hl hP hD hS => va_putF hx hb hts hin ty0 hty hnm ho hK hP hD hS q0 he hc kf hk (hts _ hw) (fun _ h9 => by rw [← hrf]; exact h9) hfin hini hrf (hty kf hk) hn hfit hln hd (fun H1 locs1 hP1 hD1 hS1 => k ls H1 locs1 hl hP1 hD1 hS1)
theorem nx_aast (C : CXN l cc nL own R D ta G) {a n b : Nat} {f : Nat → Option Nat} {vs : List Value} (q0 qk : Nat) (he : ws[q0]? = some (a, .inl (ta 4, n, .inr (.inr (.inr (.inr f)))))) (hv : ws[qk]? = some (b, .inr (1, vs))) (hN : n ≤ 1000) {i : Int32} (j : Nat) (hi : i = nI j) (hj : j < n) (hws : ws.set q0 (a, .inl (ta 4, n, .inr (.inr (.inr (.inr (va_up f j (some b))))))) = ws') (hd : Dc cc pc .aastore 1 pc') (k : G ck cs pc' lv st ws') : G ck cs pc lv (.ref b :: .int i :: .ref a :: st) ws := by
  obtain ⟨p, e, s, m, args, below, meth, c, A, H0, Q, hx, hb, hml, ho, hts, hK, hin, hA, hnw, hao, rfl⟩ := C
  obtain ⟨hd, rfl⟩ := hd
  subst hi; subst hws
  have hj31 : j < 2 ^ 31 := by omega
  refine fun ls H locs hl hP hD hS => va_astq (r := (R_Ed, F_Ed, 5)) hx hb hK hP hD hS q0 4 qk 1 he rfl hv rfl (vp_in_nI hj (by omega)) hd (fun H1 locs1 hP1 hD1 hS1 => ?_)
  rw [nI_clamp hj31] at hP1 hD1
  exact k ls H1 locs1 hl hP1 hD1 hS1
theorem nx_EdI (C : CXN l cc nL "TriangleRaster" R D ta G) {b : Nat} {now rt dn bg : Int64} {lsv : Int32} (q0 : Nat) (he : ws[q0]? = some (b, oEd now rt dn bg lsv)) (hR : 2 ≤ R.frames ∧ 8 + (1 + 11) + 20 ≤ R.locals) (hck : ck ≤ R.cells ∧ cs ≤ R.slots) (hrest : (st.map fun v => v.category).sum ≤ 8) (hd : Dc cc pc (.invokespecial 50) 3 pc') (k : G ck cs pc' lv st ws) : G ck cs pc lv (.ref b :: st) ws := by
  obtain ⟨p, e, s, m, args, below, meth, c, A, H0, Q, hx, hb, hml, ho, hts, hK, hin, hA, hnw, hao, rfl⟩ := C
  obtain ⟨hd, rfl⟩ := hd
  intro ls H locs hl hP hD hS
  have hC : [q0].map (fun i => ws[i]?) = [(b, oEd now rt dn bg lsv)].map some := by simp [he]
  have hPc := cut_P hP hC
  have hDc := hD.sub [q0] (by simp [va_nd]) hC
  have hAc := cut_A hD hC
  refine va_callv (va_runIN (As := []) (rest := st) ⟨hx, hb, hml, ho, hts⟩ (c_Ed_init l D ta b now rt dn bg lsv) ⟨va_cnB 0 hts (gw_code g_19) rfl rfl rfl hnw (hts _ g_2) ⟨by decide, by decide, by decide +kernel⟩ hR, rfl, hts _ g_18⟩ ⟨PreC.blind, fun U hU hW => ⟨rfl, by rw [hU]; exact hPc, va_K.moved hW.alike hK, hDc.weaken (fun _ _ _ _ => trivial)⟩⟩ rfl rfl hl.1 rfl (lv_room hrest) hd hck) hS (fun q _ h => hAc q h) hAc (fun u t H1 locs1 ht hvm hp hB hz hk hS1 => ?_)
  have hB : va_P D cls3 [(b, oEd now rt dn bg lsv)] t.heap := hB
  rw [ht] at hB
  obtain ⟨hP2, hD2⟩ := all_join hP hD hC rfl hk hB
  have hws : setAll ws [q0] [(b, oEd now rt dn bg lsv)] = ws := by
    show ws.set q0 _ = ws
    apply List.ext_getElem?
    intro j
    by_cases hj : q0 = j
    · subst hj
      rw [List.getElem?_set_self (List.getElem?_eq_some_iff.mp he).1, he]
    · rw [List.getElem?_set_ne hj]
  rw [hws] at hP2 hD2
  exact k ls H1 locs1 hl hP2 hD2 hS1
end NX
def PreN (D : va_G) (ta : Nat → ClassId) (sz : Nat) (wc : va_W) (av : List Value) : Array Value → State → Prop := va_Pc av (fun U => U.heap.size = sz ∧ va_P D cls3 wc U.heap ∧ va_K D cls3 (tys ta) U ∧ va_D (fun _ => True) wc ∧ va_Nw nestW U ∧ va_AO "TriangleRaster$Edge" U)
theorem PreN.blind {D : va_G} {ta : Nat → ClassId} {sz : Nat} {wc : va_W} {av : List Value} : FrameBlind (PreN D ta sz wc av) := fun a U g mk q => by
  obtain ⟨q0, qs, qP, qK, qD, qn, qa⟩ := q
  exact ⟨q0, qs, qP, va_K.moved (u := U) (U := U.calling g mk a) (Vm.Alike.refl U.vm) qK, qD, va_Nw.same rfl (u := U) rfl qn, va_AO.moved (u := U) (U := U.calling g mk a) (Vm.Alike.refl U.vm) qa⟩
def Ctn (l : Launch) (y : MethodName) (cc : ByteArray) (nL : Nat) (rm : Room) (D : va_G) (ta : Nat → ClassId) (sz : Nat) (av : List Value) (wc : va_W) {S : Type} (wf : S → va_W) (post : S → Prop) (mc ms : Nat) : Prop := Met l y (.code y cc nL none :: gw) rm (PreN D ta sz wc av) (va_Qv post (fun u t => va_P D cls3 (wf u) t.heap ∧ va_D (va_A wc sz) (wf u)) (va_A wc sz)) mc ms (va_A wc sz)
theorem start_n {l : Launch} {y : MethodName} {cc : ByteArray} {nL mc ms sz : Nat} {rm : Room} {D : va_G} {ta : Nat → ClassId} {av : List Value} {wc : va_W} {S : Type} {wf : S → va_W} {post : S → Prop} (hy : plainName y.cls = true) (hyn : y.name = "<init>") (hn : (lg_sl av).length ≤ nL)
    (body : ∀ G : GN, CXN l cc nL y.cls rm D ta G → (∀ (pc pc' : Nat) (lv : List (Nat × Value)) (u : S), Dc cc pc .return_ 1 pc' → post u → G mc ms pc lv [] (wf u)) → G 0 0 0 (lv_args 0 av) [] wc) : Ctn l y cc nL rm D ta sz av wc wf post mc ms := by
  refine Met.ofW (cc := cc) (maxL := nL) (ret := none) hy rfl ?_
  intro p e s m args below meth c s₁ B hml hv
  obtain ⟨rfl, hsz, hP0, hK, hD0, hnw, hao⟩ := hv
  have hx := B.exec
  have hb := B.bytes
  have hr := B.returns
  have hts := atoms_spec B.pre
  have hown : s.vm.findClass y.cls = some m.cls := findClass_of_methodNamed B.named
  have hin : meth.name = "<init>" := (name_of_methodNamed B.named B.method).1.trans hyn
  have hlocks := B.notSynchronized
  subst hsz
  rw [lg_entry_eq]
  refine body _ ⟨p, e, s, m, _, below, meth, c, va_A wc s.heap.size, s.heap, _, hx, hb, hml, hown, fun w hw => hts w (List.mem_cons_of_mem _ hw), hK, hin, fun q hq => Or.inr hq, hnw, hao, rfl⟩ ?_ _ _ [] (lv_entry av hn) hP0 hD0.self va_S.rf
  intro pc pc' lv u hd hp ls H locs hl hP hD hS
  exact W.vret hx hb hr (fun t ht hW => ⟨⟨u, rfl, hp, by rw [ht]; exact hP, hD⟩, hS.F ht⟩) hS.2.2 hd.1
def clN (w : Int32) : Nat := if ¬ w < nI 1 ∧ ¬ nI 24 < w then w.toNatClampNeg else 1
theorem clN_in {w : Int32} (h1 : ¬ w < nI 1) (h2 : ¬ nI 24 < w) : w = nI (clN w) := by
  unfold clN
  rw [if_pos ⟨h1, h2⟩]
  have h0 : ¬ w < 0 := fun q => h1 (Int32.lt_iff_toInt_lt.mpr (by have := Int32.lt_iff_toInt_lt.mp q; have e : (0 : Int32).toInt = 0 := rfl; have e1 : (nI 1).toInt = 1 := rfl; omega))
  obtain ⟨j, hj, rfl⟩ := nI_of h0
  rw [nI_clamp hj]
theorem clN_o1 {w : Int32} (h1 : w < nI 1) : nI 1 = nI (clN w) := by unfold clN; rw [if_neg (fun q => q.1 h1)]
theorem clN_o2 {w : Int32} (h1 : nI 24 < w) : nI 1 = nI (clN w) := by unfold clN; rw [if_neg (fun q => q.2 h1)]
theorem clN_le (w : Int32) : 0 < clN w ∧ clN w ≤ 24 := by
  unfold clN
  split
  · rename_i h
    obtain ⟨h1, h2⟩ := h
    have a1 := mt Int32.lt_iff_toInt_lt.mpr h1
    have a2 := mt Int32.lt_iff_toInt_lt.mpr h2
    have e1 : (nI 1).toInt = 1 := rfl
    have e2 : (nI 24).toInt = 24 := rfl
    have : w.toNatClampNeg = w.toInt.toNat := rfl
    omega
  · omega
def adr (l : List Nat) : Nat → Nat := fun k => l.getD k 0
/-- all cells of a raster -/
def RW (ta : Nat → ClassId) (w h : Nat) (a : Nat → Nat) (col dep stk sn xs ys zs od : Nat → Int32) (e0 e1 e2 : va_E) : va_W := [(a 0, oTR w h a), (a 2, cI ta 576 col), (a 3, cC ta 576 dep), (a 4, cS ta 576 stk), (a 5, cZ ta 576 sn), (a 6, cI ta 3 xs), (a 7, cI ta 3 ys), (a 8, cI ta 3 zs), (a 9, cQ ta a), (a 10, cI ta 3 od), (a 11, e0), (a 12, e1), (a 13, e2)]
/-- all cells of a model -/
def MW (ta : Nat → ClassId) (w h : Nat) (a : Nat → Nat) (col dep xs ys zs mk : Nat → Int32) : va_W := [(a 0, oTM w h a), (a 2, cI ta 576 col), (a 3, cI ta 576 dep), (a 4, cI ta 3 xs), (a 5, cI ta 3 ys), (a 6, cI ta 3 zs), (a 7, cZ ta 576 mk)]
abbrev rm_TR_init : Room := { frames := 2, cells := 12, slots := 2334, locals := 40 }
set_option maxHeartbeats 4000000 in
set_option maxRecDepth 100000 in
theorem c_TR_init (l : Launch) (D : va_G) (ta : Nat → ClassId) (sz o : Nat) (w h : Int32) : Ctn l y_TR_init b_TR_init 4 rm_TR_init D ta sz [.ref o, .int w, .int h] [(o, .inr (0, [.int 0, .int 0, .null, .null, .null, .null, .null, .null, .null, .null, .null]))] (fun a : Nat → Nat => RW ta (clN w) (clN h) a (fun _ => 0) (fun _ => 0) (fun _ => 0) (fun _ => 0) (fun _ => 0) (fun _ => 0) (fun _ => 0) (fun _ => 0) (oEd 0 0 0 0 0) (oEd 0 0 0 0 0) (oEd 0 0 0 0 0)) (fun a => a 0 = o) 12 2334 := by
  refine start_n rfl rfl (Nat.le_of_ble_eq_true rfl) (fun G C hret => ?_)
  show G 0 0 0 [(0, .ref (o)), (1, .int (w)), (2, .int (h))] [] [(o, .inr (0, [.int 0, .int 0, .null, .null, .null, .null, .null, .null, .null, .null, .null]))]
  refine rx_aload_n (C.at (by decide) (by decide)) 0 rfl d_TR_init_0 ?_
  refine rx_objInit (C.at (by decide) (by decide)) g_11 (by decide) (Nat.le_of_ble_eq_true rfl) d_TR_init_1 ?_
  refine rx_aload_n (C.at (by decide) (by decide)) 0 rfl d_TR_init_4 ?_
  refine rx_sipush (C.at (by decide) (by decide)) (nI 576) (by decide) d_TR_init_5 ?_
  refine nx_new_int C 576 (by decide) (ck' := 1) rfl (cs' := 576) rfl (by decide) d_TR_init_8 (fun q1 => ?_)
  show G 1 576 10 [(0, .ref (o)), (1, .int (w)), (2, .int (h))] [.ref (q1), .ref (o)] [(o, .inr (0, [.int 0, .int 0, .null, .null, .null, .null, .null, .null, .null, .null, .null])), (q1, .inl (ta 0, 576, .inl (fun _ => 0)))]
  refine nx_putF C 0 2 i_TR t_TR t_TR_ok n_TR rfl rfl (by decide) g_44 rfl rfl rfl rfl (Nat.le_of_ble_eq_true rfl) (ws' := [(o, .inr (0, [.int 0, .int 0, .ref (q1), .null, .null, .null, .null, .null, .null, .null, .null])), (q1, .inl (ta 0, 576, .inl (fun _ => 0)))]) rfl d_TR_init_10 ?_
  refine rx_aload_n (C.at (by decide) (by decide)) 0 rfl d_TR_init_13 ?_
  refine rx_sipush (C.at (by decide) (by decide)) (nI 576) (by decide) d_TR_init_14 ?_
  refine nx_new_char C 576 (by decide) (ck' := 2) rfl (cs' := 1152) rfl (by decide) d_TR_init_17 (fun q2 => ?_)
  show G 2 1152 19 [(0, .ref (o)), (1, .int (w)), (2, .int (h))] [.ref (q2), .ref (o)] [(o, .inr (0, [.int 0, .int 0, .ref (q1), .null, .null, .null, .null, .null, .null, .null, .null])), (q1, .inl (ta 0, 576, .inl (fun _ => 0))), (q2, .inl (ta 1, 576, .inl (fun _ => 0)))]
  refine nx_putF C 0 3 i_TR t_TR t_TR_ok n_TR rfl rfl (by decide) g_45 rfl rfl rfl rfl (Nat.le_of_ble_eq_true rfl) (ws' := [(o, .inr (0, [.int 0, .int 0, .ref (q1), .ref (q2), .null, .null, .null, .null, .null, .null, .null])), (q1, .inl (ta 0, 576, .inl (fun _ => 0))), (q2, .inl (ta 1, 576, .inl (fun _ => 0)))]) rfl d_TR_init_19 ?_
  refine rx_aload_n (C.at (by decide) (by decide)) 0 rfl d_TR_init_22 ?_
  refine rx_sipush (C.at (by decide) (by decide)) (nI 576) (by decide) d_TR_init_23 ?_
  refine nx_new_short C 576 (by decide) (ck' := 3) rfl (cs' := 1728) rfl (by decide) d_TR_init_26 (fun q3 => ?_)
  show G 3 1728 28 [(0, .ref (o)), (1, .int (w)), (2, .int (h))] [.ref (q3), .ref (o)] [(o, .inr (0, [.int 0, .int 0, .ref (q1), .ref (q2), .null, .null, .null, .null, .null, .null, .null])), (q1, .inl (ta 0, 576, .inl (fun _ => 0))), (q2, .inl (ta 1, 576, .inl (fun _ => 0))), (q3, .inl (ta 2, 576, .inl (fun _ => 0)))]
  refine nx_putF C 0 4 i_TR t_TR t_TR_ok n_TR rfl rfl (by decide) g_46 rfl rfl rfl rfl (Nat.le_of_ble_eq_true rfl) (ws' := [(o, .inr (0, [.int 0, .int 0, .ref (q1), .ref (q2), .ref (q3), .null, .null, .null, .null, .null, .null])), (q1, .inl (ta 0, 576, .inl (fun _ => 0))), (q2, .inl (ta 1, 576, .inl (fun _ => 0))), (q3, .inl (ta 2, 576, .inl (fun _ => 0)))]) rfl d_TR_init_28 ?_
  refine rx_aload_n (C.at (by decide) (by decide)) 0 rfl d_TR_init_31 ?_
  refine rx_sipush (C.at (by decide) (by decide)) (nI 576) (by decide) d_TR_init_32 ?_
  refine nx_new_boolean C 576 (by decide) (ck' := 4) rfl (cs' := 2304) rfl (by decide) d_TR_init_35 (fun q4 => ?_)
  show G 4 2304 37 [(0, .ref (o)), (1, .int (w)), (2, .int (h))] [.ref (q4), .ref (o)] [(o, .inr (0, [.int 0, .int 0, .ref (q1), .ref (q2), .ref (q3), .null, .null, .null, .null, .null, .null])), (q1, .inl (ta 0, 576, .inl (fun _ => 0))), (q2, .inl (ta 1, 576, .inl (fun _ => 0))), (q3, .inl (ta 2, 576, .inl (fun _ => 0))), (q4, .inl (ta 3, 576, .inl (fun _ => 0)))]
  refine nx_putF C 0 5 i_TR t_TR t_TR_ok n_TR rfl rfl (by decide) g_47 rfl rfl rfl rfl (Nat.le_of_ble_eq_true rfl) (ws' := [(o, .inr (0, [.int 0, .int 0, .ref (q1), .ref (q2), .ref (q3), .ref (q4), .null, .null, .null, .null, .null])), (q1, .inl (ta 0, 576, .inl (fun _ => 0))), (q2, .inl (ta 1, 576, .inl (fun _ => 0))), (q3, .inl (ta 2, 576, .inl (fun _ => 0))), (q4, .inl (ta 3, 576, .inl (fun _ => 0)))]) rfl d_TR_init_37 ?_
  refine rx_aload_n (C.at (by decide) (by decide)) 0 rfl d_TR_init_40 ?_
  refine rx_iconst (C.at (by decide) (by decide)) (nI 3) (by decide) d_TR_init_41 ?_
  refine nx_new_int C 3 (by decide) (ck' := 5) rfl (cs' := 2307) rfl (by decide) d_TR_init_42 (fun q5 => ?_)
  show G 5 2307 44 [(0, .ref (o)), (1, .int (w)), (2, .int (h))] [.ref (q5), .ref (o)] [(o, .inr (0, [.int 0, .int 0, .ref (q1), .ref (q2), .ref (q3), .ref (q4), .null, .null, .null, .null, .null])), (q1, .inl (ta 0, 576, .inl (fun _ => 0))), (q2, .inl (ta 1, 576, .inl (fun _ => 0))), (q3, .inl (ta 2, 576, .inl (fun _ => 0))), (q4, .inl (ta 3, 576, .inl (fun _ => 0))), (q5, .inl (ta 0, 3, .inl (fun _ => 0)))]
  refine nx_putF C 0 6 i_TR t_TR t_TR_ok n_TR rfl rfl (by decide) g_48 rfl rfl rfl rfl (Nat.le_of_ble_eq_true rfl) (ws' := [(o, .inr (0, [.int 0, .int 0, .ref (q1), .ref (q2), .ref (q3), .ref (q4), .ref (q5), .null, .null, .null, .null])), (q1, .inl (ta 0, 576, .inl (fun _ => 0))), (q2, .inl (ta 1, 576, .inl (fun _ => 0))), (q3, .inl (ta 2, 576, .inl (fun _ => 0))), (q4, .inl (ta 3, 576, .inl (fun _ => 0))), (q5, .inl (ta 0, 3, .inl (fun _ => 0)))]) rfl d_TR_init_44 ?_
  refine rx_aload_n (C.at (by decide) (by decide)) 0 rfl d_TR_init_47 ?_
  refine rx_iconst (C.at (by decide) (by decide)) (nI 3) (by decide) d_TR_init_48 ?_
  refine nx_new_int C 3 (by decide) (ck' := 6) rfl (cs' := 2310) rfl (by decide) d_TR_init_49 (fun q6 => ?_)
  show G 6 2310 51 [(0, .ref (o)), (1, .int (w)), (2, .int (h))] [.ref (q6), .ref (o)] [(o, .inr (0, [.int 0, .int 0, .ref (q1), .ref (q2), .ref (q3), .ref (q4), .ref (q5), .null, .null, .null, .null])), (q1, .inl (ta 0, 576, .inl (fun _ => 0))), (q2, .inl (ta 1, 576, .inl (fun _ => 0))), (q3, .inl (ta 2, 576, .inl (fun _ => 0))), (q4, .inl (ta 3, 576, .inl (fun _ => 0))), (q5, .inl (ta 0, 3, .inl (fun _ => 0))), (q6, .inl (ta 0, 3, .inl (fun _ => 0)))]
  refine nx_putF C 0 7 i_TR t_TR t_TR_ok n_TR rfl rfl (by decide) g_49 rfl rfl rfl rfl (Nat.le_of_ble_eq_true rfl) (ws' := [(o, .inr (0, [.int 0, .int 0, .ref (q1), .ref (q2), .ref (q3), .ref (q4), .ref (q5), .ref (q6), .null, .null, .null])), (q1, .inl (ta 0, 576, .inl (fun _ => 0))), (q2, .inl (ta 1, 576, .inl (fun _ => 0))), (q3, .inl (ta 2, 576, .inl (fun _ => 0))), (q4, .inl (ta 3, 576, .inl (fun _ => 0))), (q5, .inl (ta 0, 3, .inl (fun _ => 0))), (q6, .inl (ta 0, 3, .inl (fun _ => 0)))]) rfl d_TR_init_51 ?_
  refine rx_aload_n (C.at (by decide) (by decide)) 0 rfl d_TR_init_54 ?_
  refine rx_iconst (C.at (by decide) (by decide)) (nI 3) (by decide) d_TR_init_55 ?_
  refine nx_new_int C 3 (by decide) (ck' := 7) rfl (cs' := 2313) rfl (by decide) d_TR_init_56 (fun q7 => ?_)
  show G 7 2313 58 [(0, .ref (o)), (1, .int (w)), (2, .int (h))] [.ref (q7), .ref (o)] [(o, .inr (0, [.int 0, .int 0, .ref (q1), .ref (q2), .ref (q3), .ref (q4), .ref (q5), .ref (q6), .null, .null, .null])), (q1, .inl (ta 0, 576, .inl (fun _ => 0))), (q2, .inl (ta 1, 576, .inl (fun _ => 0))), (q3, .inl (ta 2, 576, .inl (fun _ => 0))), (q4, .inl (ta 3, 576, .inl (fun _ => 0))), (q5, .inl (ta 0, 3, .inl (fun _ => 0))), (q6, .inl (ta 0, 3, .inl (fun _ => 0))), (q7, .inl (ta 0, 3, .inl (fun _ => 0)))]
  refine nx_putF C 0 8 i_TR t_TR t_TR_ok n_TR rfl rfl (by decide) g_50 rfl rfl rfl rfl (Nat.le_of_ble_eq_true rfl) (ws' := [(o, .inr (0, [.int 0, .int 0, .ref (q1), .ref (q2), .ref (q3), .ref (q4), .ref (q5), .ref (q6), .ref (q7), .null, .null])), (q1, .inl (ta 0, 576, .inl (fun _ => 0))), (q2, .inl (ta 1, 576, .inl (fun _ => 0))), (q3, .inl (ta 2, 576, .inl (fun _ => 0))), (q4, .inl (ta 3, 576, .inl (fun _ => 0))), (q5, .inl (ta 0, 3, .inl (fun _ => 0))), (q6, .inl (ta 0, 3, .inl (fun _ => 0))), (q7, .inl (ta 0, 3, .inl (fun _ => 0)))]) rfl d_TR_init_58 ?_
  refine rx_aload_n (C.at (by decide) (by decide)) 0 rfl d_TR_init_61 ?_
  refine rx_iconst (C.at (by decide) (by decide)) (nI 3) (by decide) d_TR_init_62 ?_
  refine nx_newq C 3 g_14 (by decide) (ck' := 8) rfl (cs' := 2316) rfl (by decide) d_TR_init_63 (fun q8 => ?_)
  show G 8 2316 66 [(0, .ref (o)), (1, .int (w)), (2, .int (h))] [.ref (q8), .ref (o)] [(o, .inr (0, [.int 0, .int 0, .ref (q1), .ref (q2), .ref (q3), .ref (q4), .ref (q5), .ref (q6), .ref (q7), .null, .null])), (q1, .inl (ta 0, 576, .inl (fun _ => 0))), (q2, .inl (ta 1, 576, .inl (fun _ => 0))), (q3, .inl (ta 2, 576, .inl (fun _ => 0))), (q4, .inl (ta 3, 576, .inl (fun _ => 0))), (q5, .inl (ta 0, 3, .inl (fun _ => 0))), (q6, .inl (ta 0, 3, .inl (fun _ => 0))), (q7, .inl (ta 0, 3, .inl (fun _ => 0))), (q8, .inl (ta 4, 3, .inr (.inr (.inr (.inr (fun _ => none))))))]
  refine nx_putF C 0 9 i_TR t_TR t_TR_ok n_TR rfl rfl (by decide) g_51 rfl rfl rfl rfl (Nat.le_of_ble_eq_true rfl) (ws' := [(o, .inr (0, [.int 0, .int 0, .ref (q1), .ref (q2), .ref (q3), .ref (q4), .ref (q5), .ref (q6), .ref (q7), .ref (q8), .null])), (q1, .inl (ta 0, 576, .inl (fun _ => 0))), (q2, .inl (ta 1, 576, .inl (fun _ => 0))), (q3, .inl (ta 2, 576, .inl (fun _ => 0))), (q4, .inl (ta 3, 576, .inl (fun _ => 0))), (q5, .inl (ta 0, 3, .inl (fun _ => 0))), (q6, .inl (ta 0, 3, .inl (fun _ => 0))), (q7, .inl (ta 0, 3, .inl (fun _ => 0))), (q8, .inl (ta 4, 3, .inr (.inr (.inr (.inr (fun _ => none))))))]) rfl d_TR_init_66 ?_
  refine rx_aload_n (C.at (by decide) (by decide)) 0 rfl d_TR_init_69 ?_
  refine rx_iconst (C.at (by decide) (by decide)) (nI 3) (by decide) d_TR_init_70 ?_
  refine nx_new_int C 3 (by decide) (ck' := 9) rfl (cs' := 2319) rfl (by decide) d_TR_init_71 (fun q9 => ?_)
  show G 9 2319 73 [(0, .ref (o)), (1, .int (w)), (2, .int (h))] [.ref (q9), .ref (o)] [(o, .inr (0, [.int 0, .int 0, .ref (q1), .ref (q2), .ref (q3), .ref (q4), .ref (q5), .ref (q6), .ref (q7), .ref (q8), .null])), (q1, .inl (ta 0, 576, .inl (fun _ => 0))), (q2, .inl (ta 1, 576, .inl (fun _ => 0))), (q3, .inl (ta 2, 576, .inl (fun _ => 0))), (q4, .inl (ta 3, 576, .inl (fun _ => 0))), (q5, .inl (ta 0, 3, .inl (fun _ => 0))), (q6, .inl (ta 0, 3, .inl (fun _ => 0))), (q7, .inl (ta 0, 3, .inl (fun _ => 0))), (q8, .inl (ta 4, 3, .inr (.inr (.inr (.inr (fun _ => none)))))), (q9, .inl (ta 0, 3, .inl (fun _ => 0)))]
  refine nx_putF C 0 10 i_TR t_TR t_TR_ok n_TR rfl rfl (by decide) g_52 rfl rfl rfl rfl (Nat.le_of_ble_eq_true rfl) (ws' := [(o, .inr (0, [.int 0, .int 0, .ref (q1), .ref (q2), .ref (q3), .ref (q4), .ref (q5), .ref (q6), .ref (q7), .ref (q8), .ref (q9)])), (q1, .inl (ta 0, 576, .inl (fun _ => 0))), (q2, .inl (ta 1, 576, .inl (fun _ => 0))), (q3, .inl (ta 2, 576, .inl (fun _ => 0))), (q4, .inl (ta 3, 576, .inl (fun _ => 0))), (q5, .inl (ta 0, 3, .inl (fun _ => 0))), (q6, .inl (ta 0, 3, .inl (fun _ => 0))), (q7, .inl (ta 0, 3, .inl (fun _ => 0))), (q8, .inl (ta 4, 3, .inr (.inr (.inr (.inr (fun _ => none)))))), (q9, .inl (ta 0, 3, .inl (fun _ => 0)))]) rfl d_TR_init_73 ?_
  refine rx_aload_n (C.at (by decide) (by decide)) 0 rfl d_TR_init_76 ?_
  refine rx_iload_n (C.at (by decide) (by decide)) 1 rfl d_TR_init_77 ?_
  refine rx_iconst (C.at (by decide) (by decide)) (nI 1) (by decide) d_TR_init_78 ?_
  have Kw : G 9 2319 93 [(0, .ref (o)), (1, .int (w)), (2, .int (h))] [.int (nI (clN w)), .ref (o)] [(o, .inr (0, [.int 0, .int 0, .ref (q1), .ref (q2), .ref (q3), .ref (q4), .ref (q5), .ref (q6), .ref (q7), .ref (q8), .ref (q9)])), (q1, .inl (ta 0, 576, .inl (fun _ => 0))), (q2, .inl (ta 1, 576, .inl (fun _ => 0))), (q3, .inl (ta 2, 576, .inl (fun _ => 0))), (q4, .inl (ta 3, 576, .inl (fun _ => 0))), (q5, .inl (ta 0, 3, .inl (fun _ => 0))), (q6, .inl (ta 0, 3, .inl (fun _ => 0))), (q7, .inl (ta 0, 3, .inl (fun _ => 0))), (q8, .inl (ta 4, 3, .inr (.inr (.inr (.inr (fun _ => none)))))), (q9, .inl (ta 0, 3, .inl (fun _ => 0)))] := by
    refine nx_putF C 0 0 i_TR t_TR t_TR_ok n_TR rfl rfl (by decide) g_42 rfl rfl rfl rfl (Nat.le_of_ble_eq_true rfl) (ws' := [(o, .inr (0, [.int (nI (clN w)), .int 0, .ref (q1), .ref (q2), .ref (q3), .ref (q4), .ref (q5), .ref (q6), .ref (q7), .ref (q8), .ref (q9)])), (q1, .inl (ta 0, 576, .inl (fun _ => 0))), (q2, .inl (ta 1, 576, .inl (fun _ => 0))), (q3, .inl (ta 2, 576, .inl (fun _ => 0))), (q4, .inl (ta 3, 576, .inl (fun _ => 0))), (q5, .inl (ta 0, 3, .inl (fun _ => 0))), (q6, .inl (ta 0, 3, .inl (fun _ => 0))), (q7, .inl (ta 0, 3, .inl (fun _ => 0))), (q8, .inl (ta 4, 3, .inr (.inr (.inr (.inr (fun _ => none)))))), (q9, .inl (ta 0, 3, .inl (fun _ => 0)))]) rfl d_TR_init_93 ?_
    refine rx_aload_n (C.at (by decide) (by decide)) 0 rfl d_TR_init_96 ?_
    refine rx_iload_n (C.at (by decide) (by decide)) 2 rfl d_TR_init_97 ?_
    refine rx_iconst (C.at (by decide) (by decide)) (nI 1) (by decide) d_TR_init_98 ?_
    have Kh : G 9 2319 113 [(0, .ref (o)), (1, .int (w)), (2, .int (h))] [.int (nI (clN h)), .ref (o)] [(o, .inr (0, [.int (nI (clN w)), .int 0, .ref (q1), .ref (q2), .ref (q3), .ref (q4), .ref (q5), .ref (q6), .ref (q7), .ref (q8), .ref (q9)])), (q1, .inl (ta 0, 576, .inl (fun _ => 0))), (q2, .inl (ta 1, 576, .inl (fun _ => 0))), (q3, .inl (ta 2, 576, .inl (fun _ => 0))), (q4, .inl (ta 3, 576, .inl (fun _ => 0))), (q5, .inl (ta 0, 3, .inl (fun _ => 0))), (q6, .inl (ta 0, 3, .inl (fun _ => 0))), (q7, .inl (ta 0, 3, .inl (fun _ => 0))), (q8, .inl (ta 4, 3, .inr (.inr (.inr (.inr (fun _ => none)))))), (q9, .inl (ta 0, 3, .inl (fun _ => 0)))] := by
      refine nx_putF C 0 1 i_TR t_TR t_TR_ok n_TR rfl rfl (by decide) g_43 rfl rfl rfl rfl (Nat.le_of_ble_eq_true rfl) (ws' := [(o, .inr (0, [.int (nI (clN w)), .int (nI (clN h)), .ref (q1), .ref (q2), .ref (q3), .ref (q4), .ref (q5), .ref (q6), .ref (q7), .ref (q8), .ref (q9)])), (q1, .inl (ta 0, 576, .inl (fun _ => 0))), (q2, .inl (ta 1, 576, .inl (fun _ => 0))), (q3, .inl (ta 2, 576, .inl (fun _ => 0))), (q4, .inl (ta 3, 576, .inl (fun _ => 0))), (q5, .inl (ta 0, 3, .inl (fun _ => 0))), (q6, .inl (ta 0, 3, .inl (fun _ => 0))), (q7, .inl (ta 0, 3, .inl (fun _ => 0))), (q8, .inl (ta 4, 3, .inr (.inr (.inr (.inr (fun _ => none)))))), (q9, .inl (ta 0, 3, .inl (fun _ => 0)))]) rfl d_TR_init_113 ?_
      refine rx_iconst (C.at (by decide) (by decide)) (nI 0) (by decide) d_TR_init_116 ?_
      refine rx_istore_n (C.at (by decide) (by decide)) (Nat.le_of_ble_eq_true rfl) [1, 2, 3, 0] (lv' := [(0, .ref (o)), (1, .int (w)), (2, .int (h)), (3, .int (nI (0)))]) rfl d_TR_init_117 ?_
      refine rx_iload_n (C.at (by decide) (by decide)) 3 rfl d_TR_init_118 ?_
      refine rx_iconst (C.at (by decide) (by decide)) (nI 3) (by decide) d_TR_init_119 ?_
      refine rx_icmp_geN (C.at (by decide) (by decide)) (by omega) (by omega) d_TR_init_120 (fun c120 => by exfalso; omega) (fun c120 => ?_)
      refine rx_aload_n (C.at (by decide) (by decide)) 0 rfl d_TR_init_123 ?_
      refine rx_get (C.at (by decide) (by decide)) 0 9 i_TR rfl rfl (by decide) g_51 rfl rfl d_TR_init_124 ?_
      refine rx_iload_n (C.at (by decide) (by decide)) 3 rfl d_TR_init_127 ?_
      refine nx_newE C g_14 (ck' := 10) rfl (cs' := 2324) rfl (by decide) d_TR_init_128 (fun q10 => ?_)
      show G 10 2324 131 [(0, .ref (o)), (1, .int (w)), (2, .int (h)), (3, .int (nI (0)))] [.ref (q10), .int (nI (0)), .ref (q8)] [(o, .inr (0, [.int (nI (clN w)), .int (nI (clN h)), .ref (q1), .ref (q2), .ref (q3), .ref (q4), .ref (q5), .ref (q6), .ref (q7), .ref (q8), .ref (q9)])), (q1, .inl (ta 0, 576, .inl (fun _ => 0))), (q2, .inl (ta 1, 576, .inl (fun _ => 0))), (q3, .inl (ta 2, 576, .inl (fun _ => 0))), (q4, .inl (ta 3, 576, .inl (fun _ => 0))), (q5, .inl (ta 0, 3, .inl (fun _ => 0))), (q6, .inl (ta 0, 3, .inl (fun _ => 0))), (q7, .inl (ta 0, 3, .inl (fun _ => 0))), (q8, .inl (ta 4, 3, .inr (.inr (.inr (.inr (fun _ => none)))))), (q9, .inl (ta 0, 3, .inl (fun _ => 0))), (q10, oEd (0) (0) (0) (0) (0))]
      refine rx_dup (C.at (by decide) (by decide)) rfl d_TR_init_131 ?_
      refine nx_EdI C 10 rfl (by decide) (by decide) (Nat.le_of_ble_eq_true rfl) d_TR_init_132 ?_
      refine nx_aast C 8 10 rfl rfl (by decide) 0 rfl (by decide) (ws' := [(o, .inr (0, [.int (nI (clN w)), .int (nI (clN h)), .ref (q1), .ref (q2), .ref (q3), .ref (q4), .ref (q5), .ref (q6), .ref (q7), .ref (q8), .ref (q9)])), (q1, .inl (ta 0, 576, .inl (fun _ => 0))), (q2, .inl (ta 1, 576, .inl (fun _ => 0))), (q3, .inl (ta 2, 576, .inl (fun _ => 0))), (q4, .inl (ta 3, 576, .inl (fun _ => 0))), (q5, .inl (ta 0, 3, .inl (fun _ => 0))), (q6, .inl (ta 0, 3, .inl (fun _ => 0))), (q7, .inl (ta 0, 3, .inl (fun _ => 0))), (q8, .inl (ta 4, 3, .inr (.inr (.inr (.inr (va_up (fun _ => none) 0 (some q10))))))), (q9, .inl (ta 0, 3, .inl (fun _ => 0))), (q10, oEd (0) (0) (0) (0) (0))]) rfl d_TR_init_135 ?_
      refine rx_iinc (C.at (by decide) (by decide)) 3 rfl (nI (1)) (by decide) (Nat.le_of_ble_eq_true rfl) [1, 2, 3, 0] (lv' := [(0, .ref (o)), (1, .int (w)), (2, .int (h)), (3, .int (nI (1)))]) rfl d_TR_init_136 ?_
      refine rx_goto (C.at (by decide) (by decide)) d_TR_init_139 ?_
      refine rx_iload_n (C.at (by decide) (by decide)) 3 rfl d_TR_init_118 ?_
      refine rx_iconst (C.at (by decide) (by decide)) (nI 3) (by decide) d_TR_init_119 ?_
      refine rx_icmp_geN (C.at (by decide) (by decide)) (by omega) (by omega) d_TR_init_120 (fun c120 => by exfalso; omega) (fun c120 => ?_)
      refine rx_aload_n (C.at (by decide) (by decide)) 0 rfl d_TR_init_123 ?_
      refine rx_get (C.at (by decide) (by decide)) 0 9 i_TR rfl rfl (by decide) g_51 rfl rfl d_TR_init_124 ?_
      refine rx_iload_n (C.at (by decide) (by decide)) 3 rfl d_TR_init_127 ?_
      refine nx_newE C g_14 (ck' := 11) rfl (cs' := 2329) rfl (by decide) d_TR_init_128 (fun q11 => ?_)
      show G 11 2329 131 [(0, .ref (o)), (1, .int (w)), (2, .int (h)), (3, .int (nI (1)))] [.ref (q11), .int (nI (1)), .ref (q8)] [(o, .inr (0, [.int (nI (clN w)), .int (nI (clN h)), .ref (q1), .ref (q2), .ref (q3), .ref (q4), .ref (q5), .ref (q6), .ref (q7), .ref (q8), .ref (q9)])), (q1, .inl (ta 0, 576, .inl (fun _ => 0))), (q2, .inl (ta 1, 576, .inl (fun _ => 0))), (q3, .inl (ta 2, 576, .inl (fun _ => 0))), (q4, .inl (ta 3, 576, .inl (fun _ => 0))), (q5, .inl (ta 0, 3, .inl (fun _ => 0))), (q6, .inl (ta 0, 3, .inl (fun _ => 0))), (q7, .inl (ta 0, 3, .inl (fun _ => 0))), (q8, .inl (ta 4, 3, .inr (.inr (.inr (.inr (va_up (fun _ => none) 0 (some q10))))))), (q9, .inl (ta 0, 3, .inl (fun _ => 0))), (q10, oEd (0) (0) (0) (0) (0)), (q11, oEd (0) (0) (0) (0) (0))]
      refine rx_dup (C.at (by decide) (by decide)) rfl d_TR_init_131 ?_
      refine nx_EdI C 11 rfl (by decide) (by decide) (Nat.le_of_ble_eq_true rfl) d_TR_init_132 ?_
      refine nx_aast C 8 11 rfl rfl (by decide) 1 rfl (by decide) (ws' := [(o, .inr (0, [.int (nI (clN w)), .int (nI (clN h)), .ref (q1), .ref (q2), .ref (q3), .ref (q4), .ref (q5), .ref (q6), .ref (q7), .ref (q8), .ref (q9)])), (q1, .inl (ta 0, 576, .inl (fun _ => 0))), (q2, .inl (ta 1, 576, .inl (fun _ => 0))), (q3, .inl (ta 2, 576, .inl (fun _ => 0))), (q4, .inl (ta 3, 576, .inl (fun _ => 0))), (q5, .inl (ta 0, 3, .inl (fun _ => 0))), (q6, .inl (ta 0, 3, .inl (fun _ => 0))), (q7, .inl (ta 0, 3, .inl (fun _ => 0))), (q8, .inl (ta 4, 3, .inr (.inr (.inr (.inr (va_up (va_up (fun _ => none) 0 (some q10)) 1 (some q11))))))), (q9, .inl (ta 0, 3, .inl (fun _ => 0))), (q10, oEd (0) (0) (0) (0) (0)), (q11, oEd (0) (0) (0) (0) (0))]) rfl d_TR_init_135 ?_
      refine rx_iinc (C.at (by decide) (by decide)) 3 rfl (nI (2)) (by decide) (Nat.le_of_ble_eq_true rfl) [1, 2, 3, 0] (lv' := [(0, .ref (o)), (1, .int (w)), (2, .int (h)), (3, .int (nI (2)))]) rfl d_TR_init_136 ?_
      refine rx_goto (C.at (by decide) (by decide)) d_TR_init_139 ?_
      refine rx_iload_n (C.at (by decide) (by decide)) 3 rfl d_TR_init_118 ?_
      refine rx_iconst (C.at (by decide) (by decide)) (nI 3) (by decide) d_TR_init_119 ?_
      refine rx_icmp_geN (C.at (by decide) (by decide)) (by omega) (by omega) d_TR_init_120 (fun c120 => by exfalso; omega) (fun c120 => ?_)
      refine rx_aload_n (C.at (by decide) (by decide)) 0 rfl d_TR_init_123 ?_
      refine rx_get (C.at (by decide) (by decide)) 0 9 i_TR rfl rfl (by decide) g_51 rfl rfl d_TR_init_124 ?_
      refine rx_iload_n (C.at (by decide) (by decide)) 3 rfl d_TR_init_127 ?_
      refine nx_newE C g_14 (ck' := 12) rfl (cs' := 2334) rfl (by decide) d_TR_init_128 (fun q12 => ?_)
      show G 12 2334 131 [(0, .ref (o)), (1, .int (w)), (2, .int (h)), (3, .int (nI (2)))] [.ref (q12), .int (nI (2)), .ref (q8)] [(o, .inr (0, [.int (nI (clN w)), .int (nI (clN h)), .ref (q1), .ref (q2), .ref (q3), .ref (q4), .ref (q5), .ref (q6), .ref (q7), .ref (q8), .ref (q9)])), (q1, .inl (ta 0, 576, .inl (fun _ => 0))), (q2, .inl (ta 1, 576, .inl (fun _ => 0))), (q3, .inl (ta 2, 576, .inl (fun _ => 0))), (q4, .inl (ta 3, 576, .inl (fun _ => 0))), (q5, .inl (ta 0, 3, .inl (fun _ => 0))), (q6, .inl (ta 0, 3, .inl (fun _ => 0))), (q7, .inl (ta 0, 3, .inl (fun _ => 0))), (q8, .inl (ta 4, 3, .inr (.inr (.inr (.inr (va_up (va_up (fun _ => none) 0 (some q10)) 1 (some q11))))))), (q9, .inl (ta 0, 3, .inl (fun _ => 0))), (q10, oEd (0) (0) (0) (0) (0)), (q11, oEd (0) (0) (0) (0) (0)), (q12, oEd (0) (0) (0) (0) (0))]
      refine rx_dup (C.at (by decide) (by decide)) rfl d_TR_init_131 ?_
      refine nx_EdI C 12 rfl (by decide) (by decide) (Nat.le_of_ble_eq_true rfl) d_TR_init_132 ?_
      refine nx_aast C 8 12 rfl rfl (by decide) 2 rfl (by decide) (ws' := [(o, .inr (0, [.int (nI (clN w)), .int (nI (clN h)), .ref (q1), .ref (q2), .ref (q3), .ref (q4), .ref (q5), .ref (q6), .ref (q7), .ref (q8), .ref (q9)])), (q1, .inl (ta 0, 576, .inl (fun _ => 0))), (q2, .inl (ta 1, 576, .inl (fun _ => 0))), (q3, .inl (ta 2, 576, .inl (fun _ => 0))), (q4, .inl (ta 3, 576, .inl (fun _ => 0))), (q5, .inl (ta 0, 3, .inl (fun _ => 0))), (q6, .inl (ta 0, 3, .inl (fun _ => 0))), (q7, .inl (ta 0, 3, .inl (fun _ => 0))), (q8, .inl (ta 4, 3, .inr (.inr (.inr (.inr (va_up (va_up (va_up (fun _ => none) 0 (some q10)) 1 (some q11)) 2 (some q12))))))), (q9, .inl (ta 0, 3, .inl (fun _ => 0))), (q10, oEd (0) (0) (0) (0) (0)), (q11, oEd (0) (0) (0) (0) (0)), (q12, oEd (0) (0) (0) (0) (0))]) rfl d_TR_init_135 ?_
      refine rx_iinc (C.at (by decide) (by decide)) 3 rfl (nI (3)) (by decide) (Nat.le_of_ble_eq_true rfl) [1, 2, 3, 0] (lv' := [(0, .ref (o)), (1, .int (w)), (2, .int (h)), (3, .int (nI (3)))]) rfl d_TR_init_136 ?_
      refine rx_goto (C.at (by decide) (by decide)) d_TR_init_139 ?_
      refine rx_iload_n (C.at (by decide) (by decide)) 3 rfl d_TR_init_118 ?_
      refine rx_iconst (C.at (by decide) (by decide)) (nI 3) (by decide) d_TR_init_119 ?_
      refine rx_icmp_geN (C.at (by decide) (by decide)) (by omega) (by omega) d_TR_init_120 (fun c120 => ?_) (fun c120 => by exfalso; omega)
      exact hret _ _ _ (adr [o, 0, q1, q2, q3, q4, q5, q6, q7, q8, q9, q10, q11, q12]) d_TR_init_142 rfl
    refine rx_icmp_lt (C.at (by decide) (by decide)) d_TR_init_99 (fun c99 => ?_) (fun c99 => ?_)
    · skip
      refine rx_iconst (C.at (by decide) (by decide)) (nI 1) (by decide) d_TR_init_112 ?_
      refine rx_top (nI (clN h)) (clN_o1 c99) ?_
      exact Kh
    · skip
      refine rx_iload_n (C.at (by decide) (by decide)) 2 rfl d_TR_init_102 ?_
      refine rx_bipush (C.at (by decide) (by decide)) (nI 24) (by decide) d_TR_init_103 ?_
      refine rx_icmp_gt (C.at (by decide) (by decide)) d_TR_init_105 (fun c105 => ?_) (fun c105 => ?_)
      · skip
        refine rx_iconst (C.at (by decide) (by decide)) (nI 1) (by decide) d_TR_init_112 ?_
        refine rx_top (nI (clN h)) (clN_o2 c105) ?_
        exact Kh
      · skip
        refine rx_iload_n (C.at (by decide) (by decide)) 2 rfl d_TR_init_108 ?_
        refine rx_goto (C.at (by decide) (by decide)) d_TR_init_109 ?_
        refine rx_top (nI (clN h)) (clN_in c99 c105) ?_
        exact Kh
  refine rx_icmp_lt (C.at (by decide) (by decide)) d_TR_init_79 (fun c79 => ?_) (fun c79 => ?_)
  · skip
    refine rx_iconst (C.at (by decide) (by decide)) (nI 1) (by decide) d_TR_init_92 ?_
    refine rx_top (nI (clN w)) (clN_o1 c79) ?_
    exact Kw
  · skip
    refine rx_iload_n (C.at (by decide) (by decide)) 1 rfl d_TR_init_82 ?_
    refine rx_bipush (C.at (by decide) (by decide)) (nI 24) (by decide) d_TR_init_83 ?_
    refine rx_icmp_gt (C.at (by decide) (by decide)) d_TR_init_85 (fun c85 => ?_) (fun c85 => ?_)
    · skip
      refine rx_iconst (C.at (by decide) (by decide)) (nI 1) (by decide) d_TR_init_92 ?_
      refine rx_top (nI (clN w)) (clN_o2 c85) ?_
      exact Kw
    · skip
      refine rx_iload_n (C.at (by decide) (by decide)) 1 rfl d_TR_init_88 ?_
      refine rx_goto (C.at (by decide) (by decide)) d_TR_init_89 ?_
      refine rx_top (nI (clN w)) (clN_in c79 c85) ?_
      exact Kw
abbrev rm_TM_init : Room := { frames := 1, cells := 6, slots := 1737, locals := 20 }
set_option maxHeartbeats 4000000 in
set_option maxRecDepth 100000 in
theorem c_TM_init (l : Launch) (D : va_G) (ta : Nat → ClassId) (sz o : Nat) (w h : Int32) : Ctn l y_TM_init b_TM_init 3 rm_TM_init D ta sz [.ref o, .int w, .int h] [(o, .inr (2, [.int 0, .int 0, .null, .null, .null, .null, .null, .null]))] (fun a : Nat → Nat => MW ta (clN w) (clN h) a (fun _ => 0) (fun _ => 0) (fun _ => 0) (fun _ => 0) (fun _ => 0) (fun _ => 0)) (fun a => a 0 = o) 6 1737 := by
  refine start_n rfl rfl (Nat.le_of_ble_eq_true rfl) (fun G C hret => ?_)
  show G 0 0 0 [(0, .ref (o)), (1, .int (w)), (2, .int (h))] [] [(o, .inr (2, [.int 0, .int 0, .null, .null, .null, .null, .null, .null]))]
  refine rx_aload_n (C.at (by decide) (by decide)) 0 rfl d_TM_init_0 ?_
  refine rx_objInit (C.at (by decide) (by decide)) g_187 (by decide) (Nat.le_of_ble_eq_true rfl) d_TM_init_1 ?_
  refine rx_aload_n (C.at (by decide) (by decide)) 0 rfl d_TM_init_4 ?_
  refine rx_sipush (C.at (by decide) (by decide)) (nI 576) (by decide) d_TM_init_5 ?_
  refine nx_new_int C 576 (by decide) (ck' := 1) rfl (cs' := 576) rfl (by decide) d_TM_init_8 (fun q1 => ?_)
  show G 1 576 10 [(0, .ref (o)), (1, .int (w)), (2, .int (h))] [.ref (q1), .ref (o)] [(o, .inr (2, [.int 0, .int 0, .null, .null, .null, .null, .null, .null])), (q1, .inl (ta 0, 576, .inl (fun _ => 0)))]
  refine nx_putF C 0 2 i_TM t_TM t_TM_ok n_TM rfl rfl (by decide) g_190 rfl rfl rfl rfl (Nat.le_of_ble_eq_true rfl) (ws' := [(o, .inr (2, [.int 0, .int 0, .ref (q1), .null, .null, .null, .null, .null])), (q1, .inl (ta 0, 576, .inl (fun _ => 0)))]) rfl d_TM_init_10 ?_
  refine rx_aload_n (C.at (by decide) (by decide)) 0 rfl d_TM_init_13 ?_
  refine rx_sipush (C.at (by decide) (by decide)) (nI 576) (by decide) d_TM_init_14 ?_
  refine nx_new_int C 576 (by decide) (ck' := 2) rfl (cs' := 1152) rfl (by decide) d_TM_init_17 (fun q2 => ?_)
  show G 2 1152 19 [(0, .ref (o)), (1, .int (w)), (2, .int (h))] [.ref (q2), .ref (o)] [(o, .inr (2, [.int 0, .int 0, .ref (q1), .null, .null, .null, .null, .null])), (q1, .inl (ta 0, 576, .inl (fun _ => 0))), (q2, .inl (ta 0, 576, .inl (fun _ => 0)))]
  refine nx_putF C 0 3 i_TM t_TM t_TM_ok n_TM rfl rfl (by decide) g_191 rfl rfl rfl rfl (Nat.le_of_ble_eq_true rfl) (ws' := [(o, .inr (2, [.int 0, .int 0, .ref (q1), .ref (q2), .null, .null, .null, .null])), (q1, .inl (ta 0, 576, .inl (fun _ => 0))), (q2, .inl (ta 0, 576, .inl (fun _ => 0)))]) rfl d_TM_init_19 ?_
  refine rx_aload_n (C.at (by decide) (by decide)) 0 rfl d_TM_init_22 ?_
  refine rx_iconst (C.at (by decide) (by decide)) (nI 3) (by decide) d_TM_init_23 ?_
  refine nx_new_int C 3 (by decide) (ck' := 3) rfl (cs' := 1155) rfl (by decide) d_TM_init_24 (fun q3 => ?_)
  show G 3 1155 26 [(0, .ref (o)), (1, .int (w)), (2, .int (h))] [.ref (q3), .ref (o)] [(o, .inr (2, [.int 0, .int 0, .ref (q1), .ref (q2), .null, .null, .null, .null])), (q1, .inl (ta 0, 576, .inl (fun _ => 0))), (q2, .inl (ta 0, 576, .inl (fun _ => 0))), (q3, .inl (ta 0, 3, .inl (fun _ => 0)))]
  refine nx_putF C 0 4 i_TM t_TM t_TM_ok n_TM rfl rfl (by decide) g_192 rfl rfl rfl rfl (Nat.le_of_ble_eq_true rfl) (ws' := [(o, .inr (2, [.int 0, .int 0, .ref (q1), .ref (q2), .ref (q3), .null, .null, .null])), (q1, .inl (ta 0, 576, .inl (fun _ => 0))), (q2, .inl (ta 0, 576, .inl (fun _ => 0))), (q3, .inl (ta 0, 3, .inl (fun _ => 0)))]) rfl d_TM_init_26 ?_
  refine rx_aload_n (C.at (by decide) (by decide)) 0 rfl d_TM_init_29 ?_
  refine rx_iconst (C.at (by decide) (by decide)) (nI 3) (by decide) d_TM_init_30 ?_
  refine nx_new_int C 3 (by decide) (ck' := 4) rfl (cs' := 1158) rfl (by decide) d_TM_init_31 (fun q4 => ?_)
  show G 4 1158 33 [(0, .ref (o)), (1, .int (w)), (2, .int (h))] [.ref (q4), .ref (o)] [(o, .inr (2, [.int 0, .int 0, .ref (q1), .ref (q2), .ref (q3), .null, .null, .null])), (q1, .inl (ta 0, 576, .inl (fun _ => 0))), (q2, .inl (ta 0, 576, .inl (fun _ => 0))), (q3, .inl (ta 0, 3, .inl (fun _ => 0))), (q4, .inl (ta 0, 3, .inl (fun _ => 0)))]
  refine nx_putF C 0 5 i_TM t_TM t_TM_ok n_TM rfl rfl (by decide) g_193 rfl rfl rfl rfl (Nat.le_of_ble_eq_true rfl) (ws' := [(o, .inr (2, [.int 0, .int 0, .ref (q1), .ref (q2), .ref (q3), .ref (q4), .null, .null])), (q1, .inl (ta 0, 576, .inl (fun _ => 0))), (q2, .inl (ta 0, 576, .inl (fun _ => 0))), (q3, .inl (ta 0, 3, .inl (fun _ => 0))), (q4, .inl (ta 0, 3, .inl (fun _ => 0)))]) rfl d_TM_init_33 ?_
  refine rx_aload_n (C.at (by decide) (by decide)) 0 rfl d_TM_init_36 ?_
  refine rx_iconst (C.at (by decide) (by decide)) (nI 3) (by decide) d_TM_init_37 ?_
  refine nx_new_int C 3 (by decide) (ck' := 5) rfl (cs' := 1161) rfl (by decide) d_TM_init_38 (fun q5 => ?_)
  show G 5 1161 40 [(0, .ref (o)), (1, .int (w)), (2, .int (h))] [.ref (q5), .ref (o)] [(o, .inr (2, [.int 0, .int 0, .ref (q1), .ref (q2), .ref (q3), .ref (q4), .null, .null])), (q1, .inl (ta 0, 576, .inl (fun _ => 0))), (q2, .inl (ta 0, 576, .inl (fun _ => 0))), (q3, .inl (ta 0, 3, .inl (fun _ => 0))), (q4, .inl (ta 0, 3, .inl (fun _ => 0))), (q5, .inl (ta 0, 3, .inl (fun _ => 0)))]
  refine nx_putF C 0 6 i_TM t_TM t_TM_ok n_TM rfl rfl (by decide) g_194 rfl rfl rfl rfl (Nat.le_of_ble_eq_true rfl) (ws' := [(o, .inr (2, [.int 0, .int 0, .ref (q1), .ref (q2), .ref (q3), .ref (q4), .ref (q5), .null])), (q1, .inl (ta 0, 576, .inl (fun _ => 0))), (q2, .inl (ta 0, 576, .inl (fun _ => 0))), (q3, .inl (ta 0, 3, .inl (fun _ => 0))), (q4, .inl (ta 0, 3, .inl (fun _ => 0))), (q5, .inl (ta 0, 3, .inl (fun _ => 0)))]) rfl d_TM_init_40 ?_
  refine rx_aload_n (C.at (by decide) (by decide)) 0 rfl d_TM_init_43 ?_
  refine rx_sipush (C.at (by decide) (by decide)) (nI 576) (by decide) d_TM_init_44 ?_
  refine nx_new_boolean C 576 (by decide) (ck' := 6) rfl (cs' := 1737) rfl (by decide) d_TM_init_47 (fun q6 => ?_)
  show G 6 1737 49 [(0, .ref (o)), (1, .int (w)), (2, .int (h))] [.ref (q6), .ref (o)] [(o, .inr (2, [.int 0, .int 0, .ref (q1), .ref (q2), .ref (q3), .ref (q4), .ref (q5), .null])), (q1, .inl (ta 0, 576, .inl (fun _ => 0))), (q2, .inl (ta 0, 576, .inl (fun _ => 0))), (q3, .inl (ta 0, 3, .inl (fun _ => 0))), (q4, .inl (ta 0, 3, .inl (fun _ => 0))), (q5, .inl (ta 0, 3, .inl (fun _ => 0))), (q6, .inl (ta 3, 576, .inl (fun _ => 0)))]
  refine nx_putF C 0 7 i_TM t_TM t_TM_ok n_TM rfl rfl (by decide) g_195 rfl rfl rfl rfl (Nat.le_of_ble_eq_true rfl) (ws' := [(o, .inr (2, [.int 0, .int 0, .ref (q1), .ref (q2), .ref (q3), .ref (q4), .ref (q5), .ref (q6)])), (q1, .inl (ta 0, 576, .inl (fun _ => 0))), (q2, .inl (ta 0, 576, .inl (fun _ => 0))), (q3, .inl (ta 0, 3, .inl (fun _ => 0))), (q4, .inl (ta 0, 3, .inl (fun _ => 0))), (q5, .inl (ta 0, 3, .inl (fun _ => 0))), (q6, .inl (ta 3, 576, .inl (fun _ => 0)))]) rfl d_TM_init_49 ?_
  refine rx_aload_n (C.at (by decide) (by decide)) 0 rfl d_TM_init_52 ?_
  refine rx_iload_n (C.at (by decide) (by decide)) 1 rfl d_TM_init_53 ?_
  refine rx_iconst (C.at (by decide) (by decide)) (nI 1) (by decide) d_TM_init_54 ?_
  have Kw : G 6 1737 69 [(0, .ref (o)), (1, .int (w)), (2, .int (h))] [.int (nI (clN w)), .ref (o)] [(o, .inr (2, [.int 0, .int 0, .ref (q1), .ref (q2), .ref (q3), .ref (q4), .ref (q5), .ref (q6)])), (q1, .inl (ta 0, 576, .inl (fun _ => 0))), (q2, .inl (ta 0, 576, .inl (fun _ => 0))), (q3, .inl (ta 0, 3, .inl (fun _ => 0))), (q4, .inl (ta 0, 3, .inl (fun _ => 0))), (q5, .inl (ta 0, 3, .inl (fun _ => 0))), (q6, .inl (ta 3, 576, .inl (fun _ => 0)))] := by
    refine nx_putF C 0 0 i_TM t_TM t_TM_ok n_TM rfl rfl (by decide) g_188 rfl rfl rfl rfl (Nat.le_of_ble_eq_true rfl) (ws' := [(o, .inr (2, [.int (nI (clN w)), .int 0, .ref (q1), .ref (q2), .ref (q3), .ref (q4), .ref (q5), .ref (q6)])), (q1, .inl (ta 0, 576, .inl (fun _ => 0))), (q2, .inl (ta 0, 576, .inl (fun _ => 0))), (q3, .inl (ta 0, 3, .inl (fun _ => 0))), (q4, .inl (ta 0, 3, .inl (fun _ => 0))), (q5, .inl (ta 0, 3, .inl (fun _ => 0))), (q6, .inl (ta 3, 576, .inl (fun _ => 0)))]) rfl d_TM_init_69 ?_
    refine rx_aload_n (C.at (by decide) (by decide)) 0 rfl d_TM_init_72 ?_
    refine rx_iload_n (C.at (by decide) (by decide)) 2 rfl d_TM_init_73 ?_
    refine rx_iconst (C.at (by decide) (by decide)) (nI 1) (by decide) d_TM_init_74 ?_
    have Kh : G 6 1737 89 [(0, .ref (o)), (1, .int (w)), (2, .int (h))] [.int (nI (clN h)), .ref (o)] [(o, .inr (2, [.int (nI (clN w)), .int 0, .ref (q1), .ref (q2), .ref (q3), .ref (q4), .ref (q5), .ref (q6)])), (q1, .inl (ta 0, 576, .inl (fun _ => 0))), (q2, .inl (ta 0, 576, .inl (fun _ => 0))), (q3, .inl (ta 0, 3, .inl (fun _ => 0))), (q4, .inl (ta 0, 3, .inl (fun _ => 0))), (q5, .inl (ta 0, 3, .inl (fun _ => 0))), (q6, .inl (ta 3, 576, .inl (fun _ => 0)))] := by
      refine nx_putF C 0 1 i_TM t_TM t_TM_ok n_TM rfl rfl (by decide) g_189 rfl rfl rfl rfl (Nat.le_of_ble_eq_true rfl) (ws' := [(o, .inr (2, [.int (nI (clN w)), .int (nI (clN h)), .ref (q1), .ref (q2), .ref (q3), .ref (q4), .ref (q5), .ref (q6)])), (q1, .inl (ta 0, 576, .inl (fun _ => 0))), (q2, .inl (ta 0, 576, .inl (fun _ => 0))), (q3, .inl (ta 0, 3, .inl (fun _ => 0))), (q4, .inl (ta 0, 3, .inl (fun _ => 0))), (q5, .inl (ta 0, 3, .inl (fun _ => 0))), (q6, .inl (ta 3, 576, .inl (fun _ => 0)))]) rfl d_TM_init_89 ?_
      exact hret _ _ _ (adr [o, 0, q1, q2, q3, q4, q5, q6]) d_TM_init_92 rfl
    refine rx_icmp_lt (C.at (by decide) (by decide)) d_TM_init_75 (fun c75 => ?_) (fun c75 => ?_)
    · skip
      refine rx_iconst (C.at (by decide) (by decide)) (nI 1) (by decide) d_TM_init_88 ?_
      refine rx_top (nI (clN h)) (clN_o1 c75) ?_
      exact Kh
    · skip
      refine rx_iload_n (C.at (by decide) (by decide)) 2 rfl d_TM_init_78 ?_
      refine rx_bipush (C.at (by decide) (by decide)) (nI 24) (by decide) d_TM_init_79 ?_
      refine rx_icmp_gt (C.at (by decide) (by decide)) d_TM_init_81 (fun c81 => ?_) (fun c81 => ?_)
      · skip
        refine rx_iconst (C.at (by decide) (by decide)) (nI 1) (by decide) d_TM_init_88 ?_
        refine rx_top (nI (clN h)) (clN_o2 c81) ?_
        exact Kh
      · skip
        refine rx_iload_n (C.at (by decide) (by decide)) 2 rfl d_TM_init_84 ?_
        refine rx_goto (C.at (by decide) (by decide)) d_TM_init_85 ?_
        refine rx_top (nI (clN h)) (clN_in c75 c81) ?_
        exact Kh
  refine rx_icmp_lt (C.at (by decide) (by decide)) d_TM_init_55 (fun c55 => ?_) (fun c55 => ?_)
  · skip
    refine rx_iconst (C.at (by decide) (by decide)) (nI 1) (by decide) d_TM_init_68 ?_
    refine rx_top (nI (clN w)) (clN_o1 c55) ?_
    exact Kw
  · skip
    refine rx_iload_n (C.at (by decide) (by decide)) 1 rfl d_TM_init_58 ?_
    refine rx_bipush (C.at (by decide) (by decide)) (nI 24) (by decide) d_TM_init_59 ?_
    refine rx_icmp_gt (C.at (by decide) (by decide)) d_TM_init_61 (fun c61 => ?_) (fun c61 => ?_)
    · skip
      refine rx_iconst (C.at (by decide) (by decide)) (nI 1) (by decide) d_TM_init_68 ?_
      refine rx_top (nI (clN w)) (clN_o2 c61) ?_
      exact Kw
    · skip
      refine rx_iload_n (C.at (by decide) (by decide)) 1 rfl d_TM_init_64 ?_
      refine rx_goto (C.at (by decide) (by decide)) d_TM_init_65 ?_
      refine rx_top (nI (clN w)) (clN_in c55 c61) ?_
      exact Kw
end
section
/-! ===== the plain law of triangles: edges that grow against edges reckoned anew ===== -/
/-- a vertex list as the classes keep it -/
def vtx (X : Nat → Int32) : Prop := ∀ i, i < 3 → -16384 ≤ (X i).toInt ∧ (X i).toInt ≤ 16384
def B64 (x : Int64) (n : Int) : Prop := -n ≤ x.toInt ∧ x.toInt ≤ n
theorem add64 {x y : Int64} (h1 : -9223372036854775808 ≤ x.toInt + y.toInt) (h2 : x.toInt + y.toInt < 9223372036854775808) : (x + y).toInt = x.toInt + y.toInt := by
  rw [Int64.toInt_add, Int.bmod_eq_of_le] <;> omega
theorem sub64 {x y : Int64} (h1 : -9223372036854775808 ≤ x.toInt - y.toInt) (h2 : x.toInt - y.toInt < 9223372036854775808) : (x - y).toInt = x.toInt - y.toInt := by
  rw [Int64.toInt_sub, Int.bmod_eq_of_le] <;> omega
theorem neg64 {x : Int64} (h1 : -9223372036854775808 < x.toInt) : (-x).toInt = -x.toInt := by
  have := x.toInt_lt
  rw [Int64.toInt_neg, Int.bmod_eq_of_le] <;> omega
theorem mul_bd {a b m n : Int} (ha : -m ≤ a ∧ a ≤ m) (hb : -n ≤ b ∧ b ≤ n) : -(m * n) ≤ a * b ∧ a * b ≤ m * n := by
  have h1 : a.natAbs ≤ m.natAbs := by omega
  have h2 : b.natAbs ≤ n.natAbs := by omega
  have h3 := Nat.mul_le_mul h1 h2
  rw [← Int.natAbs_mul, ← Int.natAbs_mul] at h3
  have h4 : 0 ≤ m * n := Int.mul_nonneg (by omega) (by omega)
  omega
theorem mul64 {x y : Int64} {m n : Int} (hx : B64 x m) (hy : B64 y n) (h : m * n < 9223372036854775808) : (x * y).toInt = x.toInt * y.toInt ∧ B64 (x * y) (m * n) := by
  have hb := mul_bd hx hy
  have e : (x * y).toInt = x.toInt * y.toInt := by
    rw [Int64.toInt_mul, Int.bmod_eq_of_le] <;> omega
  exact ⟨e, by rw [B64, e]; exact hb⟩
theorem to64 (x : Int32) : x.toInt64.toInt = x.toInt := Int32.toInt_toInt64 x
theorem dsub {x y : Int32} (hx : -16384 ≤ x.toInt ∧ x.toInt ≤ 16384) (hy : -16384 ≤ y.toInt ∧ y.toInt ≤ 16384) : (x - y).toInt64 = x.toInt64 - y.toInt64 := by
  apply Int64.toInt_inj.mp
  rw [sub64 (by rw [to64, to64]; omega) (by rw [to64, to64]; omega), to64, to64, to64, sub_toInt (by omega) (by omega)]
theorem d8 {x : Int32} (hx : -16384 ≤ x.toInt ∧ x.toInt ≤ 16384) : (8 - x).toInt64 = 8 - x.toInt64 := dsub (x := 8) (by decide) hx
theorem EZ_eq {X Y : Nat → Int32} (hX : vtx X) (hY : vtx Y) {i j : Nat} (hi : i < 3) (hj : j < 3) (px py : Int64) : EZ X Y i j px py = ((X j).toInt64 - (X i).toInt64) * (py - (Y i).toInt64) - ((Y j).toInt64 - (Y i).toInt64) * (px - (X i).toInt64) := by
  unfold EZ; rw [dsub (hX j hj) (hX i hi), dsub (hY j hj) (hY i hi)]
theorem EZ_neg {X Y : Nat → Int32} (hX : vtx X) (hY : vtx Y) {i j : Nat} (hi : i < 3) (hj : j < 3) (px py : Int64) : EZ X Y j i px py = -EZ X Y i j px py := by
  rw [EZ_eq hX hY hi hj, EZ_eq hX hY hj hi]; grind
theorem EZ_sum {X Y : Nat → Int32} (hX : vtx X) (hY : vtx Y) (px py : Int64) : EZ X Y 1 2 px py + EZ X Y 2 0 px py + EZ X Y 0 1 px py = AZ X Y := by
  unfold AZ
  rw [EZ_eq hX hY (by decide) (by decide), EZ_eq hX hY (by decide) (by decide), EZ_eq hX hY (by decide) (by decide), EZ_eq hX hY (by decide) (by decide)]; grind
theorem RA_AZ {X Y : Nat → Int32} (hX : vtx X) (hY : vtx Y) : RA X Y = AZ X Y := by
  unfold RA AZ EZ
  rw [dsub (hX 2 (by decide)) (hX 0 (by decide)), dsub (hY 2 (by decide)) (hY 0 (by decide))]
theorem ed_EZ {X Y : Nat → Int32} (hX : vtx X) (hY : vtx Y) {i j : Nat} (hi : i < 3) (hj : j < 3) (u v : Int64) : bgE (X i) (Y i) (X j) (Y j) + -((Y j - Y i).toInt64) * 16 * u + (X j - X i).toInt64 * 16 * v = EZ X Y i j (16 * u + 8) (16 * v + 8) := by
  rw [EZ_eq hX hY hi hj]; unfold bgE
  rw [dsub (hX j hj) (hX i hi), dsub (hY j hj) (hY i hi), d8 (hX i hi), d8 (hY i hi)]; grind
theorem nw_EZ {X Y : Nat → Int32} (hX : vtx X) (hY : vtx Y) {i j : Nat} (hi : i < 3) (hj : j < 3) (x y : Nat) : nw X Y i j x y = EZ X Y i j (16 * lN x + 8) (16 * lN y + 8) := by
  rw [← ed_EZ hX hY hi hj]; unfold nw; grind
theorem lt64 {x y : Int64} : x < y ↔ x.toInt < y.toInt := Int64.lt_iff_toInt_lt
theorem le64 {x y : Int64} : x ≤ y ↔ x.toInt ≤ y.toInt := Int64.le_iff_toInt_le
theorem z64 : (0 : Int64).toInt = 0 := rfl
theorem o64 : (1 : Int64).toInt = 1 := rfl
theorem ls_TL {X Y : Nat → Int32} (hX : vtx X) (hY : vtx Y) {i j : Nat} (hi : i < 3) (hj : j < 3) : (TL X Y i j ∧ lsX X Y i j = 0) ∨ (¬ TL X Y i j ∧ lsX X Y i j = 1) := by
  have x1 := hX i hi
  have x2 := hX j hj
  have y1 := hY i hi
  have y2 := hY j hj
  have ex : (X j - X i).toInt64.toInt = (X j).toInt - (X i).toInt := by rw [to64, sub_toInt (by omega) (by omega)]
  have ey : (Y j - Y i).toInt64.toInt = (Y j).toInt - (Y i).toInt := by rw [to64, sub_toInt (by omega) (by omega)]
  have hT : TL X Y i j ↔ ((Y j - Y i).toInt64 < 0 ∨ ((Y j - Y i).toInt64 = 0 ∧ 0 < (X j - X i).toInt64)) := by
    unfold TL
    rw [lt64, lt64, ← Int64.toInt_inj, ex, ey, z64, Int32.lt_iff_toInt_lt, Int32.lt_iff_toInt_lt, ← Int32.toInt_inj]
    omega
  unfold lsX lsE
  by_cases h : TL X Y i j
  · exact Or.inl ⟨h, by rw [if_pos (hT.mp h)]; rfl⟩
  · exact Or.inr ⟨h, by rw [if_neg (fun q => h (hT.mpr q))]; rfl⟩
theorem in_INS {X Y : Nat → Int32} (hX : vtx X) (hY : vtx Y) {i j : Nat} (hi : i < 3) (hj : j < 3) (px py : Int64) : lsX X Y i j ≤ EZ X Y i j px py ↔ INS X Y i j px py := by
  unfold INS
  generalize EZ X Y i j px py = E
  rw [le64, lt64, ← Int64.toInt_inj, z64]
  rcases ls_TL hX hY hi hj with ⟨h1, h2⟩ | ⟨h1, h2⟩ <;> rw [h2]
  · rw [z64]
    constructor
    · intro q
      by_cases e : E.toInt = 0
      · exact Or.inr ⟨e, h1⟩
      · exact Or.inl (by omega)
    · rintro (q | q)
      · omega
      · omega
  · rw [o64]
    constructor
    · intro q; exact Or.inl (by omega)
    · rintro (q | q)
      · omega
      · exact absurd q.2 h1
theorem INS_ge {X Y : Nat → Int32} {i j : Nat} {px py : Int64} (h : INS X Y i j px py) : 0 ≤ (EZ X Y i j px py).toInt := by
  rcases h with h | h
  · have := lt64.mp h; rw [z64] at this; omega
  · rw [h.1, z64]; omega
theorem absA_0 {X Y : Nat → Int32} : absA X Y = 0 ↔ RA X Y = 0 := by
  unfold absA
  split
  · exact Iff.rfl
  · constructor
    · intro h; grind
    · intro h; rw [h]; rfl
/-- covers -/
theorem cov_law {X Y : Nat → Int32} (hX : vtx X) (hY : vtx Y) (x y : Int32) : (¬ absA X Y = 0 ∧ ((RA X Y < 0 ∧ inE X Y 0 2 x y ∧ inE X Y 2 1 x y ∧ inE X Y 1 0 x y) ∨ (¬ RA X Y < 0 ∧ inE X Y 0 1 x y ∧ inE X Y 1 2 x y ∧ inE X Y 2 0 x y))) ↔ CV X Y (16 * x.toInt64 + 8) (16 * y.toInt64 + 8) := by
  have hin : ∀ i j, i < 3 → j < 3 → (inE X Y i j x y ↔ INS X Y i j (16 * x.toInt64 + 8) (16 * y.toInt64 + 8)) := fun i j hi hj => by
    rw [← in_INS hX hY hi hj, ← ed_EZ hX hY hi hj]; exact Iff.rfl
  rw [hin 0 2 (by decide) (by decide), hin 2 1 (by decide) (by decide), hin 1 0 (by decide) (by decide), hin 0 1 (by decide) (by decide), hin 1 2 (by decide) (by decide), hin 2 0 (by decide) (by decide), absA_0, RA_AZ hX hY]
  unfold CV
  have a1 : (0 < AZ X Y) ↔ (¬ AZ X Y < 0 ∧ ¬ AZ X Y = 0) := by rw [lt64, lt64, ← Int64.toInt_inj, z64]; omega
  have a2 : AZ X Y < 0 → ¬ AZ X Y = 0 := by rw [lt64, ← Int64.toInt_inj, z64]; omega
  constructor
  · rintro ⟨h0, ⟨h1, h2⟩ | ⟨h1, h2⟩⟩
    · exact Or.inr ⟨fun q => (a1.mp q).1 h1, h1, h2⟩
    · exact Or.inl ⟨a1.mpr ⟨h1, h0⟩, h2⟩
  · rintro (⟨h1, h2⟩ | ⟨h1, h2, h3⟩)
    · exact ⟨(a1.mp h1).2, Or.inr ⟨(a1.mp h1).1, h2⟩⟩
    · exact ⟨a2 h2, Or.inl ⟨h2, h3⟩⟩
end
section
theorem EZ_bd {X Y : Nat → Int32} (hX : vtx X) (hY : vtx Y) {i j : Nat} (hi : i < 3) (hj : j < 3) {px py : Int64} (hp : B64 px 16384) (hq : B64 py 16384) : B64 (EZ X Y i j px py) 2147483648 := by
  rw [EZ_eq hX hY hi hj]
  have b : ∀ {u v : Int64}, B64 u 16384 → B64 v 16384 → B64 (u - v) 32768 := fun {u v} hu hv => by
    obtain ⟨u1, u2⟩ := hu
    obtain ⟨v1, v2⟩ := hv
    unfold B64; rw [sub64 (by omega) (by omega)]; omega
  have c : ∀ {Z : Nat → Int32}, vtx Z → ∀ {i}, i < 3 → B64 (Z i).toInt64 16384 := fun hZ i hi => by
    unfold B64; rw [to64]; exact hZ _ hi
  have m1 := (mul64 (b (c hX hj) (c hX hi)) (b hq (c hY hi)) (by decide)).2
  have m2 := (mul64 (b (c hY hj) (c hY hi)) (b hp (c hX hi)) (by decide)).2
  obtain ⟨u1, u2⟩ := m1
  obtain ⟨v1, v2⟩ := m2
  unfold B64; rw [sub64 (by omega) (by omega)]; omega
theorem AZ_bd {X Y : Nat → Int32} (hX : vtx X) (hY : vtx Y) : B64 (AZ X Y) 2147483648 := by
  refine EZ_bd hX hY (by decide) (by decide) ?_ ?_
  · unfold B64; rw [to64]; exact hX 2 (by decide)
  · unfold B64; rw [to64]; exact hY 2 (by decide)
/-- a depth between three depths -/
theorem dep_core {F1 F2 F0 z0 z1 z2 A : Int64} (f1 : 0 ≤ F1.toInt ∧ F1.toInt ≤ 2147483648) (f2 : 0 ≤ F2.toInt ∧ F2.toInt ≤ 2147483648) (f0 : 0 ≤ F0.toInt ∧ F0.toInt ≤ 2147483648) (h0 : 0 ≤ z0.toInt ∧ z0.toInt ≤ 32768) (h1 : 0 ≤ z1.toInt ∧ z1.toInt ≤ 32768) (h2 : 0 ≤ z2.toInt ∧ z2.toInt ≤ 32768) (hA : A = F1 + F2 + F0) (hp : 0 < A.toInt) :
    (0 ≤ ((F1 * z0 + F2 * z1 + F0 * z2) / A).toInt ∧ ((F1 * z0 + F2 * z1 + F0 * z2) / A).toInt ≤ 32768) ∧ (-(F1 * z0 + F2 * z1 + F0 * z2)) / (-A) = (F1 * z0 + F2 * z1 + F0 * z2) / A := by
  have ea : A.toInt = F1.toInt + F2.toInt + F0.toInt := by
    rw [hA, add64, add64] <;> (try rw [add64]) <;> omega
  have key : ∀ {F z : Int64}, 0 ≤ F.toInt ∧ F.toInt ≤ 2147483648 → 0 ≤ z.toInt ∧ z.toInt ≤ 32768 → (F * z).toInt = F.toInt * z.toInt ∧ 0 ≤ F.toInt * z.toInt ∧ F.toInt * z.toInt ≤ F.toInt * 32768 := fun {F z} hF hz => by
    refine ⟨(mul64 (m := 2147483648) (n := 32768) ⟨by omega, by omega⟩ ⟨by omega, by omega⟩ (by decide)).1, Int.mul_nonneg hF.1 hz.1, Int.mul_le_mul_of_nonneg_left hz.2 hF.1⟩
  obtain ⟨a1, b1, c1⟩ := key f1 h0
  obtain ⟨a2, b2, c2⟩ := key f2 h1
  obtain ⟨a0, b0, c0⟩ := key f0 h2
  have en : (F1 * z0 + F2 * z1 + F0 * z2).toInt = F1.toInt * z0.toInt + F2.toInt * z1.toInt + F0.toInt * z2.toInt := by
    rw [add64, add64] <;> (try rw [add64]) <;> omega
  generalize F1 * z0 + F2 * z1 + F0 * z2 = N at en ⊢
  have hn0 : 0 ≤ N.toInt := by omega
  have hn1 : N.toInt ≤ 32768 * A.toInt := by omega
  have mv : ∀ z : Int64, -9223372036854775808 < z.toInt → z ≠ Int64.minValue := fun z hz q => by rw [q] at hz; exact absurd hz (by decide)
  have d1 : (N / A).toInt = N.toInt.tdiv A.toInt := Int64.toInt_div_of_ne_left N A (mv N (by omega))
  have nn : (-N).toInt = -N.toInt := neg64 (by omega)
  have na : (-A).toInt = -A.toInt := neg64 (by omega)
  have d2 : (-N / -A).toInt = (-N).toInt.tdiv (-A).toInt := Int64.toInt_div_of_ne_left (-N) (-A) (mv (-N) (by omega))
  refine ⟨?_, Int64.toInt_inj.mp (by rw [d1, d2, nn, na, Int.neg_tdiv_neg])⟩
  rw [d1, Int.tdiv_eq_ediv_of_nonneg hn0]
  exact ⟨Int.ediv_nonneg hn0 (by omega), Int.ediv_le_of_le_mul hp hn1⟩
theorem small32 {d : Int64} (h : 0 ≤ d.toInt ∧ d.toInt ≤ 32768) : d.toInt32.toInt = d.toInt := by
  rw [Int64.toInt_toInt32, Int.bmod_eq_of_le] <;> omega
theorem chr_id {d : Int64} (h : 0 ≤ d.toInt ∧ d.toInt ≤ 32768) : chr d = d.toInt32 := by
  have e := small32 h
  refine char_id ?_ ?_
  · rw [Int32.lt_iff_toInt_lt, e]; show ¬ _ < (0 : Int); omega
  · rw [Int32.lt_iff_toInt_lt, e]; show ¬ (65535 : Int) < _; omega
theorem lt_dep {d : Int64} (h : 0 ≤ d.toInt ∧ d.toInt ≤ 32768) (c : Int32) : d < c.toInt64 ↔ d.toInt32 < c := by
  rw [lt64, to64, Int32.lt_iff_toInt_lt, small32 h]
/-- one pixel of a triangle: the raster and the model agree -/
theorem tri_law {X Y Z : Nat → Int32} (hX : vtx X) (hY : vtx Y) (hZ : ∀ i, i < 3 → 0 ≤ (Z i).toInt ∧ (Z i).toInt ≤ 32768) {q1 q2 : Nat} (ho : ordP X Y (q1, q2)) (hA : 0 < absA X Y) {x y : Nat} (hx : x < 24) (hy : y < 24) (d : Int32) :
    (hitXY X Y Z q1 q2 d x y ↔ hitMXY X Y Z d x y) ∧ (hitXY X Y Z q1 q2 d x y → chr (dpR X Y Z q1 q2 x y) = (DP X Y Z (16 * (nI x).toInt64 + 8) (16 * (nI y).toInt64 + 8)).toInt32 ∧ 0 ≤ (chr (dpR X Y Z q1 q2 x y)).toInt ∧ (chr (dpR X Y Z q1 q2 x y)).toInt ≤ 65535) := by
  have hz := z64
  have hab := AZ_bd hX hY
  unfold hitXY hitMXY dpR DP absA at *
  rw [RA_AZ hX hY] at *
  unfold ordP at ho
  rw [RA_AZ hX hY] at ho
  rw [nI_l (by omega), nI_l (by omega)]
  have hpx : ∀ {z : Nat}, z < 24 → B64 (16 * lN z + 8) 16384 := fun {z} hz => by
    have e : 16 * lN z + 8 = lN (16 * z + 8) := by rw [show (16 : Int64) = lN 16 from rfl, show (8 : Int64) = lN 8 from rfl, lN_mul, lN_add]
    unfold B64; rw [e, lN_toInt (by omega)]; omega
  have bd : ∀ {i j}, i < 3 → j < 3 → B64 (EZ X Y i j (16 * lN x + 8) (16 * lN y + 8)) 2147483648 := fun hi hj => EZ_bd hX hY hi hj (hpx hx) (hpx hy)
  have nwE : ∀ {i j}, i < 3 → j < 3 → nw X Y i j x y = EZ X Y i j (16 * lN x + 8) (16 * lN y + 8) := fun hi hj => nw_EZ hX hY hi hj x y
  have zz : ∀ {i}, i < 3 → 0 ≤ (Z i).toInt64.toInt ∧ (Z i).toInt64.toInt ≤ 32768 := fun hi => by rw [to64]; exact hZ _ hi
  have hs := EZ_sum hX hY (16 * lN x + 8) (16 * lN y + 8)
  generalize 16 * lN x + 8 = px at *
  generalize 16 * lN y + 8 = py at *
  have h3 : ∀ i, i = 0 ∨ i = 1 ∨ i = 2 → i < 3 := fun i h => by omega
  rcases ho with ⟨hneg, hq⟩ | ⟨hneg, hq⟩
  · obtain ⟨rfl, rfl⟩ := Prod.mk.injEq _ _ _ _ ▸ hq
    have hn := lt64.mp hneg
    rw [hz] at hn
    have hpos : ¬ 0 < AZ X Y := fun q => by have := lt64.mp q; rw [hz] at this; omega
    rw [if_neg hpos] at hA ⊢
    rw [nwE (h3 0 (by decide)) (h3 2 (by decide)), nwE (h3 2 (by decide)) (h3 1 (by decide)), nwE (h3 1 (by decide)) (h3 0 (by decide)), in_INS hX hY (by decide) (by decide), in_INS hX hY (by decide) (by decide), in_INS hX hY (by decide) (by decide)]
    have core : INS X Y 0 2 px py ∧ INS X Y 2 1 px py ∧ INS X Y 1 0 px py → (0 ≤ ((EZ X Y 2 1 px py * (Z 0).toInt64 + EZ X Y 1 0 px py * (Z 2).toInt64 + EZ X Y 0 2 px py * (Z 1).toInt64) / -AZ X Y).toInt ∧ ((EZ X Y 2 1 px py * (Z 0).toInt64 + EZ X Y 1 0 px py * (Z 2).toInt64 + EZ X Y 0 2 px py * (Z 1).toInt64) / -AZ X Y).toInt ≤ 32768) ∧ (EZ X Y 2 1 px py * (Z 0).toInt64 + EZ X Y 1 0 px py * (Z 2).toInt64 + EZ X Y 0 2 px py * (Z 1).toInt64) / -AZ X Y = (EZ X Y 1 2 px py * (Z 0).toInt64 + EZ X Y 2 0 px py * (Z 1).toInt64 + EZ X Y 0 1 px py * (Z 2).toInt64) / AZ X Y := by
      rintro ⟨i1, i2, i3⟩
      have e1 := EZ_neg hX hY (i := 1) (j := 2) (by decide) (by decide) px py
      have e2 := EZ_neg hX hY (i := 0) (j := 1) (by decide) (by decide) px py
      have e3 := EZ_neg hX hY (i := 2) (j := 0) (by decide) (by decide) px py
      have na : (-AZ X Y).toInt = -(AZ X Y).toInt := neg64 (by have := hab.1; omega)
      have k := dep_core (F1 := EZ X Y 2 1 px py) (F2 := EZ X Y 1 0 px py) (F0 := EZ X Y 0 2 px py) (z0 := (Z 0).toInt64) (z1 := (Z 2).toInt64) (z2 := (Z 1).toInt64) (A := -AZ X Y) ⟨INS_ge i2, (bd (by decide) (by decide)).2⟩ ⟨INS_ge i3, (bd (by decide) (by decide)).2⟩ ⟨INS_ge i1, (bd (by decide) (by decide)).2⟩ (zz (by decide)) (zz (by decide)) (zz (by decide)) (by rw [e1, e2, e3, ← hs]; grind) (by omega)
      refine ⟨k.1, k.2.symm.trans ?_⟩
      rw [e1, e2, e3]
      congr 1 <;> grind
    constructor
    · constructor
      · rintro ⟨i1, i2, i3, i4⟩
        obtain ⟨k1, k2⟩ := core ⟨i1, i2, i3⟩
        refine ⟨Or.inr ⟨hpos, hneg, i1, i2, i3⟩, ?_⟩
        rw [← k2]; exact (lt_dep k1 d).mp i4
      · rintro ⟨i1 | ⟨-, -, i1, i2, i3⟩, i4⟩
        · exact absurd i1.1 hpos
        · obtain ⟨k1, k2⟩ := core ⟨i1, i2, i3⟩
          rw [← k2] at i4
          exact ⟨i1, i2, i3, (lt_dep k1 d).mpr i4⟩
    · rintro ⟨i1, i2, i3, i4⟩
      obtain ⟨k1, k2⟩ := core ⟨i1, i2, i3⟩
      rw [chr_id k1, small32 k1, ← k2]
      exact ⟨rfl, k1.1, by omega⟩
  · obtain ⟨rfl, rfl⟩ := Prod.mk.injEq _ _ _ _ ▸ hq
    have hn := mt lt64.mpr hneg
    rw [hz] at hn
    have hpos : 0 < AZ X Y := by
      by_cases q : 0 < AZ X Y
      · exact q
      · rw [if_neg q] at hA
        have h1 := mt lt64.mpr q
        have h2 := lt64.mp hA
        rw [hz] at h1 h2
        rw [neg64 (by have := hab.1; omega)] at h2
        omega
    have hn2 := lt64.mp hpos
    rw [hz] at hn2
    rw [if_pos hpos] at hA ⊢
    rw [nwE (h3 0 (by decide)) (h3 1 (by decide)), nwE (h3 1 (by decide)) (h3 2 (by decide)), nwE (h3 2 (by decide)) (h3 0 (by decide)), in_INS hX hY (by decide) (by decide), in_INS hX hY (by decide) (by decide), in_INS hX hY (by decide) (by decide)]
    have core : INS X Y 0 1 px py ∧ INS X Y 1 2 px py ∧ INS X Y 2 0 px py → (0 ≤ ((EZ X Y 1 2 px py * (Z 0).toInt64 + EZ X Y 2 0 px py * (Z 1).toInt64 + EZ X Y 0 1 px py * (Z 2).toInt64) / AZ X Y).toInt ∧ ((EZ X Y 1 2 px py * (Z 0).toInt64 + EZ X Y 2 0 px py * (Z 1).toInt64 + EZ X Y 0 1 px py * (Z 2).toInt64) / AZ X Y).toInt ≤ 32768) := by
      rintro ⟨i1, i2, i3⟩
      exact (dep_core ⟨INS_ge i2, (bd (by decide) (by decide)).2⟩ ⟨INS_ge i3, (bd (by decide) (by decide)).2⟩ ⟨INS_ge i1, (bd (by decide) (by decide)).2⟩ (zz (by decide)) (zz (by decide)) (zz (by decide)) hs.symm hn2).1
    constructor
    · constructor
      · rintro ⟨i1, i2, i3, i4⟩
        exact ⟨Or.inl ⟨hpos, i1, i2, i3⟩, (lt_dep (core ⟨i1, i2, i3⟩) d).mp i4⟩
      · rintro ⟨⟨-, i1, i2, i3⟩ | i1, i4⟩
        · exact ⟨i1, i2, i3, (lt_dep (core ⟨i1, i2, i3⟩) d).mpr i4⟩
        · exact absurd hpos i1.1
    · rintro ⟨i1, i2, i3, i4⟩
      have k1 := core ⟨i1, i2, i3⟩
      rw [chr_id k1, small32 k1]
      exact ⟨rfl, k1.1, by omega⟩
theorem flat_law {X Y : Nat → Int32} (hX : vtx X) (hY : vtx Y) (hA : ¬ 0 < absA X Y) (px py : Int64) : ¬ CV X Y px py := by
  intro h
  have hz := z64
  have hab := AZ_bd hX hY
  have h0 := CV_A h
  rw [← Int64.toInt_inj, hz] at h0
  unfold absA at hA
  rw [RA_AZ hX hY] at hA
  split at hA
  · rename_i q; exact hA q
  · rename_i q
    have q := mt lt64.mpr q
    have h2 := mt lt64.mpr hA
    rw [hz] at q h2
    rw [neg64 (by have := hab.1; omega)] at h2
    omega
end
section
/-! ===== the law's own walk: its script, its two objects ===== -/
def CXL (l : Launch) (D : va_G) (ta : Nat → ClassId) (b L : Nat) (sc : Nat → Int32) (G : GN) : Prop :=
  ∃ (p : Program) (e : Env) (s : State) (m : MethodId) (below : List Frame) (meth : Method) (c : Code),
    p.tables.exec = Jvm.exec ∧ c.code = code ∧ meth.sig.returnType = ret ∧ c.maxLocals = 4 ∧ s.vm.findClass "TriangleRasterLaw" = some m.cls ∧ (∀ w ∈ gw, w.before #[Value.ref b] s = true) ∧ va_K D cls3 (tys ta) s ∧ va_X b L sc s s.heap ∧ b < s.heap.size ∧ meth.locks = false ∧ va_Nw nestW s ∧ va_AO "TriangleRaster$Edge" s ∧
    G = fun ck cs pc lv st ws => ∀ (ls : Array Slot) (H : Heap) (locs : List Loc), lv_has ls 4 lv → va_P D cls3 ws H → va_D (fun q : Nat => s.heap.size ≤ q) ws → va_S (fun q : Nat => s.heap.size ≤ q) s.heap H locs → W p l e room_1 s m #[Value.ref b] below meth c H locs ck cs (lw_Z below #[Value.ref b] s) (F0 m pc ls st)
theorem CXL.at {l : Launch} {D : va_G} {ta : Nat → ClassId} {b L : Nat} {sc : Nat → Int32} {G : GN} {ck cs : Nat} (C : CXL l D ta b L sc G) (h1 : ck ≤ room_1.cells) (h2 : cs ≤ room_1.slots) : CX l code 4 "TriangleRasterLaw" room_1 D ta (G ck cs) := by
  obtain ⟨p, e, s, m, below, meth, c, hx, hb, hr, hml, ho, hts, hK, hX, hbl, hlk, hnw, hao, rfl⟩ := C
  exact ⟨p, e, s, m, _, below, meth, c, _, s.heap, _, ck, cs, hx, hb, hml, ho, hts, hK, h1, h2, rfl⟩
def scv (L : Nat) (sc : Nat → Int32) (k : Nat) : Int32 := if k < L then sc k else 0
set_option maxHeartbeats 4000000 in
/-- cell(script, k) -/
theorem c_cell (l : Launch) (b L k : Nat) (sc : Nat → Int32) (hk : k < 1000) (hL : L < 2 ^ 31) : Met l y_LW_cell (.code y_LW_cell b_LW_cell 2 (some .int) :: gw) rm_LW_cell (va_Pc [.ref b, .int (nI k)] (fun U => va_X b L sc U U.heap ∧ b < U.heap.size)) (vp_Si (fun r => r = scv L sc k)) 0 0 (fun _ => False) := by
  refine Met.ofW (cc := b_LW_cell) (maxL := 2) (ret := some .int) (by decide) rfl ?_
  intro p e s m args below meth c s₁ B hml hv
  obtain ⟨rfl, hX, hbl⟩ := hv
  have hx := B.exec
  have hb := B.bytes
  have hr := B.returns
  have hlocks := B.notSynchronized
  have hS : va_S (fun _ => False) s.heap s.heap [] := va_S.rf
  have hl := lv_entry ([.ref b, .int (nI k)]) (n := 2) (Nat.le_of_ble_eq_true rfl)
  rw [lg_entry_eq]
  generalize (lg_sl ([.ref b, .int (nI k)]) ++ List.replicate (2 - (lg_sl ([.ref b, .int (nI k)])).length) Slot.unset).toArray = ls at hl ⊢
  have hl : lv_has ls 2 [(0, .ref b), (1, .int (nI k))] := hl
  refine lv_iload_n hx hb d_LW_cell_0.1 rfl (lv_at hl 1 rfl) ?_
  refine lv_aload_n hx hb d_LW_cell_1.1 rfl (lv_at hl 0 rfl) ?_
  refine va_slen hx hb hX hbl (fun q => q) hS d_LW_cell_2.1 ?_
  refine lv_icmp_ge (tgt := 12) hx hb d_LW_cell_3.1 (by decide) (fun h => ?_) (fun h => ?_)
  · have h : nI L ≤ nI k := h
    rw [nI_leI hL (by omega)] at h
    refine lv_iconst (v := 0) hx hb d_LW_cell_12.1 (by decide) ?_
    refine W.iret hx hb hr (fun t ht hW => ⟨0, rfl, ?_, ht⟩) (fun q h => by cases h) d_LW_cell_13.1
    show 0 = scv L sc k
    rw [scv, if_neg (by omega)]
  · have h : ¬ nI L ≤ nI k := h
    rw [nI_leI hL (by omega)] at h
    refine lv_aload_n hx hb d_LW_cell_6.1 rfl (lv_at hl 0 rfl) ?_
    refine lv_iload_n hx hb d_LW_cell_7.1 rfl (lv_at hl 1 rfl) ?_
    refine va_sld hx hb hX hbl (fun q => q) hS (vp_in_nI (by omega) hL) d_LW_cell_8.1 ?_
    refine lv_goto (tgt := 13) hx hb d_LW_cell_9.1 (by decide) ?_
    refine W.iret hx hb hr (fun t ht hW => ⟨_, rfl, ?_, ht⟩) (fun q h => by cases h) d_LW_cell_13.1
    show sc _ = scv L sc k
    rw [scv, if_pos (by omega), nI_clamp (by omega)]
section LX
variable {l : Launch} {D : va_G} {ta : Nat → ClassId} {b L : Nat} {sc : Nat → Int32} {G : GN} {pc pc' ck cs ck' cs' : Nat} {lv : List (Nat × Value)} {st : List Value} {ws : va_W}
theorem lx_sld (C : CXL l D ta b L sc G) {i : Int32} (j : Nat) (hi : i = nI j) (hj : j < L) (hL : L < 2 ^ 31) (hd : Dc code pc .iaload 1 pc') (k : G ck cs pc' lv (.int (sc j) :: st) ws) : G ck cs pc lv (.int i :: .ref b :: st) ws := by
  obtain ⟨p, e, s, m, below, meth, c, hx, hb, hr, hml, ho, hts, hK, hX, hbl, hlk, hnw, hao, rfl⟩ := C
  obtain ⟨hd, rfl⟩ := hd
  subst hi
  refine fun ls H locs hl hP hD hS => va_sld hx hb hX hbl (Nat.not_le.mpr hbl) hS (vp_in_nI hj hL) hd ?_
  rw [nI_clamp (by omega)]
  exact k ls H locs hl hP hD hS
theorem lx_slen (C : CXL l D ta b L sc G) (hd : Dc code pc .arraylength 1 pc') (k : G ck cs pc' lv (.int (nI L) :: st) ws) : G ck cs pc lv (.ref b :: st) ws := by
  obtain ⟨p, e, s, m, below, meth, c, hx, hb, hr, hml, ho, hts, hK, hX, hbl, hlk, hnw, hao, rfl⟩ := C
  obtain ⟨hd, rfl⟩ := hd
  exact fun ls H locs hl hP hD hS => va_slen hx hb hX hbl (Nat.not_le.mpr hbl) hS hd (k ls H locs hl hP hD hS)
theorem lx_ret (C : CXL l D ta b L sc G) (h1 : ck ≤ 600000) (h2 : cs ≤ 7302250) (hd : Dc code pc .ireturn 1 pc') : G ck cs pc lv [.int (nI 1)] ws := by
  obtain ⟨p, e, s, m, below, meth, c, hx, hb, hr, hml, ho, hts, hK, hX, hbl, hlk, hnw, hao, rfl⟩ := C
  obtain ⟨hd, rfl⟩ := hd
  refine fun ls H locs hl hP hD hS => va_forget (fun q hq => hS.2.2 q hq) ?_
  refine W.widen h1 h2 ?_
  exact lw_ret hx hb hr hlk hd
theorem lx_tsw (C : CXL l D ta b L sc G) {d : Int} {offs : Array Int} {len : Nat} {x : Int32} (j : Nat) (off : Int) (tgt : Nat) (hx0 : x = nI j) (hj : j < 10) (hd : Dc code pc (.tableswitch d 0 9 offs) len pc') (ho0 : offs[j]? = some off) (ht : (pc : Int) + off = tgt) (k : G ck cs tgt lv st ws) : G ck cs pc lv (.int x :: st) ws := by
  obtain ⟨p, e, s, m, below, meth, c, hx, hb, hr, hml, ho, hts, hK, hX, hbl, hlk, hnw, hao, rfl⟩ := C
  obtain ⟨hd, rfl⟩ := hd
  subst hx0
  have e1 : (nI j).toInt = (j : Int) := nI_toInt (by omega)
  exact fun ls H locs hl hP hD hS => lv_tableIn hx hb hd (by rw [e1]; omega) (by rw [e1]; omega) (by rw [e1, show ((j : Int) - 0).toNat = j by omega]; exact ho0) ht (k ls H locs hl hP hD hS)
theorem lx_tswD (C : CXL l D ta b L sc G) {d : Int} {offs : Array Int} {len : Nat} {x : Int32} (j : Nat) (tgt : Nat) (hx0 : x = nI j) (hj : 9 < j) (hj2 : j < 1000) (hd : Dc code pc (.tableswitch d 0 9 offs) len pc') (ht : (pc : Int) + d = tgt) (k : G ck cs tgt lv st ws) : G ck cs pc lv (.int x :: st) ws := by
  obtain ⟨p, e, s, m, below, meth, c, hx, hb, hr, hml, ho, hts, hK, hX, hbl, hlk, hnw, hao, rfl⟩ := C
  obtain ⟨hd, rfl⟩ := hd
  subst hx0
  have e1 : (nI j).toInt = (j : Int) := nI_toInt (by omega)
  exact fun ls H locs hl hP hD hS => lv_tableOut hx hb hd (Or.inr (by rw [e1]; omega)) ht (k ls H locs hl hP hD hS)
theorem lx_cell (C : CXL l D ta b L sc G) (j : Nat) (hj : j < 1000) (hL : L < 2 ^ 31) (hck : ck ≤ room_1.cells ∧ cs ≤ room_1.slots) (hrest : (st.map fun v => v.category).sum ≤ 8) (hd : Dc code pc (.invokestatic 9) 3 pc') (k : G ck cs pc' lv (.int (scv L sc j) :: st) ws) : G ck cs pc lv (.int (nI j) :: .ref b :: st) ws := by
  obtain ⟨p, e, s, m, below, meth, c, hx, hb, hr, hml, ho, hts, hK, hX, hbl, hlk, hnw, hao, rfl⟩ := C
  obtain ⟨hd, rfl⟩ := hd
  intro ls H locs hl hP hD hS
  have hXH : va_X b L sc s H := hX.kept (hS.2.1 b hbl (Nat.not_le.mpr hbl))
  refine vp_callSi (va_Run.run (va_runS (As := [.ref b, .int (nI j)]) (rest := st) ⟨hx, hb, hml, ho, hts⟩ (c_cell l b L j sc hj hL) ⟨callB_of 2 hts (gw_code g_181) rfl rfl rfl (hts _ g_0) (hts _ g_179) ⟨by decide, by decide, by decide +kernel⟩ (by decide), hts _ g_180⟩ ⟨fun a U g mk q => ?_, fun U hU hW => ⟨rfl, by rw [hU]; exact hXH.moved hW.alike, by rw [hU]; exact Nat.lt_of_lt_of_le hbl hS.1⟩⟩ rfl rfl hl.1 rfl (lv_room hrest) hd hck)) (fun r hp => ?_)
  · obtain ⟨q0, q1, q2⟩ := q
    exact ⟨q0, va_X.moved (u := U) (U := U.calling g mk a) (Vm.Alike.refl U.vm) q1, q2⟩
  · rw [hp]
    exact k ls H locs hl hP hD hS
theorem lx_newTR (C : CXL l D ta b L sc G) (h1 : ck + 1 = ck') (h2 : cs + 11 = cs') (hR : ck' ≤ room_1.cells ∧ cs' ≤ room_1.slots) (hd : Dc code pc (.new 7) 3 pc') (k : ∀ q : Nat, G ck' cs' pc' lv (.ref q :: st) (ws ++ [(q, .inr (0, [.int 0, .int 0, .null, .null, .null, .null, .null, .null, .null, .null, .null]))])) : G ck cs pc lv st ws := by
  obtain ⟨p, e, s, m, below, meth, c, hx, hb, hr, hml, ho, hts, hK, hX, hbl, hlk, hnw, hao, rfl⟩ := C
  obtain ⟨hd, rfl⟩ := hd
  subst h1; subst h2
  exact fun ls H locs hl hP hD hS => va_new (ci := 0) (fs := [.int 0, .int 0, .null, .null, .null, .null, .null, .null, .null, .null, .null]) (C := R_TR) (T := F_TR) (N := 11) hx hb hts i_TR t_TR t_TR_ok ho (hts _ g_6) (hts _ g_7) (hts _ g_1) hK hP hD hS (fun _ h => h) rfl (fun j hj => by rcases (show j = 0 ∨ j = 1 ∨ j = 2 ∨ j = 3 ∨ j = 4 ∨ j = 5 ∨ j = 6 ∨ j = 7 ∨ j = 8 ∨ j = 9 ∨ j = 10 by omega) with rfl | rfl | rfl | rfl | rfl | rfl | rfl | rfl | rfl | rfl | rfl <;> rfl) hR.1 hR.2 hd (fun q H1 hP1 hD1 hS1 => k q ls H1 locs hl hP1 hD1 hS1)
theorem lx_newTM (C : CXL l D ta b L sc G) (h1 : ck + 1 = ck') (h2 : cs + 8 = cs') (hR : ck' ≤ room_1.cells ∧ cs' ≤ room_1.slots) (hd : Dc code pc (.new 18) 3 pc') (k : ∀ q : Nat, G ck' cs' pc' lv (.ref q :: st) (ws ++ [(q, .inr (2, [.int 0, .int 0, .null, .null, .null, .null, .null, .null]))])) : G ck cs pc lv st ws := by
  obtain ⟨p, e, s, m, below, meth, c, hx, hb, hr, hml, ho, hts, hK, hX, hbl, hlk, hnw, hao, rfl⟩ := C
  obtain ⟨hd, rfl⟩ := hd
  subst h1; subst h2
  exact fun ls H locs hl hP hD hS => va_new (ci := 2) (fs := [.int 0, .int 0, .null, .null, .null, .null, .null, .null]) (C := R_TM) (T := F_TM) (N := 8) hx hb hts i_TM t_TM t_TM_ok ho (hts _ g_182) (hts _ g_183) (hts _ g_3) hK hP hD hS (fun _ h => h) rfl (fun j hj => by rcases (show j = 0 ∨ j = 1 ∨ j = 2 ∨ j = 3 ∨ j = 4 ∨ j = 5 ∨ j = 6 ∨ j = 7 by omega) with rfl | rfl | rfl | rfl | rfl | rfl | rfl | rfl <;> rfl) hR.1 hR.2 hd (fun q H1 hP1 hD1 hS1 => k q ls H1 locs hl hP1 hD1 hS1)
/-- a constructor that makes cells, called by the law -/
theorem lx_init (C : CXL l D ta b L sc G) {y : MethodName} {bb : ByteArray} {mL mc ms idx q : Nat} {rm : Room} {w h : Int32} {ex : va_E} {wr : va_W} {wf : (Nat → Nat) → va_W} (isR : List Nat) (qx : Nat) (hM : ∀ sz, Ctn l y bb mL rm D ta sz [.ref q, .int w, .int h] [(q, ex)] wf (fun a => a 0 = q) mc ms) (hcode : Cond.code y bb mL none ∈ gw) (hini : Cond.initialized y.cls ∈ gw) (hlk0 : Cond.methodLink "TriangleRasterLaw" idx y ∈ gw) (hinst : Cond.instanceMethod y ∈ gw) (hyn : y.name = "<init>") (hmh : y.cls ≠ "java/lang/invoke/MethodHandle" ∧ y.cls ≠ "java/lang/invoke/VarHandle" ∧ (parseMethodDescriptor y.desc).map (fun d => d.parameters.length) = some 2) (hr0 : rm.cells = mc ∧ rm.slots = ms ∧ rm.frames + 1 ≤ room_1.frames ∧ 8 + (mL + 11) + rm.locals ≤ room_1.locals)
    (he : ws[qx]? = some (q, ex)) (hR : isR.map (fun i => ws[i]?) = wr.map some) (hn : va_nd isR = true) (hdis : ∀ i ∈ isR, i ∉ [qx]) (h1 : ck + mc = ck') (h2 : cs + ms = cs') (hck : ck' ≤ room_1.cells ∧ cs' ≤ room_1.slots) (hrest : (st.map fun v => v.category).sum ≤ 8) (hd : Dc code pc (.invokespecial idx) 3 pc') (k : ∀ a : Nat → Nat, a 0 = q → G ck' cs' pc' lv st (wr ++ wf a)) : G ck cs pc lv (.int h :: .int w :: .ref q :: st) ws := by
  obtain ⟨p, e, s, m, below, meth, c, hx, hb, hr, hml, ho, hts, hK, hX, hbl, hlk, hnw, hao, rfl⟩ := C
  obtain ⟨hd, rfl⟩ := hd
  subst h1; subst h2
  intro ls H locs hl hP hD hS
  have hC : [qx].map (fun i => ws[i]?) = [(q, ex)].map some := by simp [he]
  have hPc := cut_P hP hC
  have hDc := hD.sub [qx] (by simp [va_nd]) hC
  have hFc := va_free (wc := [(q, ex)]) hD hS (fun _ h => h) [qx] hC
  refine va_callv (va_runI (As := [.int w, .int h]) (rest := st) ⟨hx, hb, hml, ho, hts⟩ (hM H.size) ⟨callB_of 2 hts (gw_code hcode) rfl hr0.1 hr0.2.1 (hts _ hini) (hts _ hlk0) hmh ⟨hr0.2.2.1, hr0.2.2.2⟩, hyn, hts _ hinst⟩ ⟨PreN.blind, fun U hU hW => ⟨rfl, by rw [hU], by rw [hU]; exact hPc, va_K.moved hW.alike hK, hDc.weaken (fun _ _ _ _ => trivial), va_Nw.warmM hW hnw, hao.moved hW.alike⟩⟩ rfl rfl hl.1 rfl (lv_room hrest) hd hck) hS (fun q _ h => hFc q h) hFc (fun u t H1 locs1 ht hvm hp hB hz hk hS1 => ?_)
  obtain ⟨hP1, hD1⟩ := hB
  rw [ht] at hP1
  obtain ⟨hP2, hD2⟩ := va_join hP hD [qx] isR hC hR hn hdis hk hFc hP1 hD1
  exact k u hp ls H1 locs1 hl hP2 hD2 hS1
end LX
end
section
/-! ===== raster and model agree, operation by operation ===== -/
def Rel (w h : Nat) (col dep cm dm xs ys zs : Nat → Int32) : Prop := (∀ k, k < w * h → col k = cm (mx w k)) ∧ (∀ k, k < w * h → dep k = dm (mx w k)) ∧ vtx xs ∧ vtx ys ∧ ∀ i, i < 3 → 0 ≤ (zs i).toInt ∧ (zs i).toInt ≤ 32768
theorem bI_u {p q : Prop} {r r' : Int32} (h : p ↔ q) (h1 : bI p r) (h2 : bI q r') : r = r' := by
  rcases h1 with ⟨a, b⟩ | ⟨a, b⟩ <;> rcases h2 with ⟨c, d⟩ | ⟨c, d⟩
  · exact a.trans c.symm
  · exact absurd (h.mp b) d
  · exact absurd (h.mpr d) b
  · exact a.trans c.symm
theorem ct_congr {P Q : Nat → Prop} [DecidablePred P] [DecidablePred Q] : ∀ n : Nat, (∀ k, k < n → (P k ↔ Q k)) → ct P n = ct Q n
  | 0, _ => rfl
  | n + 1, h => by
    have ih := ct_congr n (fun k hk => h k (by omega))
    by_cases hp : P n
    · rw [ct_y hp, ct_y ((h n (by omega)).mp hp), ih]
    · rw [ct_n hp, ct_n (fun q => hp ((h n (by omega)).mpr q)), ih]
theorem ag_clear {w h : Nat} {col dep cm dm xs ys zs : Nat → Int32} {v z r r' : Int32} {u u' : (Nat → Int32) × (Nat → Int32)} (hw0 : 0 < w) (hw : w ≤ 24) (hh : h ≤ 24) (R : Rel w h col dep cm dm xs ys zs)
    (h1 : (r = nI 0 ∧ (z < 0 ∨ 65535 < z) ∧ u = (col, dep)) ∨ (r = nI 1 ∧ ¬ (z < 0 ∨ 65535 < z) ∧ ∀ j : Nat, j < w * h → u.1 j = v ∧ u.2 j = z)) (h2 : (r' = nI 0 ∧ (z < 0 ∨ 65535 < z) ∧ u' = (cm, dm)) ∨ (r' = nI 1 ∧ ¬ (z < 0 ∨ 65535 < z) ∧ ∀ j : Nat, j < 576 → u'.1 j = v ∧ u'.2 j = z)) : r = r' ∧ Rel w h u.1 u.2 u'.1 u'.2 xs ys zs := by
  rcases h1 with ⟨a, b, rfl⟩ | ⟨a, b, d⟩ <;> rcases h2 with ⟨a', b', rfl⟩ | ⟨a', b', d'⟩
  · exact ⟨a.trans a'.symm, R⟩
  · exact absurd b b'
  · exact absurd b' b
  · refine ⟨a.trans a'.symm, fun k hk => ?_, fun k hk => ?_, R.2.2⟩
    · rw [(d k hk).1, (d' _ (mx_lt hw0 hw hh hk)).1]
    · rw [(d k hk).2, (d' _ (mx_lt hw0 hw hh hk)).2]
theorem ag_vertex {w h : Nat} {col dep cm dm xs ys zs : Nat → Int32} {k x y z r r' : Int32} {u u' : (Nat → Int32) × (Nat → Int32) × (Nat → Int32)} (R : Rel w h col dep cm dm xs ys zs)
    (h1 : (r = nI 0 ∧ ¬ vOk k x y z ∧ u = (xs, ys, zs)) ∨ (r = nI 1 ∧ vOk k x y z ∧ u = (upd xs k.toNatClampNeg x, upd ys k.toNatClampNeg y, upd zs k.toNatClampNeg z))) (h2 : (r' = nI 0 ∧ ¬ vOk k x y z ∧ u' = (xs, ys, zs)) ∨ (r' = nI 1 ∧ vOk k x y z ∧ u' = (upd xs k.toNatClampNeg x, upd ys k.toNatClampNeg y, upd zs k.toNatClampNeg z))) : r = r' ∧ u = u' ∧ Rel w h col dep cm dm u.1 u.2.1 u.2.2 := by
  rcases h1 with ⟨a, b, rfl⟩ | ⟨a, b, rfl⟩ <;> rcases h2 with ⟨a', b', rfl⟩ | ⟨a', b', rfl⟩
  · exact ⟨a.trans a'.symm, rfl, R⟩
  · exact absurd b' b
  · exact absurd b b'
  · refine ⟨a.trans a'.symm, rfl, R.1, R.2.1, fun i hi => ?_, fun i hi => ?_, fun i hi => ?_⟩
    · show _ ≤ (upd _ _ _ _).toInt ∧ (upd _ _ _ _).toInt ≤ _
      by_cases e : i = k.toNatClampNeg
      · rw [e, pk_us]; exact far_toInt b.2.2.1
      · rw [pk_un e]; exact R.2.2.1 i hi
    · show _ ≤ (upd _ _ _ _).toInt ∧ (upd _ _ _ _).toInt ≤ _
      by_cases e : i = k.toNatClampNeg
      · rw [e, pk_us]; exact far_toInt b.2.2.2.1
      · rw [pk_un e]; exact R.2.2.2.1 i hi
    · show _ ≤ (upd _ _ _ _).toInt ∧ (upd _ _ _ _).toInt ≤ _
      by_cases e : i = k.toNatClampNeg
      · rw [e, pk_us]
        have q1 := Int32.le_iff_toInt_le.mp (nlt32 b.2.2.2.2.1)
        have q2 := Int32.le_iff_toInt_le.mp (nlt32 b.2.2.2.2.2)
        exact ⟨q1, q2⟩
      · rw [pk_un e]; exact R.2.2.2.2 i hi
theorem ag_tri {w h : Nat} {col dep cm dm xs ys zs : Nat → Int32} {v r r' : Int32} {q1 q2 : Nat} {c1 d1 c2 d2 : Nat → Int32} (hw0 : 0 < w) (hw : w ≤ 24) (hh : h ≤ 24) (R : Rel w h col dep cm dm xs ys zs) (ho : ordP xs ys (q1, q2))
    (h1 : (¬ 0 < absA xs ys ∧ r = nI 0 ∧ c1 = col ∧ d1 = dep) ∨ (0 < absA xs ys ∧ r = nI (cn (hitR xs ys zs q1 q2 w dep) (w * h)) ∧ pixd (hitR xs ys zs q1 q2 w dep) (fun _ => v) col c1 (w * h) ∧ pixd (hitR xs ys zs q1 q2 w dep) (depR xs ys zs q1 q2 w) dep d1 (w * h)))
    (h2 : r' = nI (cn (hitM xs ys zs w (fun k => dm (mx w k))) (w * h)) ∧ pixd (hitM xs ys zs w (fun k => dm (mx w k))) (fun _ => v) (fun k => cm (mx w k)) (fun k => c2 (mx w k)) (w * h) ∧ pixd (hitM xs ys zs w (fun k => dm (mx w k))) (depM xs ys zs w) (fun k => dm (mx w k)) (fun k => d2 (mx w k)) (w * h)) : r = r' ∧ Rel w h c1 d1 c2 d2 xs ys zs := by
  obtain ⟨e1, p1, p2⟩ := h2
  rcases h1 with ⟨hA, e2, rfl, rfl⟩ | ⟨hA, e2, s1, s2⟩
  · have hno : ∀ k, k < w * h → ¬ hitM xs ys zs w (fun k => dm (mx w k)) k := fun k _ q => flat_law R.2.2.1 R.2.2.2.1 hA _ _ q.1
    refine ⟨by rw [e1, e2, cn_none _ hno], fun k hk => ?_, fun k hk => ?_, R.2.2⟩
    · have := (p1 k).2 (fun q => hno k hk q.2); rw [R.1 k hk]; exact this.symm
    · have := (p2 k).2 (fun q => hno k hk q.2); rw [R.2.1 k hk]; exact this.symm
  · have key : ∀ k, k < w * h → (hitR xs ys zs q1 q2 w dep k ↔ hitM xs ys zs w (fun k => dm (mx w k)) k) ∧ (hitR xs ys zs q1 q2 w dep k → depR xs ys zs q1 q2 w k = depM xs ys zs w k) := fun k hk => by
      have m1 : k % w < 24 := Nat.lt_of_lt_of_le (Nat.mod_lt k hw0) hw
      have m2 : k / w < 24 := Nat.lt_of_lt_of_le (Nat.div_lt_of_lt_mul hk) hh
      have t := tri_law R.2.2.1 R.2.2.2.1 R.2.2.2.2 ho hA m1 m2 (dep k)
      refine ⟨?_, fun q => (t.2 q).1⟩
      show hitXY _ _ _ _ _ _ _ _ ↔ hitMXY _ _ _ (dm (mx w k)) _ _
      rw [← R.2.1 k hk]; exact t.1
    refine ⟨by rw [e1, e2, cn_congr _ (fun k hk => (key k hk).1)], fun k hk => ?_, fun k hk => ?_, R.2.2⟩
    · by_cases q : hitR xs ys zs q1 q2 w dep k
      · rw [(s1 k).1 hk q]; exact ((p1 k).1 hk ((key k hk).1.mp q)).symm
      · rw [(s1 k).2 (fun z => q z.2), R.1 k hk]; exact ((p1 k).2 (fun z => q ((key k hk).1.mpr z.2))).symm
    · by_cases q : hitR xs ys zs q1 q2 w dep k
      · rw [(s2 k).1 hk q, (key k hk).2 q]; exact ((p2 k).1 hk ((key k hk).1.mp q)).symm
      · rw [(s2 k).2 (fun z => q z.2), R.2.1 k hk]; exact ((p2 k).2 (fun z => q ((key k hk).1.mpr z.2))).symm
theorem pnt_u {LX LY : Nat → Int32} {w h k : Nat} {v : Int32} {f0 f f0' f' : Nat → Int32} (h0 : ∀ k, k < w * h → f0 k = f0' k) (h1 : pnt LX LY w h v f0 f k) (h2 : pnt LX LY w h v f0' f' k) : ∀ p, p < w * h → f p = f' p := fun p hp => by
  by_cases q : LHIT LX LY w k p
  · rw [(h1 p hp).1 q, (h2 p hp).1 q]
  · rw [(h1 p hp).2 q, (h2 p hp).2 q, h0 p hp]
theorem lineP_u {w h : Nat} {x0 y0 x1 y1 v r r' : Int32} {f0 f f0' f' : Nat → Int32} (h0 : ∀ k, k < w * h → f0 k = f0' k) (h1 : lineP w h x0 y0 x1 y1 v f0 f r) (h2 : lineP w h x0 y0 x1 y1 v f0' f' r') : r = r' ∧ ∀ k, k < w * h → f k = f' k := by
  rcases h1 with ⟨a, b, rfl⟩ | ⟨a1, a2, a3, a4, h1⟩ <;> rcases h2 with ⟨a', b', rfl⟩ | ⟨b1, b2, b3, b4, h2⟩
  · exact ⟨b.trans b'.symm, h0⟩
  · rcases a with a | a | a | a
    · exact absurd a b1
    · exact absurd a b2
    · exact absurd a b3
    · exact absurd a b4
  · rcases a' with a | a | a | a
    · exact absurd a a1
    · exact absurd a a2
    · exact absurd a a3
    · exact absurd a a4
  · rcases h1 with ⟨c1, c2, c3⟩ | ⟨c1, c2, c3⟩ <;> rcases h2 with ⟨d1, d2, d3⟩ | ⟨d1, d2, d3⟩
    · exact ⟨c2.trans d2.symm, pnt_u h0 c3 d3⟩
    · exact absurd c1 d1
    · exact absurd d1 c1
    · exact ⟨c2.trans d2.symm, pnt_u h0 c3 d3⟩
theorem ag_at {w h : Nat} {f g : Nat → Int32} {x y r r' : Int32} (hw : w ≤ 24) (hh : h ≤ 24) (h0 : ∀ k, k < w * h → f k = g (mx w k)) (h1 : (∃ i j : Nat, i < w ∧ j < h ∧ x = nI i ∧ y = nI j ∧ r = f (w * j + i)) ∨ (¬ isPx w h x y ∧ r = -1)) (h2 : (∃ i j : Nat, i < w ∧ j < h ∧ x = nI i ∧ y = nI j ∧ r' = g (24 * j + i)) ∨ (¬ isPx w h x y ∧ r' = -1)) : r = r' := by
  rcases h1 with ⟨i, j, hi, hj, rfl, rfl, e⟩ | ⟨n, e⟩
  · rcases h2 with ⟨i', j', hi', hj', e1, e2, e'⟩ | ⟨n', -⟩
    · rw [nI_eq (by omega) (by omega)] at e1 e2
      subst e1; subst e2
      rw [e, e', h0 _ (px_lt hi hj), mx_eq j hi]
    · exact absurd ⟨i, j, hi, hj, rfl, rfl⟩ n'
  · rcases h2 with ⟨i', j', hi', hj', e1, e2, e'⟩ | ⟨n', e'⟩
    · exact absurd ⟨i', j', hi', hj', e1, e2⟩ n
    · exact e.trans e'.symm
theorem ag_cov {X Y : Nat → Int32} {x y r r' : Int32} (hX : vtx X) (hY : vtx Y) (h1 : bI (nearP x y ∧ ¬ absA X Y = 0 ∧ ((RA X Y < 0 ∧ inE X Y 0 2 x y ∧ inE X Y 2 1 x y ∧ inE X Y 1 0 x y) ∨ (¬ RA X Y < 0 ∧ inE X Y 0 1 x y ∧ inE X Y 1 2 x y ∧ inE X Y 2 0 x y))) r) (h2 : bI (nearP x y ∧ CV X Y (16 * x.toInt64 + 8) (16 * y.toInt64 + 8)) r') : r = r' :=
  bI_u (and_congr Iff.rfl (cov_law hX hY x y)) h1 h2
def f3 {α : Type} (x y z : α) : Nat → α := fun k => match k with
  | 0 => x
  | 1 => y
  | _ => z
end
section
set_option maxHeartbeats 8000000 in
set_option maxRecDepth 100000 in
/-- the law's loop -/
theorem law_loop (l : Launch) {D : va_G} {ta : Nat → ClassId} {b L : Nat} {sc : Nat → Int32} {G : GN} (hL : L ≤ 3074) (C : CXL l D ta b L sc G) {w h : Nat} (hw0 : 0 < w) (hw : w ≤ 24) (hh : h ≤ 24) (a m : Nat → Nat) : ∀ (n : Nat) (i : Nat) (col dep stk sn xs ys zs od : Nat → Int32) (eN eR eD eB : Nat → Int64) (eL : Nat → Int32) (cm dm mk : Nat → Int32), L - i < n → i ≤ 3080 → Rel w h col dep cm dm xs ys zs → G 20 4090 38 [(0, .ref (b)), (1, .ref (a 0)), (2, .ref (m 0)), (3, .int (nI (i)))] [] [(a 0, oTR w h a), (a 2, cI ta 576 (col)), (a 3, cC ta 576 (dep)), (a 4, cS ta 576 (stk)), (a 5, cZ ta 576 (sn)), (a 6, cI ta 3 (xs)), (a 7, cI ta 3 (ys)), (a 8, cI ta 3 (zs)), (a 9, cQ ta a), (a 10, cI ta 3 (od)), (a 11, oEd (eN 0) (eR 0) (eD 0) (eB 0) (eL 0)), (a 12, oEd (eN 1) (eR 1) (eD 1) (eB 1) (eL 1)), (a 13, oEd (eN 2) (eR 2) (eD 2) (eB 2) (eL 2)), (m 0, oTM w h m), (m 2, cI ta 576 (cm)), (m 3, cI ta 576 (dm)), (m 4, cI ta 3 (xs)), (m 5, cI ta 3 (ys)), (m 6, cI ta 3 (zs)), (m 7, cZ ta 576 (mk))] := by
  intro n
  induction n with
  | zero => intro i col dep stk sn xs ys zs od eN eR eD eB eL cm dm mk hm; exact absurd hm (Nat.not_lt_zero _)
  | succ n ih =>
    intro i col dep stk sn xs ys zs od eN eR eD eB eL cm dm mk hm hi hR
    refine rx_iload_n (C.at (by decide) (by decide)) 3 rfl d_law_38 ?_
    refine rx_aload_n (C.at (by decide) (by decide)) 0 rfl d_law_39 ?_
    refine lx_slen C d_law_40 ?_
    refine rx_bipush (C.at (by decide) (by decide)) (nI 6) (by decide) d_law_41 ?_
    refine rx_isub (C.at (by decide) (by decide)) d_law_43 ?_
    refine rx_icmp_gt (C.at (by decide) (by decide)) d_law_44 (fun c44 => ?_) (fun c44 => ?_)
    · skip
      refine rx_iconst (C.at (by decide) (by decide)) (nI 1) (by decide) d_law_474 ?_
      exact lx_ret C (by decide) (by decide) d_law_475
    · skip
      have hi6 : i + 6 ≤ L := by
        have h1 := mt Int32.lt_iff_toInt_lt.mpr c44
        rw [pk_sub_toInt (by omega) (by decide), nI_toInt (by omega)] at h1
        omega
      have K : ∀ (col2 dep2 stk2 sn2 xs2 ys2 zs2 od2 : Nat → Int32) (eN2 eR2 eD2 eB2 : Nat → Int64) (eL2 : Nat → Int32) (cm2 dm2 mk2 : Nat → Int32), Rel w h col2 dep2 cm2 dm2 xs2 ys2 zs2 → G 20 4090 468 [(0, .ref (b)), (1, .ref (a 0)), (2, .ref (m 0)), (3, .int (nI (i)))] [] [(a 0, oTR w h a), (a 2, cI ta 576 (col2)), (a 3, cC ta 576 (dep2)), (a 4, cS ta 576 (stk2)), (a 5, cZ ta 576 (sn2)), (a 6, cI ta 3 (xs2)), (a 7, cI ta 3 (ys2)), (a 8, cI ta 3 (zs2)), (a 9, cQ ta a), (a 10, cI ta 3 (od2)), (a 11, oEd (eN2 0) (eR2 0) (eD2 0) (eB2 0) (eL2 0)), (a 12, oEd (eN2 1) (eR2 1) (eD2 1) (eB2 1) (eL2 1)), (a 13, oEd (eN2 2) (eR2 2) (eD2 2) (eB2 2) (eL2 2)), (m 0, oTM w h m), (m 2, cI ta 576 (cm2)), (m 3, cI ta 576 (dm2)), (m 4, cI ta 3 (xs2)), (m 5, cI ta 3 (ys2)), (m 6, cI ta 3 (zs2)), (m 7, cZ ta 576 (mk2))] := by
        intro col2 dep2 stk2 sn2 xs2 ys2 zs2 od2 eN2 eR2 eD2 eB2 eL2 cm2 dm2 mk2 hR2
        refine rx_iinc (C.at (by decide) (by decide)) 3 rfl (nI (i + 6)) (nI_add _ _) (Nat.le_of_ble_eq_true rfl) [1, 2, 3, 0] (lv' := [(0, .ref (b)), (1, .ref (a 0)), (2, .ref (m 0)), (3, .int (nI (i + 6)))]) rfl d_law_468 ?_
        refine rx_goto (C.at (by decide) (by decide)) d_law_471 ?_
        exact ih (i + 6) _ _ _ _ _ _ _ _ _ _ _ _ _ _ _ _ (by omega) (by omega) hR2
      refine rx_aload_n (C.at (by decide) (by decide)) 0 rfl d_law_47 ?_
      refine rx_iload_n (C.at (by decide) (by decide)) 3 rfl d_law_48 ?_
      refine lx_sld C (i) rfl (by omega) (by omega) d_law_49 ?_
      refine rx_bipush (C.at (by decide) (by decide)) (nI 15) (by decide) d_law_50 ?_
      refine rx_iand (C.at (by decide) (by decide)) d_law_52 ?_
      obtain ⟨j, hj, ej⟩ := pk_andE (sc i) (m := nI 15) 4 (by decide)
      have hj : j < 16 := hj
      rcases (show j = 0 ∨ j = 1 ∨ j = 2 ∨ j = 3 ∨ j = 4 ∨ j = 5 ∨ j = 6 ∨ j = 7 ∨ j = 8 ∨ j = 9 ∨ 9 < j by omega) with rfl | rfl | rfl | rfl | rfl | rfl | rfl | rfl | rfl | rfl | hj9
      · skip
        refine lx_tsw C 0 55 108 ej (by decide) d_law_53 rfl (by decide) ?_
        refine rx_aload_n (C.at (by decide) (by decide)) 1 rfl d_law_108 ?_
        refine rx_aload_n (C.at (by decide) (by decide)) 0 rfl d_law_109 ?_
        refine rx_iload_n (C.at (by decide) (by decide)) 3 rfl d_law_110 ?_
        refine rx_iconst (C.at (by decide) (by decide)) (nI 1) (by decide) d_law_111 ?_
        refine rx_iaddN (C.at (by decide) (by decide)) d_law_112 ?_
        refine lx_sld C (i + 1) rfl (by omega) (by omega) d_law_113 ?_
        refine rx_aload_n (C.at (by decide) (by decide)) 0 rfl d_law_114 ?_
        refine rx_iload_n (C.at (by decide) (by decide)) 3 rfl d_law_115 ?_
        refine rx_iconst (C.at (by decide) (by decide)) (nI 2) (by decide) d_law_116 ?_
        refine rx_iaddN (C.at (by decide) (by decide)) d_law_117 ?_
        refine lx_sld C (i + 2) rfl (by omega) (by omega) d_law_118 ?_
        refine rx_callVi (C.at (by decide) (by decide)) (c_TR_clear l D ta w h a col dep (sc (i + 1)) (sc (i + 2)) hw hh) cw_LW_21 ⟨rfl, rfl, by decide, by decide⟩ rfl [0, 1, 2] rfl rfl (q0 := 0) rfl rfl rfl [] rfl (Nat.le_of_ble_eq_true rfl) (fun _ => rfl) d_law_119 (fun r0 u0 h0 => ?_)
        refine rx_ws (ws' := [(a 0, oTR w h a), (a 2, cI ta 576 (u0.1)), (a 3, cC ta 576 (u0.2)), (a 4, cS ta 576 (stk)), (a 5, cZ ta 576 (sn)), (a 6, cI ta 3 (xs)), (a 7, cI ta 3 (ys)), (a 8, cI ta 3 (zs)), (a 9, cQ ta a), (a 10, cI ta 3 (od)), (a 11, oEd (eN 0) (eR 0) (eD 0) (eB 0) (eL 0)), (a 12, oEd (eN 1) (eR 1) (eD 1) (eB 1) (eL 1)), (a 13, oEd (eN 2) (eR 2) (eD 2) (eB 2) (eL 2)), (m 0, oTM w h m), (m 2, cI ta 576 (cm)), (m 3, cI ta 576 (dm)), (m 4, cI ta 3 (xs)), (m 5, cI ta 3 (ys)), (m 6, cI ta 3 (zs)), (m 7, cZ ta 576 (mk))]) ?_ rfl
        refine rx_aload_n (C.at (by decide) (by decide)) 2 rfl d_law_122 ?_
        refine rx_aload_n (C.at (by decide) (by decide)) 0 rfl d_law_123 ?_
        refine rx_iload_n (C.at (by decide) (by decide)) 3 rfl d_law_124 ?_
        refine rx_iconst (C.at (by decide) (by decide)) (nI 1) (by decide) d_law_125 ?_
        refine rx_iaddN (C.at (by decide) (by decide)) d_law_126 ?_
        refine lx_sld C (i + 1) rfl (by omega) (by omega) d_law_127 ?_
        refine rx_aload_n (C.at (by decide) (by decide)) 0 rfl d_law_128 ?_
        refine rx_iload_n (C.at (by decide) (by decide)) 3 rfl d_law_129 ?_
        refine rx_iconst (C.at (by decide) (by decide)) (nI 2) (by decide) d_law_130 ?_
        refine rx_iaddN (C.at (by decide) (by decide)) d_law_131 ?_
        refine lx_sld C (i + 2) rfl (by omega) (by omega) d_law_132 ?_
        refine rx_callVi (C.at (by decide) (by decide)) (c_TM_clear l D ta w h m cm dm (sc (i + 1)) (sc (i + 2)) hw hh) cw_LW_25 ⟨rfl, rfl, by decide, by decide⟩ rfl [13, 14, 15] rfl rfl (q0 := 0) rfl rfl rfl [.int (r0)] rfl (Nat.le_of_ble_eq_true rfl) (fun _ => rfl) d_law_133 (fun r1 u1 h1 => ?_)
        refine rx_ws (ws' := [(a 0, oTR w h a), (a 2, cI ta 576 (u0.1)), (a 3, cC ta 576 (u0.2)), (a 4, cS ta 576 (stk)), (a 5, cZ ta 576 (sn)), (a 6, cI ta 3 (xs)), (a 7, cI ta 3 (ys)), (a 8, cI ta 3 (zs)), (a 9, cQ ta a), (a 10, cI ta 3 (od)), (a 11, oEd (eN 0) (eR 0) (eD 0) (eB 0) (eL 0)), (a 12, oEd (eN 1) (eR 1) (eD 1) (eB 1) (eL 1)), (a 13, oEd (eN 2) (eR 2) (eD 2) (eB 2) (eL 2)), (m 0, oTM w h m), (m 2, cI ta 576 (u1.1)), (m 3, cI ta 576 (u1.2)), (m 4, cI ta 3 (xs)), (m 5, cI ta 3 (ys)), (m 6, cI ta 3 (zs)), (m 7, cZ ta 576 (mk))]) ?_ rfl
        obtain ⟨he, hR2⟩ := ag_clear hw0 hw hh hR h0 h1
        refine rx_icmp_eq (C.at (by decide) (by decide)) d_law_136 (fun _ => ?_) (fun q => absurd he q)
        exact K (u0.1) (u0.2) (stk) (sn) (xs) (ys) (zs) (od) (eN) (eR) (eD) (eB) (eL) (u1.1) (u1.2) (mk) hR2
      · skip
        refine lx_tsw C 1 88 141 ej (by decide) d_law_53 rfl (by decide) ?_
        refine rx_aload_n (C.at (by decide) (by decide)) 1 rfl d_law_141 ?_
        refine rx_aload_n (C.at (by decide) (by decide)) 0 rfl d_law_142 ?_
        refine rx_iload_n (C.at (by decide) (by decide)) 3 rfl d_law_143 ?_
        refine rx_iconst (C.at (by decide) (by decide)) (nI 1) (by decide) d_law_144 ?_
        refine rx_iaddN (C.at (by decide) (by decide)) d_law_145 ?_
        refine lx_sld C (i + 1) rfl (by omega) (by omega) d_law_146 ?_
        refine rx_aload_n (C.at (by decide) (by decide)) 0 rfl d_law_147 ?_
        refine rx_iload_n (C.at (by decide) (by decide)) 3 rfl d_law_148 ?_
        refine rx_iconst (C.at (by decide) (by decide)) (nI 2) (by decide) d_law_149 ?_
        refine rx_iaddN (C.at (by decide) (by decide)) d_law_150 ?_
        refine lx_sld C (i + 2) rfl (by omega) (by omega) d_law_151 ?_
        refine rx_aload_n (C.at (by decide) (by decide)) 0 rfl d_law_152 ?_
        refine rx_iload_n (C.at (by decide) (by decide)) 3 rfl d_law_153 ?_
        refine rx_iconst (C.at (by decide) (by decide)) (nI 3) (by decide) d_law_154 ?_
        refine rx_iaddN (C.at (by decide) (by decide)) d_law_155 ?_
        refine lx_sld C (i + 3) rfl (by omega) (by omega) d_law_156 ?_
        refine rx_aload_n (C.at (by decide) (by decide)) 0 rfl d_law_157 ?_
        refine rx_iload_n (C.at (by decide) (by decide)) 3 rfl d_law_158 ?_
        refine rx_iconst (C.at (by decide) (by decide)) (nI 4) (by decide) d_law_159 ?_
        refine rx_iaddN (C.at (by decide) (by decide)) d_law_160 ?_
        refine lx_sld C (i + 4) rfl (by omega) (by omega) d_law_161 ?_
        refine rx_callVi (C.at (by decide) (by decide)) (c_TR_vertex l D ta w h a xs ys zs (sc (i + 1)) (sc (i + 2)) (sc (i + 3)) (sc (i + 4))) cw_LW_26 ⟨rfl, rfl, by decide, by decide⟩ rfl [0, 5, 6, 7] rfl rfl (q0 := 0) rfl rfl rfl [] rfl (Nat.le_of_ble_eq_true rfl) (fun _ => rfl) d_law_162 (fun r0 u0 h0 => ?_)
        refine rx_ws (ws' := [(a 0, oTR w h a), (a 2, cI ta 576 (col)), (a 3, cC ta 576 (dep)), (a 4, cS ta 576 (stk)), (a 5, cZ ta 576 (sn)), (a 6, cI ta 3 (u0.1)), (a 7, cI ta 3 (u0.2.1)), (a 8, cI ta 3 (u0.2.2)), (a 9, cQ ta a), (a 10, cI ta 3 (od)), (a 11, oEd (eN 0) (eR 0) (eD 0) (eB 0) (eL 0)), (a 12, oEd (eN 1) (eR 1) (eD 1) (eB 1) (eL 1)), (a 13, oEd (eN 2) (eR 2) (eD 2) (eB 2) (eL 2)), (m 0, oTM w h m), (m 2, cI ta 576 (cm)), (m 3, cI ta 576 (dm)), (m 4, cI ta 3 (xs)), (m 5, cI ta 3 (ys)), (m 6, cI ta 3 (zs)), (m 7, cZ ta 576 (mk))]) ?_ rfl
        refine rx_aload_n (C.at (by decide) (by decide)) 2 rfl d_law_165 ?_
        refine rx_aload_n (C.at (by decide) (by decide)) 0 rfl d_law_166 ?_
        refine rx_iload_n (C.at (by decide) (by decide)) 3 rfl d_law_167 ?_
        refine rx_iconst (C.at (by decide) (by decide)) (nI 1) (by decide) d_law_168 ?_
        refine rx_iaddN (C.at (by decide) (by decide)) d_law_169 ?_
        refine lx_sld C (i + 1) rfl (by omega) (by omega) d_law_170 ?_
        refine rx_aload_n (C.at (by decide) (by decide)) 0 rfl d_law_171 ?_
        refine rx_iload_n (C.at (by decide) (by decide)) 3 rfl d_law_172 ?_
        refine rx_iconst (C.at (by decide) (by decide)) (nI 2) (by decide) d_law_173 ?_
        refine rx_iaddN (C.at (by decide) (by decide)) d_law_174 ?_
        refine lx_sld C (i + 2) rfl (by omega) (by omega) d_law_175 ?_
        refine rx_aload_n (C.at (by decide) (by decide)) 0 rfl d_law_176 ?_
        refine rx_iload_n (C.at (by decide) (by decide)) 3 rfl d_law_177 ?_
        refine rx_iconst (C.at (by decide) (by decide)) (nI 3) (by decide) d_law_178 ?_
        refine rx_iaddN (C.at (by decide) (by decide)) d_law_179 ?_
        refine lx_sld C (i + 3) rfl (by omega) (by omega) d_law_180 ?_
        refine rx_aload_n (C.at (by decide) (by decide)) 0 rfl d_law_181 ?_
        refine rx_iload_n (C.at (by decide) (by decide)) 3 rfl d_law_182 ?_
        refine rx_iconst (C.at (by decide) (by decide)) (nI 4) (by decide) d_law_183 ?_
        refine rx_iaddN (C.at (by decide) (by decide)) d_law_184 ?_
        refine lx_sld C (i + 4) rfl (by omega) (by omega) d_law_185 ?_
        refine rx_callVi (C.at (by decide) (by decide)) (c_TM_vertex l D ta w h m xs ys zs (sc (i + 1)) (sc (i + 2)) (sc (i + 3)) (sc (i + 4))) cw_LW_30 ⟨rfl, rfl, by decide, by decide⟩ rfl [13, 16, 17, 18] rfl rfl (q0 := 0) rfl rfl rfl [.int (r0)] rfl (Nat.le_of_ble_eq_true rfl) (fun _ => rfl) d_law_186 (fun r1 u1 h1 => ?_)
        refine rx_ws (ws' := [(a 0, oTR w h a), (a 2, cI ta 576 (col)), (a 3, cC ta 576 (dep)), (a 4, cS ta 576 (stk)), (a 5, cZ ta 576 (sn)), (a 6, cI ta 3 (u0.1)), (a 7, cI ta 3 (u0.2.1)), (a 8, cI ta 3 (u0.2.2)), (a 9, cQ ta a), (a 10, cI ta 3 (od)), (a 11, oEd (eN 0) (eR 0) (eD 0) (eB 0) (eL 0)), (a 12, oEd (eN 1) (eR 1) (eD 1) (eB 1) (eL 1)), (a 13, oEd (eN 2) (eR 2) (eD 2) (eB 2) (eL 2)), (m 0, oTM w h m), (m 2, cI ta 576 (cm)), (m 3, cI ta 576 (dm)), (m 4, cI ta 3 (u1.1)), (m 5, cI ta 3 (u1.2.1)), (m 6, cI ta 3 (u1.2.2)), (m 7, cZ ta 576 (mk))]) ?_ rfl
        obtain ⟨he, rfl, hR2⟩ := ag_vertex hR h0 h1
        refine rx_icmp_eq (C.at (by decide) (by decide)) d_law_189 (fun _ => ?_) (fun q => absurd he q)
        exact K (col) (dep) (stk) (sn) (u0.1) (u0.2.1) (u0.2.2) (od) (eN) (eR) (eD) (eB) (eL) (cm) (dm) (mk) hR2
      · skip
        refine lx_tsw C 2 141 194 ej (by decide) d_law_53 rfl (by decide) ?_
        refine rx_aload_n (C.at (by decide) (by decide)) 1 rfl d_law_194 ?_
        refine rx_aload_n (C.at (by decide) (by decide)) 0 rfl d_law_195 ?_
        refine rx_iload_n (C.at (by decide) (by decide)) 3 rfl d_law_196 ?_
        refine rx_iconst (C.at (by decide) (by decide)) (nI 1) (by decide) d_law_197 ?_
        refine rx_iaddN (C.at (by decide) (by decide)) d_law_198 ?_
        refine lx_sld C (i + 1) rfl (by omega) (by omega) d_law_199 ?_
        refine rx_callVi (C.at (by decide) (by decide)) (c_TR_triangle l D ta w h a col dep zs xs ys od eN eR eD eB eL (sc (i + 1)) hw0 hw hh) cw_LW_31 ⟨rfl, rfl, by decide, by decide⟩ rfl [0, 1, 2, 5, 6, 7, 8, 9, 10, 11, 12] rfl rfl (q0 := 0) rfl rfl rfl [] rfl (Nat.le_of_ble_eq_true rfl) (fun _ => rfl) d_law_200 (fun r0 u0 h0 => ?_)
        refine rx_ws (ws' := [(a 0, oTR w h a), (a 2, cI ta 576 (u0.1)), (a 3, cC ta 576 (u0.2.1)), (a 4, cS ta 576 (stk)), (a 5, cZ ta 576 (sn)), (a 6, cI ta 3 (xs)), (a 7, cI ta 3 (ys)), (a 8, cI ta 3 (zs)), (a 9, cQ ta a), (a 10, cI ta 3 (upd (upd (upd od 0 (nI 0)) 1 (nI (u0.2.2.1.1))) 2 (nI (u0.2.2.1.2)))), (a 11, oEd (u0.2.2.2.1) (-((ys u0.2.2.1.1 - ys 0).toInt64) * 16) ((xs u0.2.2.1.1 - xs 0).toInt64 * 16) (bgE (xs 0) (ys 0) (xs u0.2.2.1.1) (ys u0.2.2.1.1)) (lsE (xs 0) (ys 0) (xs u0.2.2.1.1) (ys u0.2.2.1.1))), (a 12, oEd (u0.2.2.2.2.1) (-((ys u0.2.2.1.2 - ys u0.2.2.1.1).toInt64) * 16) ((xs u0.2.2.1.2 - xs u0.2.2.1.1).toInt64 * 16) (bgE (xs u0.2.2.1.1) (ys u0.2.2.1.1) (xs u0.2.2.1.2) (ys u0.2.2.1.2)) (lsE (xs u0.2.2.1.1) (ys u0.2.2.1.1) (xs u0.2.2.1.2) (ys u0.2.2.1.2))), (a 13, oEd (u0.2.2.2.2.2) (-((ys 0 - ys u0.2.2.1.2).toInt64) * 16) ((xs 0 - xs u0.2.2.1.2).toInt64 * 16) (bgE (xs u0.2.2.1.2) (ys u0.2.2.1.2) (xs 0) (ys 0)) (lsE (xs u0.2.2.1.2) (ys u0.2.2.1.2) (xs 0) (ys 0))), (m 0, oTM w h m), (m 2, cI ta 576 (cm)), (m 3, cI ta 576 (dm)), (m 4, cI ta 3 (xs)), (m 5, cI ta 3 (ys)), (m 6, cI ta 3 (zs)), (m 7, cZ ta 576 (mk))]) ?_ rfl
        refine rx_aload_n (C.at (by decide) (by decide)) 2 rfl d_law_203 ?_
        refine rx_aload_n (C.at (by decide) (by decide)) 0 rfl d_law_204 ?_
        refine rx_iload_n (C.at (by decide) (by decide)) 3 rfl d_law_205 ?_
        refine rx_iconst (C.at (by decide) (by decide)) (nI 1) (by decide) d_law_206 ?_
        refine rx_iaddN (C.at (by decide) (by decide)) d_law_207 ?_
        refine lx_sld C (i + 1) rfl (by omega) (by omega) d_law_208 ?_
        refine rx_callVi (C.at (by decide) (by decide)) (c_TM_triangle l D ta w h m cm dm xs ys zs (sc (i + 1)) hw0 hw hh) cw_LW_35 ⟨rfl, rfl, by decide, by decide⟩ rfl [13, 14, 15, 16, 17, 18] rfl rfl (q0 := 0) rfl rfl rfl [.int (r0)] rfl (Nat.le_of_ble_eq_true rfl) (fun _ => rfl) d_law_209 (fun r1 u1 h1 => ?_)
        refine rx_ws (ws' := [(a 0, oTR w h a), (a 2, cI ta 576 (u0.1)), (a 3, cC ta 576 (u0.2.1)), (a 4, cS ta 576 (stk)), (a 5, cZ ta 576 (sn)), (a 6, cI ta 3 (xs)), (a 7, cI ta 3 (ys)), (a 8, cI ta 3 (zs)), (a 9, cQ ta a), (a 10, cI ta 3 (upd (upd (upd od 0 (nI 0)) 1 (nI (u0.2.2.1.1))) 2 (nI (u0.2.2.1.2)))), (a 11, oEd (u0.2.2.2.1) (-((ys u0.2.2.1.1 - ys 0).toInt64) * 16) ((xs u0.2.2.1.1 - xs 0).toInt64 * 16) (bgE (xs 0) (ys 0) (xs u0.2.2.1.1) (ys u0.2.2.1.1)) (lsE (xs 0) (ys 0) (xs u0.2.2.1.1) (ys u0.2.2.1.1))), (a 12, oEd (u0.2.2.2.2.1) (-((ys u0.2.2.1.2 - ys u0.2.2.1.1).toInt64) * 16) ((xs u0.2.2.1.2 - xs u0.2.2.1.1).toInt64 * 16) (bgE (xs u0.2.2.1.1) (ys u0.2.2.1.1) (xs u0.2.2.1.2) (ys u0.2.2.1.2)) (lsE (xs u0.2.2.1.1) (ys u0.2.2.1.1) (xs u0.2.2.1.2) (ys u0.2.2.1.2))), (a 13, oEd (u0.2.2.2.2.2) (-((ys 0 - ys u0.2.2.1.2).toInt64) * 16) ((xs 0 - xs u0.2.2.1.2).toInt64 * 16) (bgE (xs u0.2.2.1.2) (ys u0.2.2.1.2) (xs 0) (ys 0)) (lsE (xs u0.2.2.1.2) (ys u0.2.2.1.2) (xs 0) (ys 0))), (m 0, oTM w h m), (m 2, cI ta 576 (u1.1)), (m 3, cI ta 576 (u1.2)), (m 4, cI ta 3 (xs)), (m 5, cI ta 3 (ys)), (m 6, cI ta 3 (zs)), (m 7, cZ ta 576 (mk))]) ?_ rfl
        obtain ⟨he, hR2⟩ := ag_tri hw0 hw hh hR h0.1 h0.2 h1
        refine rx_icmp_eq (C.at (by decide) (by decide)) d_law_212 (fun _ => ?_) (fun q => absurd he q)
        exact K (u0.1) (u0.2.1) (stk) (sn) (xs) (ys) (zs) (upd (upd (upd od 0 (nI 0)) 1 (nI (u0.2.2.1.1))) 2 (nI (u0.2.2.1.2))) (f3 (u0.2.2.2.1) (u0.2.2.2.2.1) (u0.2.2.2.2.2)) (f3 (-((ys u0.2.2.1.1 - ys 0).toInt64) * 16) (-((ys u0.2.2.1.2 - ys u0.2.2.1.1).toInt64) * 16) (-((ys 0 - ys u0.2.2.1.2).toInt64) * 16)) (f3 ((xs u0.2.2.1.1 - xs 0).toInt64 * 16) ((xs u0.2.2.1.2 - xs u0.2.2.1.1).toInt64 * 16) ((xs 0 - xs u0.2.2.1.2).toInt64 * 16)) (f3 (bgE (xs 0) (ys 0) (xs u0.2.2.1.1) (ys u0.2.2.1.1)) (bgE (xs u0.2.2.1.1) (ys u0.2.2.1.1) (xs u0.2.2.1.2) (ys u0.2.2.1.2)) (bgE (xs u0.2.2.1.2) (ys u0.2.2.1.2) (xs 0) (ys 0))) (f3 (lsE (xs 0) (ys 0) (xs u0.2.2.1.1) (ys u0.2.2.1.1)) (lsE (xs u0.2.2.1.1) (ys u0.2.2.1.1) (xs u0.2.2.1.2) (ys u0.2.2.1.2)) (lsE (xs u0.2.2.1.2) (ys u0.2.2.1.2) (xs 0) (ys 0))) (u1.1) (u1.2) (mk) hR2
      · skip
        refine lx_tsw C 3 164 217 ej (by decide) d_law_53 rfl (by decide) ?_
        refine rx_aload_n (C.at (by decide) (by decide)) 1 rfl d_law_217 ?_
        refine rx_aload_n (C.at (by decide) (by decide)) 0 rfl d_law_218 ?_
        refine rx_iload_n (C.at (by decide) (by decide)) 3 rfl d_law_219 ?_
        refine rx_iconst (C.at (by decide) (by decide)) (nI 1) (by decide) d_law_220 ?_
        refine rx_iaddN (C.at (by decide) (by decide)) d_law_221 ?_
        refine lx_sld C (i + 1) rfl (by omega) (by omega) d_law_222 ?_
        refine rx_aload_n (C.at (by decide) (by decide)) 0 rfl d_law_223 ?_
        refine rx_iload_n (C.at (by decide) (by decide)) 3 rfl d_law_224 ?_
        refine rx_iconst (C.at (by decide) (by decide)) (nI 2) (by decide) d_law_225 ?_
        refine rx_iaddN (C.at (by decide) (by decide)) d_law_226 ?_
        refine lx_sld C (i + 2) rfl (by omega) (by omega) d_law_227 ?_
        refine rx_callVi (C.at (by decide) (by decide)) (c_TR_covers l D ta w h a xs ys od eN eR eD eB eL (sc (i + 1)) (sc (i + 2))) cw_LW_36 ⟨rfl, rfl, by decide, by decide⟩ rfl [0, 5, 6, 8, 9, 10, 11, 12] rfl rfl (q0 := 0) rfl rfl rfl [] rfl (Nat.le_of_ble_eq_true rfl) (fun u => by cases u <;> rfl) d_law_228 (fun r0 u0 h0 => ?_)
        rcases h0 with ⟨v, rfl, ho, h0⟩ | ⟨h0, rfl⟩
        · skip
          show G 20 4090 231 [(0, .ref (b)), (1, .ref (a 0)), (2, .ref (m 0)), (3, .int (nI (i)))] [.int (r0)] [(a 0, oTR w h a), (a 2, cI ta 576 (col)), (a 3, cC ta 576 (dep)), (a 4, cS ta 576 (stk)), (a 5, cZ ta 576 (sn)), (a 6, cI ta 3 (xs)), (a 7, cI ta 3 (ys)), (a 8, cI ta 3 (zs)), (a 9, cQ ta a), (a 10, cI ta 3 (upd (upd (upd od 0 (nI 0)) 1 (nI (v.1))) 2 (nI (v.2)))), (a 11, oEd (eN 0) (-((ys v.1 - ys 0).toInt64) * 16) ((xs v.1 - xs 0).toInt64 * 16) (bgE (xs 0) (ys 0) (xs v.1) (ys v.1)) (lsE (xs 0) (ys 0) (xs v.1) (ys v.1))), (a 12, oEd (eN 1) (-((ys v.2 - ys v.1).toInt64) * 16) ((xs v.2 - xs v.1).toInt64 * 16) (bgE (xs v.1) (ys v.1) (xs v.2) (ys v.2)) (lsE (xs v.1) (ys v.1) (xs v.2) (ys v.2))), (a 13, oEd (eN 2) (-((ys 0 - ys v.2).toInt64) * 16) ((xs 0 - xs v.2).toInt64 * 16) (bgE (xs v.2) (ys v.2) (xs 0) (ys 0)) (lsE (xs v.2) (ys v.2) (xs 0) (ys 0))), (m 0, oTM w h m), (m 2, cI ta 576 (cm)), (m 3, cI ta 576 (dm)), (m 4, cI ta 3 (xs)), (m 5, cI ta 3 (ys)), (m 6, cI ta 3 (zs)), (m 7, cZ ta 576 (mk))]
          refine rx_aload_n (C.at (by decide) (by decide)) 2 rfl d_law_231 ?_
          refine rx_aload_n (C.at (by decide) (by decide)) 0 rfl d_law_232 ?_
          refine rx_iload_n (C.at (by decide) (by decide)) 3 rfl d_law_233 ?_
          refine rx_iconst (C.at (by decide) (by decide)) (nI 1) (by decide) d_law_234 ?_
          refine rx_iaddN (C.at (by decide) (by decide)) d_law_235 ?_
          refine lx_sld C (i + 1) rfl (by omega) (by omega) d_law_236 ?_
          refine rx_aload_n (C.at (by decide) (by decide)) 0 rfl d_law_237 ?_
          refine rx_iload_n (C.at (by decide) (by decide)) 3 rfl d_law_238 ?_
          refine rx_iconst (C.at (by decide) (by decide)) (nI 2) (by decide) d_law_239 ?_
          refine rx_iaddN (C.at (by decide) (by decide)) d_law_240 ?_
          refine lx_sld C (i + 2) rfl (by omega) (by omega) d_law_241 ?_
          refine rx_callVi (C.at (by decide) (by decide)) (c_TM_covers l D ta w h m xs ys (sc (i + 1)) (sc (i + 2))) cw_LW_39 ⟨rfl, rfl, by decide, by decide⟩ rfl [13, 16, 17] rfl rfl (q0 := 0) rfl rfl rfl [.int (r0)] rfl (Nat.le_of_ble_eq_true rfl) (fun _ => rfl) d_law_242 (fun r1 u1 h1 => ?_)
          refine rx_ws (ws' := [(a 0, oTR w h a), (a 2, cI ta 576 (col)), (a 3, cC ta 576 (dep)), (a 4, cS ta 576 (stk)), (a 5, cZ ta 576 (sn)), (a 6, cI ta 3 (xs)), (a 7, cI ta 3 (ys)), (a 8, cI ta 3 (zs)), (a 9, cQ ta a), (a 10, cI ta 3 (upd (upd (upd od 0 (nI 0)) 1 (nI (v.1))) 2 (nI (v.2)))), (a 11, oEd (eN 0) (-((ys v.1 - ys 0).toInt64) * 16) ((xs v.1 - xs 0).toInt64 * 16) (bgE (xs 0) (ys 0) (xs v.1) (ys v.1)) (lsE (xs 0) (ys 0) (xs v.1) (ys v.1))), (a 12, oEd (eN 1) (-((ys v.2 - ys v.1).toInt64) * 16) ((xs v.2 - xs v.1).toInt64 * 16) (bgE (xs v.1) (ys v.1) (xs v.2) (ys v.2)) (lsE (xs v.1) (ys v.1) (xs v.2) (ys v.2))), (a 13, oEd (eN 2) (-((ys 0 - ys v.2).toInt64) * 16) ((xs 0 - xs v.2).toInt64 * 16) (bgE (xs v.2) (ys v.2) (xs 0) (ys 0)) (lsE (xs v.2) (ys v.2) (xs 0) (ys 0))), (m 0, oTM w h m), (m 2, cI ta 576 (cm)), (m 3, cI ta 576 (dm)), (m 4, cI ta 3 (xs)), (m 5, cI ta 3 (ys)), (m 6, cI ta 3 (zs)), (m 7, cZ ta 576 (mk))]) ?_ rfl
          have he := ag_cov hR.2.2.1 hR.2.2.2.1 h0 h1
          refine rx_icmp_eq (C.at (by decide) (by decide)) d_law_245 (fun _ => ?_) (fun q => absurd he q)
          exact K (col) (dep) (stk) (sn) (xs) (ys) (zs) (upd (upd (upd od 0 (nI 0)) 1 (nI (v.1))) 2 (nI (v.2))) (f3 (eN 0) (eN 1) (eN 2)) (f3 (-((ys v.1 - ys 0).toInt64) * 16) (-((ys v.2 - ys v.1).toInt64) * 16) (-((ys 0 - ys v.2).toInt64) * 16)) (f3 ((xs v.1 - xs 0).toInt64 * 16) ((xs v.2 - xs v.1).toInt64 * 16) ((xs 0 - xs v.2).toInt64 * 16)) (f3 (bgE (xs 0) (ys 0) (xs v.1) (ys v.1)) (bgE (xs v.1) (ys v.1) (xs v.2) (ys v.2)) (bgE (xs v.2) (ys v.2) (xs 0) (ys 0))) (f3 (lsE (xs 0) (ys 0) (xs v.1) (ys v.1)) (lsE (xs v.1) (ys v.1) (xs v.2) (ys v.2)) (lsE (xs v.2) (ys v.2) (xs 0) (ys 0))) (cm) (dm) (mk) hR
        · skip
          show G 20 4090 231 [(0, .ref (b)), (1, .ref (a 0)), (2, .ref (m 0)), (3, .int (nI (i)))] [.int (r0)] [(a 0, oTR w h a), (a 2, cI ta 576 (col)), (a 3, cC ta 576 (dep)), (a 4, cS ta 576 (stk)), (a 5, cZ ta 576 (sn)), (a 6, cI ta 3 (xs)), (a 7, cI ta 3 (ys)), (a 8, cI ta 3 (zs)), (a 9, cQ ta a), (a 10, cI ta 3 (od)), (a 11, oEd (eN 0) (eR 0) (eD 0) (eB 0) (eL 0)), (a 12, oEd (eN 1) (eR 1) (eD 1) (eB 1) (eL 1)), (a 13, oEd (eN 2) (eR 2) (eD 2) (eB 2) (eL 2)), (m 0, oTM w h m), (m 2, cI ta 576 (cm)), (m 3, cI ta 576 (dm)), (m 4, cI ta 3 (xs)), (m 5, cI ta 3 (ys)), (m 6, cI ta 3 (zs)), (m 7, cZ ta 576 (mk))]
          refine rx_aload_n (C.at (by decide) (by decide)) 2 rfl d_law_231 ?_
          refine rx_aload_n (C.at (by decide) (by decide)) 0 rfl d_law_232 ?_
          refine rx_iload_n (C.at (by decide) (by decide)) 3 rfl d_law_233 ?_
          refine rx_iconst (C.at (by decide) (by decide)) (nI 1) (by decide) d_law_234 ?_
          refine rx_iaddN (C.at (by decide) (by decide)) d_law_235 ?_
          refine lx_sld C (i + 1) rfl (by omega) (by omega) d_law_236 ?_
          refine rx_aload_n (C.at (by decide) (by decide)) 0 rfl d_law_237 ?_
          refine rx_iload_n (C.at (by decide) (by decide)) 3 rfl d_law_238 ?_
          refine rx_iconst (C.at (by decide) (by decide)) (nI 2) (by decide) d_law_239 ?_
          refine rx_iaddN (C.at (by decide) (by decide)) d_law_240 ?_
          refine lx_sld C (i + 2) rfl (by omega) (by omega) d_law_241 ?_
          refine rx_callVi (C.at (by decide) (by decide)) (c_TM_covers l D ta w h m xs ys (sc (i + 1)) (sc (i + 2))) cw_LW_39 ⟨rfl, rfl, by decide, by decide⟩ rfl [13, 16, 17] rfl rfl (q0 := 0) rfl rfl rfl [.int (r0)] rfl (Nat.le_of_ble_eq_true rfl) (fun _ => rfl) d_law_242 (fun r1 u1 h1 => ?_)
          refine rx_ws (ws' := [(a 0, oTR w h a), (a 2, cI ta 576 (col)), (a 3, cC ta 576 (dep)), (a 4, cS ta 576 (stk)), (a 5, cZ ta 576 (sn)), (a 6, cI ta 3 (xs)), (a 7, cI ta 3 (ys)), (a 8, cI ta 3 (zs)), (a 9, cQ ta a), (a 10, cI ta 3 (od)), (a 11, oEd (eN 0) (eR 0) (eD 0) (eB 0) (eL 0)), (a 12, oEd (eN 1) (eR 1) (eD 1) (eB 1) (eL 1)), (a 13, oEd (eN 2) (eR 2) (eD 2) (eB 2) (eL 2)), (m 0, oTM w h m), (m 2, cI ta 576 (cm)), (m 3, cI ta 576 (dm)), (m 4, cI ta 3 (xs)), (m 5, cI ta 3 (ys)), (m 6, cI ta 3 (zs)), (m 7, cZ ta 576 (mk))]) ?_ rfl
          have he := ag_cov hR.2.2.1 hR.2.2.2.1 h0 h1
          refine rx_icmp_eq (C.at (by decide) (by decide)) d_law_245 (fun _ => ?_) (fun q => absurd he q)
          exact K (col) (dep) (stk) (sn) (xs) (ys) (zs) (od) (eN) (eR) (eD) (eB) (eL) (cm) (dm) (mk) hR
      · skip
        refine lx_tsw C 4 197 250 ej (by decide) d_law_53 rfl (by decide) ?_
        refine rx_aload_n (C.at (by decide) (by decide)) 1 rfl d_law_250 ?_
        refine rx_aload_n (C.at (by decide) (by decide)) 0 rfl d_law_251 ?_
        refine rx_iload_n (C.at (by decide) (by decide)) 3 rfl d_law_252 ?_
        refine rx_iconst (C.at (by decide) (by decide)) (nI 1) (by decide) d_law_253 ?_
        refine rx_iaddN (C.at (by decide) (by decide)) d_law_254 ?_
        refine lx_sld C (i + 1) rfl (by omega) (by omega) d_law_255 ?_
        refine rx_aload_n (C.at (by decide) (by decide)) 0 rfl d_law_256 ?_
        refine rx_iload_n (C.at (by decide) (by decide)) 3 rfl d_law_257 ?_
        refine rx_iconst (C.at (by decide) (by decide)) (nI 2) (by decide) d_law_258 ?_
        refine rx_iaddN (C.at (by decide) (by decide)) d_law_259 ?_
        refine lx_sld C (i + 2) rfl (by omega) (by omega) d_law_260 ?_
        refine rx_aload_n (C.at (by decide) (by decide)) 0 rfl d_law_261 ?_
        refine rx_iload_n (C.at (by decide) (by decide)) 3 rfl d_law_262 ?_
        refine rx_iconst (C.at (by decide) (by decide)) (nI 3) (by decide) d_law_263 ?_
        refine rx_iaddN (C.at (by decide) (by decide)) d_law_264 ?_
        refine lx_sld C (i + 3) rfl (by omega) (by omega) d_law_265 ?_
        refine rx_aload_n (C.at (by decide) (by decide)) 0 rfl d_law_266 ?_
        refine rx_iload_n (C.at (by decide) (by decide)) 3 rfl d_law_267 ?_
        refine rx_iconst (C.at (by decide) (by decide)) (nI 4) (by decide) d_law_268 ?_
        refine rx_iaddN (C.at (by decide) (by decide)) d_law_269 ?_
        refine lx_sld C (i + 4) rfl (by omega) (by omega) d_law_270 ?_
        refine rx_aload_n (C.at (by decide) (by decide)) 0 rfl d_law_271 ?_
        refine rx_iload_n (C.at (by decide) (by decide)) 3 rfl d_law_272 ?_
        refine rx_iconst (C.at (by decide) (by decide)) (nI 5) (by decide) d_law_273 ?_
        refine rx_iaddN (C.at (by decide) (by decide)) d_law_274 ?_
        refine lx_sld C (i + 5) rfl (by omega) (by omega) d_law_275 ?_
        refine rx_callVi (C.at (by decide) (by decide)) (c_TR_line l D ta w h a col (sc (i + 1)) (sc (i + 2)) (sc (i + 3)) (sc (i + 4)) (sc (i + 5)) hw0 hw hh) cw_LW_40 ⟨rfl, rfl, by decide, by decide⟩ rfl [0, 1] rfl rfl (q0 := 0) rfl rfl rfl [] rfl (Nat.le_of_ble_eq_true rfl) (fun _ => rfl) d_law_276 (fun r0 u0 h0 => ?_)
        refine rx_ws (ws' := [(a 0, oTR w h a), (a 2, cI ta 576 (u0)), (a 3, cC ta 576 (dep)), (a 4, cS ta 576 (stk)), (a 5, cZ ta 576 (sn)), (a 6, cI ta 3 (xs)), (a 7, cI ta 3 (ys)), (a 8, cI ta 3 (zs)), (a 9, cQ ta a), (a 10, cI ta 3 (od)), (a 11, oEd (eN 0) (eR 0) (eD 0) (eB 0) (eL 0)), (a 12, oEd (eN 1) (eR 1) (eD 1) (eB 1) (eL 1)), (a 13, oEd (eN 2) (eR 2) (eD 2) (eB 2) (eL 2)), (m 0, oTM w h m), (m 2, cI ta 576 (cm)), (m 3, cI ta 576 (dm)), (m 4, cI ta 3 (xs)), (m 5, cI ta 3 (ys)), (m 6, cI ta 3 (zs)), (m 7, cZ ta 576 (mk))]) ?_ rfl
        refine rx_aload_n (C.at (by decide) (by decide)) 2 rfl d_law_279 ?_
        refine rx_aload_n (C.at (by decide) (by decide)) 0 rfl d_law_280 ?_
        refine rx_iload_n (C.at (by decide) (by decide)) 3 rfl d_law_281 ?_
        refine rx_iconst (C.at (by decide) (by decide)) (nI 1) (by decide) d_law_282 ?_
        refine rx_iaddN (C.at (by decide) (by decide)) d_law_283 ?_
        refine lx_sld C (i + 1) rfl (by omega) (by omega) d_law_284 ?_
        refine rx_aload_n (C.at (by decide) (by decide)) 0 rfl d_law_285 ?_
        refine rx_iload_n (C.at (by decide) (by decide)) 3 rfl d_law_286 ?_
        refine rx_iconst (C.at (by decide) (by decide)) (nI 2) (by decide) d_law_287 ?_
        refine rx_iaddN (C.at (by decide) (by decide)) d_law_288 ?_
        refine lx_sld C (i + 2) rfl (by omega) (by omega) d_law_289 ?_
        refine rx_aload_n (C.at (by decide) (by decide)) 0 rfl d_law_290 ?_
        refine rx_iload_n (C.at (by decide) (by decide)) 3 rfl d_law_291 ?_
        refine rx_iconst (C.at (by decide) (by decide)) (nI 3) (by decide) d_law_292 ?_
        refine rx_iaddN (C.at (by decide) (by decide)) d_law_293 ?_
        refine lx_sld C (i + 3) rfl (by omega) (by omega) d_law_294 ?_
        refine rx_aload_n (C.at (by decide) (by decide)) 0 rfl d_law_295 ?_
        refine rx_iload_n (C.at (by decide) (by decide)) 3 rfl d_law_296 ?_
        refine rx_iconst (C.at (by decide) (by decide)) (nI 4) (by decide) d_law_297 ?_
        refine rx_iaddN (C.at (by decide) (by decide)) d_law_298 ?_
        refine lx_sld C (i + 4) rfl (by omega) (by omega) d_law_299 ?_
        refine rx_aload_n (C.at (by decide) (by decide)) 0 rfl d_law_300 ?_
        refine rx_iload_n (C.at (by decide) (by decide)) 3 rfl d_law_301 ?_
        refine rx_iconst (C.at (by decide) (by decide)) (nI 5) (by decide) d_law_302 ?_
        refine rx_iaddN (C.at (by decide) (by decide)) d_law_303 ?_
        refine lx_sld C (i + 5) rfl (by omega) (by omega) d_law_304 ?_
        refine rx_callVi (C.at (by decide) (by decide)) (c_TM_line l D ta w h m cm (sc (i + 1)) (sc (i + 2)) (sc (i + 3)) (sc (i + 4)) (sc (i + 5)) hw0 hw hh) cw_LW_44 ⟨rfl, rfl, by decide, by decide⟩ rfl [13, 14] rfl rfl (q0 := 0) rfl rfl rfl [.int (r0)] rfl (Nat.le_of_ble_eq_true rfl) (fun _ => rfl) d_law_305 (fun r1 u1 h1 => ?_)
        refine rx_ws (ws' := [(a 0, oTR w h a), (a 2, cI ta 576 (u0)), (a 3, cC ta 576 (dep)), (a 4, cS ta 576 (stk)), (a 5, cZ ta 576 (sn)), (a 6, cI ta 3 (xs)), (a 7, cI ta 3 (ys)), (a 8, cI ta 3 (zs)), (a 9, cQ ta a), (a 10, cI ta 3 (od)), (a 11, oEd (eN 0) (eR 0) (eD 0) (eB 0) (eL 0)), (a 12, oEd (eN 1) (eR 1) (eD 1) (eB 1) (eL 1)), (a 13, oEd (eN 2) (eR 2) (eD 2) (eB 2) (eL 2)), (m 0, oTM w h m), (m 2, cI ta 576 (u1)), (m 3, cI ta 576 (dm)), (m 4, cI ta 3 (xs)), (m 5, cI ta 3 (ys)), (m 6, cI ta 3 (zs)), (m 7, cZ ta 576 (mk))]) ?_ rfl
        obtain ⟨he, hR2⟩ := lineP_u hR.1 h0 h1
        refine rx_icmp_eq (C.at (by decide) (by decide)) d_law_308 (fun _ => ?_) (fun q => absurd he q)
        exact K (u0) (dep) (stk) (sn) (xs) (ys) (zs) (od) (eN) (eR) (eD) (eB) (eL) (u1) (dm) (mk) ⟨hR2, hR.2⟩
      · skip
        refine lx_tsw C 5 260 313 ej (by decide) d_law_53 rfl (by decide) ?_
        refine rx_aload_n (C.at (by decide) (by decide)) 1 rfl d_law_313 ?_
        refine rx_aload_n (C.at (by decide) (by decide)) 0 rfl d_law_314 ?_
        refine rx_iload_n (C.at (by decide) (by decide)) 3 rfl d_law_315 ?_
        refine rx_iconst (C.at (by decide) (by decide)) (nI 1) (by decide) d_law_316 ?_
        refine rx_iaddN (C.at (by decide) (by decide)) d_law_317 ?_
        refine lx_sld C (i + 1) rfl (by omega) (by omega) d_law_318 ?_
        refine rx_aload_n (C.at (by decide) (by decide)) 0 rfl d_law_319 ?_
        refine rx_iload_n (C.at (by decide) (by decide)) 3 rfl d_law_320 ?_
        refine rx_iconst (C.at (by decide) (by decide)) (nI 2) (by decide) d_law_321 ?_
        refine rx_iaddN (C.at (by decide) (by decide)) d_law_322 ?_
        refine lx_sld C (i + 2) rfl (by omega) (by omega) d_law_323 ?_
        refine rx_aload_n (C.at (by decide) (by decide)) 0 rfl d_law_324 ?_
        refine rx_iload_n (C.at (by decide) (by decide)) 3 rfl d_law_325 ?_
        refine rx_iconst (C.at (by decide) (by decide)) (nI 3) (by decide) d_law_326 ?_
        refine rx_iaddN (C.at (by decide) (by decide)) d_law_327 ?_
        refine lx_sld C (i + 3) rfl (by omega) (by omega) d_law_328 ?_
        refine rx_callVi (C.at (by decide) (by decide)) (c_TR_fill l D ta w h a col stk sn (sc (i + 1)) (sc (i + 2)) (sc (i + 3)) hw0 hw hh) cw_LW_45 ⟨rfl, rfl, by decide, by decide⟩ rfl [0, 1, 3, 4] rfl rfl (q0 := 0) rfl rfl rfl [] rfl (Nat.le_of_ble_eq_true rfl) (fun _ => rfl) d_law_329 (fun r0 u0 h0 => ?_)
        refine rx_ws (ws' := [(a 0, oTR w h a), (a 2, cI ta 576 (u0.1)), (a 3, cC ta 576 (dep)), (a 4, cS ta 576 (u0.2.1)), (a 5, cZ ta 576 (u0.2.2)), (a 6, cI ta 3 (xs)), (a 7, cI ta 3 (ys)), (a 8, cI ta 3 (zs)), (a 9, cQ ta a), (a 10, cI ta 3 (od)), (a 11, oEd (eN 0) (eR 0) (eD 0) (eB 0) (eL 0)), (a 12, oEd (eN 1) (eR 1) (eD 1) (eB 1) (eL 1)), (a 13, oEd (eN 2) (eR 2) (eD 2) (eB 2) (eL 2)), (m 0, oTM w h m), (m 2, cI ta 576 (cm)), (m 3, cI ta 576 (dm)), (m 4, cI ta 3 (xs)), (m 5, cI ta 3 (ys)), (m 6, cI ta 3 (zs)), (m 7, cZ ta 576 (mk))]) ?_ rfl
        refine rx_aload_n (C.at (by decide) (by decide)) 2 rfl d_law_332 ?_
        refine rx_aload_n (C.at (by decide) (by decide)) 0 rfl d_law_333 ?_
        refine rx_iload_n (C.at (by decide) (by decide)) 3 rfl d_law_334 ?_
        refine rx_iconst (C.at (by decide) (by decide)) (nI 1) (by decide) d_law_335 ?_
        refine rx_iaddN (C.at (by decide) (by decide)) d_law_336 ?_
        refine lx_sld C (i + 1) rfl (by omega) (by omega) d_law_337 ?_
        refine rx_aload_n (C.at (by decide) (by decide)) 0 rfl d_law_338 ?_
        refine rx_iload_n (C.at (by decide) (by decide)) 3 rfl d_law_339 ?_
        refine rx_iconst (C.at (by decide) (by decide)) (nI 2) (by decide) d_law_340 ?_
        refine rx_iaddN (C.at (by decide) (by decide)) d_law_341 ?_
        refine lx_sld C (i + 2) rfl (by omega) (by omega) d_law_342 ?_
        refine rx_aload_n (C.at (by decide) (by decide)) 0 rfl d_law_343 ?_
        refine rx_iload_n (C.at (by decide) (by decide)) 3 rfl d_law_344 ?_
        refine rx_iconst (C.at (by decide) (by decide)) (nI 3) (by decide) d_law_345 ?_
        refine rx_iaddN (C.at (by decide) (by decide)) d_law_346 ?_
        refine lx_sld C (i + 3) rfl (by omega) (by omega) d_law_347 ?_
        refine rx_callVi (C.at (by decide) (by decide)) (c_TM_fill l D ta w h m cm mk (sc (i + 1)) (sc (i + 2)) (sc (i + 3)) hw0 hw hh) cw_LW_49 ⟨rfl, rfl, by decide, by decide⟩ rfl [13, 14, 19] rfl rfl (q0 := 0) rfl rfl rfl [.int (r0)] rfl (Nat.le_of_ble_eq_true rfl) (fun _ => rfl) d_law_348 (fun r1 u1 h1 => ?_)
        refine rx_ws (ws' := [(a 0, oTR w h a), (a 2, cI ta 576 (u0.1)), (a 3, cC ta 576 (dep)), (a 4, cS ta 576 (u0.2.1)), (a 5, cZ ta 576 (u0.2.2)), (a 6, cI ta 3 (xs)), (a 7, cI ta 3 (ys)), (a 8, cI ta 3 (zs)), (a 9, cQ ta a), (a 10, cI ta 3 (od)), (a 11, oEd (eN 0) (eR 0) (eD 0) (eB 0) (eL 0)), (a 12, oEd (eN 1) (eR 1) (eD 1) (eB 1) (eL 1)), (a 13, oEd (eN 2) (eR 2) (eD 2) (eB 2) (eL 2)), (m 0, oTM w h m), (m 2, cI ta 576 (u1.1)), (m 3, cI ta 576 (dm)), (m 4, cI ta 3 (xs)), (m 5, cI ta 3 (ys)), (m 6, cI ta 3 (zs)), (m 7, cZ ta 576 (u1.2))]) ?_ rfl
        obtain ⟨he, hR2⟩ := fillP_u hw hh hR.1 h0 h1
        refine rx_icmp_eq (C.at (by decide) (by decide)) d_law_351 (fun _ => ?_) (fun q => absurd he q)
        exact K (u0.1) (dep) (u0.2.1) (u0.2.2) (xs) (ys) (zs) (od) (eN) (eR) (eD) (eB) (eL) (u1.1) (dm) (u1.2) ⟨hR2, hR.2⟩
      · skip
        refine lx_tsw C 6 303 356 ej (by decide) d_law_53 rfl (by decide) ?_
        refine rx_aload_n (C.at (by decide) (by decide)) 1 rfl d_law_356 ?_
        refine rx_aload_n (C.at (by decide) (by decide)) 0 rfl d_law_357 ?_
        refine rx_iload_n (C.at (by decide) (by decide)) 3 rfl d_law_358 ?_
        refine rx_iconst (C.at (by decide) (by decide)) (nI 1) (by decide) d_law_359 ?_
        refine rx_iaddN (C.at (by decide) (by decide)) d_law_360 ?_
        refine lx_sld C (i + 1) rfl (by omega) (by omega) d_law_361 ?_
        refine rx_aload_n (C.at (by decide) (by decide)) 0 rfl d_law_362 ?_
        refine rx_iload_n (C.at (by decide) (by decide)) 3 rfl d_law_363 ?_
        refine rx_iconst (C.at (by decide) (by decide)) (nI 2) (by decide) d_law_364 ?_
        refine rx_iaddN (C.at (by decide) (by decide)) d_law_365 ?_
        refine lx_sld C (i + 2) rfl (by omega) (by omega) d_law_366 ?_
        refine rx_callVi (C.at (by decide) (by decide)) (c_TR_pixel l D ta w h a col (sc (i + 1)) (sc (i + 2)) hw hh) cw_LW_50 ⟨rfl, rfl, by decide, by decide⟩ rfl [0, 1] rfl rfl (q0 := 0) rfl rfl rfl [] rfl (Nat.le_of_ble_eq_true rfl) (fun _ => rfl) d_law_367 (fun r0 u0 h0 => ?_)
        refine rx_ws (ws' := [(a 0, oTR w h a), (a 2, cI ta 576 (col)), (a 3, cC ta 576 (dep)), (a 4, cS ta 576 (stk)), (a 5, cZ ta 576 (sn)), (a 6, cI ta 3 (xs)), (a 7, cI ta 3 (ys)), (a 8, cI ta 3 (zs)), (a 9, cQ ta a), (a 10, cI ta 3 (od)), (a 11, oEd (eN 0) (eR 0) (eD 0) (eB 0) (eL 0)), (a 12, oEd (eN 1) (eR 1) (eD 1) (eB 1) (eL 1)), (a 13, oEd (eN 2) (eR 2) (eD 2) (eB 2) (eL 2)), (m 0, oTM w h m), (m 2, cI ta 576 (cm)), (m 3, cI ta 576 (dm)), (m 4, cI ta 3 (xs)), (m 5, cI ta 3 (ys)), (m 6, cI ta 3 (zs)), (m 7, cZ ta 576 (mk))]) ?_ rfl
        refine rx_aload_n (C.at (by decide) (by decide)) 2 rfl d_law_370 ?_
        refine rx_aload_n (C.at (by decide) (by decide)) 0 rfl d_law_371 ?_
        refine rx_iload_n (C.at (by decide) (by decide)) 3 rfl d_law_372 ?_
        refine rx_iconst (C.at (by decide) (by decide)) (nI 1) (by decide) d_law_373 ?_
        refine rx_iaddN (C.at (by decide) (by decide)) d_law_374 ?_
        refine lx_sld C (i + 1) rfl (by omega) (by omega) d_law_375 ?_
        refine rx_aload_n (C.at (by decide) (by decide)) 0 rfl d_law_376 ?_
        refine rx_iload_n (C.at (by decide) (by decide)) 3 rfl d_law_377 ?_
        refine rx_iconst (C.at (by decide) (by decide)) (nI 2) (by decide) d_law_378 ?_
        refine rx_iaddN (C.at (by decide) (by decide)) d_law_379 ?_
        refine lx_sld C (i + 2) rfl (by omega) (by omega) d_law_380 ?_
        refine rx_callVi (C.at (by decide) (by decide)) (c_TM_pixel l D ta w h m cm (sc (i + 1)) (sc (i + 2)) hw hh) cw_LW_54 ⟨rfl, rfl, by decide, by decide⟩ rfl [13, 14] rfl rfl (q0 := 0) rfl rfl rfl [.int (r0)] rfl (Nat.le_of_ble_eq_true rfl) (fun _ => rfl) d_law_381 (fun r1 u1 h1 => ?_)
        refine rx_ws (ws' := [(a 0, oTR w h a), (a 2, cI ta 576 (col)), (a 3, cC ta 576 (dep)), (a 4, cS ta 576 (stk)), (a 5, cZ ta 576 (sn)), (a 6, cI ta 3 (xs)), (a 7, cI ta 3 (ys)), (a 8, cI ta 3 (zs)), (a 9, cQ ta a), (a 10, cI ta 3 (od)), (a 11, oEd (eN 0) (eR 0) (eD 0) (eB 0) (eL 0)), (a 12, oEd (eN 1) (eR 1) (eD 1) (eB 1) (eL 1)), (a 13, oEd (eN 2) (eR 2) (eD 2) (eB 2) (eL 2)), (m 0, oTM w h m), (m 2, cI ta 576 (cm)), (m 3, cI ta 576 (dm)), (m 4, cI ta 3 (xs)), (m 5, cI ta 3 (ys)), (m 6, cI ta 3 (zs)), (m 7, cZ ta 576 (mk))]) ?_ rfl
        have he := ag_at hw hh hR.1 h0 h1
        refine rx_icmp_eq (C.at (by decide) (by decide)) d_law_384 (fun _ => ?_) (fun q => absurd he q)
        exact K (col) (dep) (stk) (sn) (xs) (ys) (zs) (od) (eN) (eR) (eD) (eB) (eL) (cm) (dm) (mk) hR
      · skip
        refine lx_tsw C 7 336 389 ej (by decide) d_law_53 rfl (by decide) ?_
        refine rx_aload_n (C.at (by decide) (by decide)) 1 rfl d_law_389 ?_
        refine rx_aload_n (C.at (by decide) (by decide)) 0 rfl d_law_390 ?_
        refine rx_iload_n (C.at (by decide) (by decide)) 3 rfl d_law_391 ?_
        refine rx_iconst (C.at (by decide) (by decide)) (nI 1) (by decide) d_law_392 ?_
        refine rx_iaddN (C.at (by decide) (by decide)) d_law_393 ?_
        refine lx_sld C (i + 1) rfl (by omega) (by omega) d_law_394 ?_
        refine rx_aload_n (C.at (by decide) (by decide)) 0 rfl d_law_395 ?_
        refine rx_iload_n (C.at (by decide) (by decide)) 3 rfl d_law_396 ?_
        refine rx_iconst (C.at (by decide) (by decide)) (nI 2) (by decide) d_law_397 ?_
        refine rx_iaddN (C.at (by decide) (by decide)) d_law_398 ?_
        refine lx_sld C (i + 2) rfl (by omega) (by omega) d_law_399 ?_
        refine rx_callVi (C.at (by decide) (by decide)) (c_TR_depthAt l D ta w h a dep (sc (i + 1)) (sc (i + 2)) hw hh) cw_LW_55 ⟨rfl, rfl, by decide, by decide⟩ rfl [0, 2] rfl rfl (q0 := 0) rfl rfl rfl [] rfl (Nat.le_of_ble_eq_true rfl) (fun _ => rfl) d_law_400 (fun r0 u0 h0 => ?_)
        refine rx_ws (ws' := [(a 0, oTR w h a), (a 2, cI ta 576 (col)), (a 3, cC ta 576 (dep)), (a 4, cS ta 576 (stk)), (a 5, cZ ta 576 (sn)), (a 6, cI ta 3 (xs)), (a 7, cI ta 3 (ys)), (a 8, cI ta 3 (zs)), (a 9, cQ ta a), (a 10, cI ta 3 (od)), (a 11, oEd (eN 0) (eR 0) (eD 0) (eB 0) (eL 0)), (a 12, oEd (eN 1) (eR 1) (eD 1) (eB 1) (eL 1)), (a 13, oEd (eN 2) (eR 2) (eD 2) (eB 2) (eL 2)), (m 0, oTM w h m), (m 2, cI ta 576 (cm)), (m 3, cI ta 576 (dm)), (m 4, cI ta 3 (xs)), (m 5, cI ta 3 (ys)), (m 6, cI ta 3 (zs)), (m 7, cZ ta 576 (mk))]) ?_ rfl
        refine rx_aload_n (C.at (by decide) (by decide)) 2 rfl d_law_403 ?_
        refine rx_aload_n (C.at (by decide) (by decide)) 0 rfl d_law_404 ?_
        refine rx_iload_n (C.at (by decide) (by decide)) 3 rfl d_law_405 ?_
        refine rx_iconst (C.at (by decide) (by decide)) (nI 1) (by decide) d_law_406 ?_
        refine rx_iaddN (C.at (by decide) (by decide)) d_law_407 ?_
        refine lx_sld C (i + 1) rfl (by omega) (by omega) d_law_408 ?_
        refine rx_aload_n (C.at (by decide) (by decide)) 0 rfl d_law_409 ?_
        refine rx_iload_n (C.at (by decide) (by decide)) 3 rfl d_law_410 ?_
        refine rx_iconst (C.at (by decide) (by decide)) (nI 2) (by decide) d_law_411 ?_
        refine rx_iaddN (C.at (by decide) (by decide)) d_law_412 ?_
        refine lx_sld C (i + 2) rfl (by omega) (by omega) d_law_413 ?_
        refine rx_callVi (C.at (by decide) (by decide)) (c_TM_depthAt l D ta w h m dm (sc (i + 1)) (sc (i + 2)) hw hh) cw_LW_58 ⟨rfl, rfl, by decide, by decide⟩ rfl [13, 15] rfl rfl (q0 := 0) rfl rfl rfl [.int (r0)] rfl (Nat.le_of_ble_eq_true rfl) (fun _ => rfl) d_law_414 (fun r1 u1 h1 => ?_)
        refine rx_ws (ws' := [(a 0, oTR w h a), (a 2, cI ta 576 (col)), (a 3, cC ta 576 (dep)), (a 4, cS ta 576 (stk)), (a 5, cZ ta 576 (sn)), (a 6, cI ta 3 (xs)), (a 7, cI ta 3 (ys)), (a 8, cI ta 3 (zs)), (a 9, cQ ta a), (a 10, cI ta 3 (od)), (a 11, oEd (eN 0) (eR 0) (eD 0) (eB 0) (eL 0)), (a 12, oEd (eN 1) (eR 1) (eD 1) (eB 1) (eL 1)), (a 13, oEd (eN 2) (eR 2) (eD 2) (eB 2) (eL 2)), (m 0, oTM w h m), (m 2, cI ta 576 (cm)), (m 3, cI ta 576 (dm)), (m 4, cI ta 3 (xs)), (m 5, cI ta 3 (ys)), (m 6, cI ta 3 (zs)), (m 7, cZ ta 576 (mk))]) ?_ rfl
        have he := ag_at hw hh hR.2.1 h0 h1
        refine rx_icmp_eq (C.at (by decide) (by decide)) d_law_417 (fun _ => ?_) (fun q => absurd he q)
        exact K (col) (dep) (stk) (sn) (xs) (ys) (zs) (od) (eN) (eR) (eD) (eB) (eL) (cm) (dm) (mk) hR
      · skip
        refine lx_tsw C 8 369 422 ej (by decide) d_law_53 rfl (by decide) ?_
        refine rx_aload_n (C.at (by decide) (by decide)) 1 rfl d_law_422 ?_
        refine rx_aload_n (C.at (by decide) (by decide)) 0 rfl d_law_423 ?_
        refine rx_iload_n (C.at (by decide) (by decide)) 3 rfl d_law_424 ?_
        refine rx_iconst (C.at (by decide) (by decide)) (nI 1) (by decide) d_law_425 ?_
        refine rx_iaddN (C.at (by decide) (by decide)) d_law_426 ?_
        refine lx_sld C (i + 1) rfl (by omega) (by omega) d_law_427 ?_
        refine rx_callVi (C.at (by decide) (by decide)) (c_TR_count l D ta w h a col (sc (i + 1)) hw hh) cw_LW_59 ⟨rfl, rfl, by decide, by decide⟩ rfl [0, 1] rfl rfl (q0 := 0) rfl rfl rfl [] rfl (Nat.le_of_ble_eq_true rfl) (fun _ => rfl) d_law_428 (fun r0 u0 h0 => ?_)
        refine rx_ws (ws' := [(a 0, oTR w h a), (a 2, cI ta 576 (col)), (a 3, cC ta 576 (dep)), (a 4, cS ta 576 (stk)), (a 5, cZ ta 576 (sn)), (a 6, cI ta 3 (xs)), (a 7, cI ta 3 (ys)), (a 8, cI ta 3 (zs)), (a 9, cQ ta a), (a 10, cI ta 3 (od)), (a 11, oEd (eN 0) (eR 0) (eD 0) (eB 0) (eL 0)), (a 12, oEd (eN 1) (eR 1) (eD 1) (eB 1) (eL 1)), (a 13, oEd (eN 2) (eR 2) (eD 2) (eB 2) (eL 2)), (m 0, oTM w h m), (m 2, cI ta 576 (cm)), (m 3, cI ta 576 (dm)), (m 4, cI ta 3 (xs)), (m 5, cI ta 3 (ys)), (m 6, cI ta 3 (zs)), (m 7, cZ ta 576 (mk))]) ?_ rfl
        refine rx_aload_n (C.at (by decide) (by decide)) 2 rfl d_law_431 ?_
        refine rx_aload_n (C.at (by decide) (by decide)) 0 rfl d_law_432 ?_
        refine rx_iload_n (C.at (by decide) (by decide)) 3 rfl d_law_433 ?_
        refine rx_iconst (C.at (by decide) (by decide)) (nI 1) (by decide) d_law_434 ?_
        refine rx_iaddN (C.at (by decide) (by decide)) d_law_435 ?_
        refine lx_sld C (i + 1) rfl (by omega) (by omega) d_law_436 ?_
        refine rx_callVi (C.at (by decide) (by decide)) (c_TM_count l D ta w h m cm (sc (i + 1)) hw hh) cw_LW_62 ⟨rfl, rfl, by decide, by decide⟩ rfl [13, 14] rfl rfl (q0 := 0) rfl rfl rfl [.int (r0)] rfl (Nat.le_of_ble_eq_true rfl) (fun _ => rfl) d_law_437 (fun r1 u1 h1 => ?_)
        refine rx_ws (ws' := [(a 0, oTR w h a), (a 2, cI ta 576 (col)), (a 3, cC ta 576 (dep)), (a 4, cS ta 576 (stk)), (a 5, cZ ta 576 (sn)), (a 6, cI ta 3 (xs)), (a 7, cI ta 3 (ys)), (a 8, cI ta 3 (zs)), (a 9, cQ ta a), (a 10, cI ta 3 (od)), (a 11, oEd (eN 0) (eR 0) (eD 0) (eB 0) (eL 0)), (a 12, oEd (eN 1) (eR 1) (eD 1) (eB 1) (eL 1)), (a 13, oEd (eN 2) (eR 2) (eD 2) (eB 2) (eL 2)), (m 0, oTM w h m), (m 2, cI ta 576 (cm)), (m 3, cI ta 576 (dm)), (m 4, cI ta 3 (xs)), (m 5, cI ta 3 (ys)), (m 6, cI ta 3 (zs)), (m 7, cZ ta 576 (mk))]) ?_ rfl
        have he : r0 = r1 := by rw [h0, h1, ct_congr (w * h) (fun k hk => by rw [hR.1 k hk])]
        refine rx_icmp_eq (C.at (by decide) (by decide)) d_law_440 (fun _ => ?_) (fun q => absurd he q)
        exact K (col) (dep) (stk) (sn) (xs) (ys) (zs) (od) (eN) (eR) (eD) (eB) (eL) (cm) (dm) (mk) hR
      · skip
        refine lx_tsw C 9 392 445 ej (by decide) d_law_53 rfl (by decide) ?_
        refine rx_aload_n (C.at (by decide) (by decide)) 1 rfl d_law_445 ?_
        refine rx_aload_n (C.at (by decide) (by decide)) 0 rfl d_law_446 ?_
        refine rx_iload_n (C.at (by decide) (by decide)) 3 rfl d_law_447 ?_
        refine rx_iconst (C.at (by decide) (by decide)) (nI 1) (by decide) d_law_448 ?_
        refine rx_iaddN (C.at (by decide) (by decide)) d_law_449 ?_
        refine lx_sld C (i + 1) rfl (by omega) (by omega) d_law_450 ?_
        refine rx_callVi (C.at (by decide) (by decide)) (c_TR_pieces l D ta w h a col stk sn (sc (i + 1)) hw0 hw hh) cw_LW_63 ⟨rfl, rfl, by decide, by decide⟩ rfl [0, 1, 3, 4] rfl rfl (q0 := 0) rfl rfl rfl [] rfl (Nat.le_of_ble_eq_true rfl) (fun _ => rfl) d_law_451 (fun r0 u0 h0 => ?_)
        refine rx_ws (ws' := [(a 0, oTR w h a), (a 2, cI ta 576 (col)), (a 3, cC ta 576 (dep)), (a 4, cS ta 576 (u0.1)), (a 5, cZ ta 576 (u0.2)), (a 6, cI ta 3 (xs)), (a 7, cI ta 3 (ys)), (a 8, cI ta 3 (zs)), (a 9, cQ ta a), (a 10, cI ta 3 (od)), (a 11, oEd (eN 0) (eR 0) (eD 0) (eB 0) (eL 0)), (a 12, oEd (eN 1) (eR 1) (eD 1) (eB 1) (eL 1)), (a 13, oEd (eN 2) (eR 2) (eD 2) (eB 2) (eL 2)), (m 0, oTM w h m), (m 2, cI ta 576 (cm)), (m 3, cI ta 576 (dm)), (m 4, cI ta 3 (xs)), (m 5, cI ta 3 (ys)), (m 6, cI ta 3 (zs)), (m 7, cZ ta 576 (mk))]) ?_ rfl
        refine rx_aload_n (C.at (by decide) (by decide)) 2 rfl d_law_454 ?_
        refine rx_aload_n (C.at (by decide) (by decide)) 0 rfl d_law_455 ?_
        refine rx_iload_n (C.at (by decide) (by decide)) 3 rfl d_law_456 ?_
        refine rx_iconst (C.at (by decide) (by decide)) (nI 1) (by decide) d_law_457 ?_
        refine rx_iaddN (C.at (by decide) (by decide)) d_law_458 ?_
        refine lx_sld C (i + 1) rfl (by omega) (by omega) d_law_459 ?_
        refine rx_callVi (C.at (by decide) (by decide)) (c_TM_pieces l D ta w h m cm mk (sc (i + 1)) hw0 hw hh) cw_LW_66 ⟨rfl, rfl, by decide, by decide⟩ rfl [13, 14, 19] rfl rfl (q0 := 0) rfl rfl rfl [.int (r0)] rfl (Nat.le_of_ble_eq_true rfl) (fun _ => rfl) d_law_460 (fun r1 u1 h1 => ?_)
        refine rx_ws (ws' := [(a 0, oTR w h a), (a 2, cI ta 576 (col)), (a 3, cC ta 576 (dep)), (a 4, cS ta 576 (u0.1)), (a 5, cZ ta 576 (u0.2)), (a 6, cI ta 3 (xs)), (a 7, cI ta 3 (ys)), (a 8, cI ta 3 (zs)), (a 9, cQ ta a), (a 10, cI ta 3 (od)), (a 11, oEd (eN 0) (eR 0) (eD 0) (eB 0) (eL 0)), (a 12, oEd (eN 1) (eR 1) (eD 1) (eB 1) (eL 1)), (a 13, oEd (eN 2) (eR 2) (eD 2) (eB 2) (eL 2)), (m 0, oTM w h m), (m 2, cI ta 576 (cm)), (m 3, cI ta 576 (dm)), (m 4, cI ta 3 (xs)), (m 5, cI ta 3 (ys)), (m 6, cI ta 3 (zs)), (m 7, cZ ta 576 (u1))]) ?_ rfl
        have he : r0 = r1 := by obtain ⟨S1, N1, p1, e1⟩ := h0; obtain ⟨S2, N2, p2, e2⟩ := h1; rw [e1, e2, (pcR_u hR.1 _ _ _ _ _ (Nat.le_refl _) p1 p2).2]
        refine rx_icmp_eq (C.at (by decide) (by decide)) d_law_463 (fun _ => ?_) (fun q => absurd he q)
        exact K (col) (dep) (u0.1) (u0.2) (xs) (ys) (zs) (od) (eN) (eR) (eD) (eB) (eL) (cm) (dm) (u1) hR
      · skip
        refine lx_tswD C j 468 ej hj9 (by omega) d_law_53 (by decide) ?_
        exact K (col) (dep) (stk) (sn) (xs) (ys) (zs) (od) (eN) (eR) (eD) (eB) (eL) (cm) (dm) (mk) hR
end
section
theorem tys_known {b : Nat} {s : State} (hts : ∀ w ∈ lw_tbl, w.before #[Value.ref b] s = true) : ∃ ta : Nat → ClassId, ∀ (k : Nat) (q : ClassId × FieldType), (tys ta)[k]? = some q → ArrOfT s q.1 q.2 ∧ va_RA s q.1 q.2 := by
  have prim : ∀ ty, (∀ C, ty ≠ FieldType.object C) → (Cond.arrayClass ty).before #[Value.ref b] s = true → ∃ cA, ArrOfT s cA ty ∧ va_RA s cA ty := fun ty hne h => by
    obtain ⟨cA, kA, comp, h1, h2, h3⟩ := Cond.arrayClass_spec h
    refine ⟨cA, fun n z => ⟨fun k h => (by cases h), kA, h2, comp, h3⟩, ?_⟩
    cases ty with
    | object C => exact absurd rfl (hne C)
    | _ => exact h1
  obtain ⟨c0, h0⟩ := prim .int (fun C h => by cases h) (hts _ (List.mem_filter.mp g_38).1)
  obtain ⟨c1, h1⟩ := prim .char (fun C h => by cases h) (hts _ (List.mem_filter.mp g_39).1)
  obtain ⟨c2, h2⟩ := prim .short (fun C h => by cases h) (hts _ (List.mem_filter.mp g_40).1)
  obtain ⟨c3, h3⟩ := prim .boolean (fun C h => by cases h) (hts _ (List.mem_filter.mp g_41).1)
  have hov : (Cond.arrayOver (.object "TriangleRaster$Edge")).before #[Value.ref b] s = true := hts _ (List.mem_of_getElem? (i := 31) rfl)
  obtain ⟨comp, c4, k4, f1, -, f2, f3, f4⟩ := Cond.arrayOver_spec hov
  refine ⟨fun k => match k with | 0 => c0 | 1 => c1 | 2 => c2 | 3 => c3 | _ => c4, fun k q hq => ?_⟩
  match k, hq with
  | 0, hq => cases hq; exact h0
  | 1, hq => cases hq; exact h1
  | 2, hq => cases hq; exact h2
  | 3, hq => cases hq; exact h3
  | 4, hq => cases hq; exact ⟨fun N z => ⟨(fun k h => by cases h), k4, f2, comp, f3⟩, k4, comp, f2, f3, f1, f4⟩
  | k + 5, hq => simp [tys] at hq
set_option maxHeartbeats 4000000 in
set_option maxRecDepth 100000 in
/-- THE LAW, from its entry -/
theorem whole_start {p : Program} {e : Env} {s : State} {m : MethodId} {below : List Frame} {meth : Method} {c : Code} (l : Launch) {b L : Nat} {xs : Nat → Int32} (hL : L ≤ 3074) (C0 : lw_At p s m meth c b L xs) : W p l e room_1 s m #[Value.ref b] below meth c s.heap [] 0 0 (lw_Z below #[Value.ref b] s) (entryFrame m ([Value.ref b] : List Value).toArray 4) := by
  obtain ⟨hx, hb, hr, hml, hown, hts, hX, hbl, hlocks, hgv⟩ := id C0
  have htg : ∀ w ∈ gw, w.before #[Value.ref b] s = true := fun w hw => hts w (List.mem_filter.mp hw).1
  obtain ⟨c0, iS0, hKn0⟩ := u_known (C := R_TR) (T := F_TR) (N := 11) (n := 11) htg i_TR (htg _ g_7)
  obtain ⟨c1, iS1, hKn1⟩ := u_known (C := R_Ed) (T := F_Ed) (N := 5) (n := 5) htg i_Ed (htg _ g_16)
  obtain ⟨c2, iS2, hKn2⟩ := u_known (C := R_TM) (T := F_TM) (N := 8) (n := 8) htg i_TM (htg _ g_183)
  obtain ⟨ta, hta⟩ := tys_known hts
  obtain ⟨D, hKD⟩ : ∃ D : va_G, ∀ (k : Nat) (q : vw_C), cls3[k]? = some q → u_Kn s q.1 q.2.1 q.2.2 (D.1 k) (D.2 k) := by
    refine ⟨(fun k => match k with | 0 => c0 | 1 => c1 | _ => c2, fun k => match k with | 0 => iS0 | 1 => iS1 | _ => iS2), fun k q hq => ?_⟩
    match k, hq with
    | 0, hq => cases hq; exact hKn0
    | 1, hq => cases hq; exact hKn1
    | 2, hq => cases hq; exact hKn2
    | k + 3, hq => simp [cls3] at hq
  have hK : va_K D cls3 (tys ta) s := ⟨hKD, hta⟩
  have hnw : va_Nw nestW s := va_Nw.of rfl (hts nestW (List.mem_of_getElem? (i := 33) rfl))
  have hao : va_AO "TriangleRaster$Edge" s := va_AO.of (hts (.arrayOver (.object "TriangleRaster$Edge")) (List.mem_of_getElem? (i := 31) rfl))
  obtain ⟨G, hG⟩ : ∃ G : GN, G = fun ck cs pc lv st ws => ∀ (ls : Array Slot) (H : Heap) (locs : List Loc), lv_has ls 4 lv → va_P D cls3 ws H → va_D (fun q : Nat => s.heap.size ≤ q) ws → va_S (fun q : Nat => s.heap.size ≤ q) s.heap H locs → W p l e room_1 s m #[Value.ref b] below meth c H locs ck cs (lw_Z below #[Value.ref b] s) (F0 m pc ls st) := ⟨_, rfl⟩
  have C : CXL l D ta b L xs G := ⟨p, e, s, m, below, meth, c, hx, hb, hr, hml, hown, htg, hK, hX, hbl, hlocks, hnw, hao, hG⟩
  have goal : G 0 0 0 [(0, .ref b)] [] [] := by
    clear hG
    refine lx_newTR C (ck' := 1) rfl (cs' := 11) rfl (by decide) d_law_0 (fun q1 => ?_)
    show G 1 11 3 [(0, .ref (b))] [.ref (q1)] [(q1, .inr (0, [.int 0, .int 0, .null, .null, .null, .null, .null, .null, .null, .null, .null]))]
    refine rx_dup (C.at (by decide) (by decide)) rfl d_law_3 ?_
    refine rx_aload_n (C.at (by decide) (by decide)) 0 rfl d_law_4 ?_
    refine rx_iconst (C.at (by decide) (by decide)) (nI 0) (by decide) d_law_5 ?_
    refine lx_cell C 0 (by decide) (by omega) (by decide) (Nat.le_of_ble_eq_true rfl) d_law_6 ?_
    refine rx_aload_n (C.at (by decide) (by decide)) 0 rfl d_law_9 ?_
    refine rx_iconst (C.at (by decide) (by decide)) (nI 1) (by decide) d_law_10 ?_
    refine lx_cell C 1 (by decide) (by omega) (by decide) (Nat.le_of_ble_eq_true rfl) d_law_11 ?_
    refine lx_init C [] 0 (fun sz => c_TR_init l D ta sz q1 (scv L xs 0) (scv L xs 1)) g_10 g_1 g_8 g_9 rfl ⟨by decide, by decide, by decide +kernel⟩ ⟨rfl, rfl, by decide, by decide⟩ rfl (wr := []) rfl rfl (by decide) (ck' := 13) rfl (cs' := 2345) rfl (by decide) (Nat.le_of_ble_eq_true rfl) d_law_14 (fun a ha => ?_)
    subst ha
    show G 13 2345 17 [(0, .ref (b))] [.ref (a 0)] [(a 0, oTR (clN (scv L xs 0)) (clN (scv L xs 1)) a), (a 2, cI ta 576 (fun _ => 0)), (a 3, cC ta 576 (fun _ => 0)), (a 4, cS ta 576 (fun _ => 0)), (a 5, cZ ta 576 (fun _ => 0)), (a 6, cI ta 3 (fun _ => 0)), (a 7, cI ta 3 (fun _ => 0)), (a 8, cI ta 3 (fun _ => 0)), (a 9, cQ ta a), (a 10, cI ta 3 (fun _ => 0)), (a 11, oEd 0 0 0 0 0), (a 12, oEd 0 0 0 0 0), (a 13, oEd 0 0 0 0 0)]
    refine rx_astore_n (C.at (by decide) (by decide)) (Nat.le_of_ble_eq_true rfl) [1, 0] (lv' := [(0, .ref (b)), (1, .ref (a 0))]) rfl d_law_17 ?_
    refine lx_newTM C (ck' := 14) rfl (cs' := 2353) rfl (by decide) d_law_18 (fun q2 => ?_)
    show G 14 2353 21 [(0, .ref (b)), (1, .ref (a 0))] [.ref (q2)] [(a 0, oTR (clN (scv L xs 0)) (clN (scv L xs 1)) a), (a 2, cI ta 576 (fun _ => 0)), (a 3, cC ta 576 (fun _ => 0)), (a 4, cS ta 576 (fun _ => 0)), (a 5, cZ ta 576 (fun _ => 0)), (a 6, cI ta 3 (fun _ => 0)), (a 7, cI ta 3 (fun _ => 0)), (a 8, cI ta 3 (fun _ => 0)), (a 9, cQ ta a), (a 10, cI ta 3 (fun _ => 0)), (a 11, oEd 0 0 0 0 0), (a 12, oEd 0 0 0 0 0), (a 13, oEd 0 0 0 0 0), (q2, .inr (2, [.int 0, .int 0, .null, .null, .null, .null, .null, .null]))]
    refine rx_dup (C.at (by decide) (by decide)) rfl d_law_21 ?_
    refine rx_aload_n (C.at (by decide) (by decide)) 0 rfl d_law_22 ?_
    refine rx_iconst (C.at (by decide) (by decide)) (nI 0) (by decide) d_law_23 ?_
    refine lx_cell C 0 (by decide) (by omega) (by decide) (Nat.le_of_ble_eq_true rfl) d_law_24 ?_
    refine rx_aload_n (C.at (by decide) (by decide)) 0 rfl d_law_27 ?_
    refine rx_iconst (C.at (by decide) (by decide)) (nI 1) (by decide) d_law_28 ?_
    refine lx_cell C 1 (by decide) (by omega) (by decide) (Nat.le_of_ble_eq_true rfl) d_law_29 ?_
    refine lx_init C [0, 1, 2, 3, 4, 5, 6, 7, 8, 9, 10, 11, 12] 13 (fun sz => c_TM_init l D ta sz q2 (scv L xs 0) (scv L xs 1)) g_186 g_3 g_184 g_185 rfl ⟨by decide, by decide, by decide +kernel⟩ ⟨rfl, rfl, by decide, by decide⟩ rfl (wr := [(a 0, oTR (clN (scv L xs 0)) (clN (scv L xs 1)) a), (a 2, cI ta 576 (fun _ => 0)), (a 3, cC ta 576 (fun _ => 0)), (a 4, cS ta 576 (fun _ => 0)), (a 5, cZ ta 576 (fun _ => 0)), (a 6, cI ta 3 (fun _ => 0)), (a 7, cI ta 3 (fun _ => 0)), (a 8, cI ta 3 (fun _ => 0)), (a 9, cQ ta a), (a 10, cI ta 3 (fun _ => 0)), (a 11, oEd 0 0 0 0 0), (a 12, oEd 0 0 0 0 0), (a 13, oEd 0 0 0 0 0)]) rfl rfl (by decide) (ck' := 20) rfl (cs' := 4090) rfl (by decide) (Nat.le_of_ble_eq_true rfl) d_law_32 (fun m2 hm2 => ?_)
    subst hm2
    show G 20 4090 35 [(0, .ref (b)), (1, .ref (a 0))] [.ref (m2 0)] [(a 0, oTR (clN (scv L xs 0)) (clN (scv L xs 1)) a), (a 2, cI ta 576 (fun _ => 0)), (a 3, cC ta 576 (fun _ => 0)), (a 4, cS ta 576 (fun _ => 0)), (a 5, cZ ta 576 (fun _ => 0)), (a 6, cI ta 3 (fun _ => 0)), (a 7, cI ta 3 (fun _ => 0)), (a 8, cI ta 3 (fun _ => 0)), (a 9, cQ ta a), (a 10, cI ta 3 (fun _ => 0)), (a 11, oEd 0 0 0 0 0), (a 12, oEd 0 0 0 0 0), (a 13, oEd 0 0 0 0 0), (m2 0, oTM (clN (scv L xs 0)) (clN (scv L xs 1)) m2), (m2 2, cI ta 576 (fun _ => 0)), (m2 3, cI ta 576 (fun _ => 0)), (m2 4, cI ta 3 (fun _ => 0)), (m2 5, cI ta 3 (fun _ => 0)), (m2 6, cI ta 3 (fun _ => 0)), (m2 7, cZ ta 576 (fun _ => 0))]
    refine rx_astore_n (C.at (by decide) (by decide)) (Nat.le_of_ble_eq_true rfl) [1, 2, 0] (lv' := [(0, .ref (b)), (1, .ref (a 0)), (2, .ref (m2 0))]) rfl d_law_35 ?_
    refine rx_iconst (C.at (by decide) (by decide)) (nI 2) (by decide) d_law_36 ?_
    refine rx_istore_n (C.at (by decide) (by decide)) (Nat.le_of_ble_eq_true rfl) [1, 2, 3, 0] (lv' := [(0, .ref (b)), (1, .ref (a 0)), (2, .ref (m2 0)), (3, .int (nI (2)))]) rfl d_law_37 ?_
    exact law_loop l hL C (clN_le _).1 (clN_le _).2 (clN_le _).2 a m2 (L + 1) 2 (fun _ => 0) (fun _ => 0) (fun _ => 0) (fun _ => 0) (fun _ => 0) (fun _ => 0) (fun _ => 0) (fun _ => 0) (fun _ => 0) (fun _ => 0) (fun _ => 0) (fun _ => 0) (fun _ => 0) (fun _ => 0) (fun _ => 0) (fun _ => 0) (by omega) (by decide) ⟨fun _ _ => rfl, fun _ _ => rfl, fun _ _ => (by decide : -16384 ≤ (0 : Int32).toInt ∧ (0 : Int32).toInt ≤ 16384), fun _ _ => (by decide : -16384 ≤ (0 : Int32).toInt ∧ (0 : Int32).toInt ≤ 16384), fun _ _ => (by decide : 0 ≤ (0 : Int32).toInt ∧ (0 : Int32).toInt ≤ 32768)⟩
  rw [hG] at goal
  rw [lg_entry_eq]
  exact goal _ _ [] (lv_entry ([.ref b]) (n := 4) (Nat.le_of_ble_eq_true rfl)) (fun k q h => by simp at h) ⟨fun i j p q h => by simp at h, fun k q h => by simp at h⟩ va_S.rf
set_option maxHeartbeats 4000000 in
theorem lw_walk (l : Launch) (b : Addr) (xs : List Int32) : MetFree l x (headSpec (Jvm.Cond.code x code maxLocals ret :: tables_1) room_1) (lw_P b xs) (fun _ _ _ _ _ => True) lw_Q := by
  refine MetFree.of_bodyS (code := code) (maxLocals := maxLocals) (ret := ret) (by decide) ?_ ?_
  · intro args s m h hn
    obtain ⟨meth, c, h1, h2, h3, h4, h5, h6, -, -⟩ := Cond.code_spec hn (atoms_spec (ws := Jvm.Cond.code x code maxLocals ret :: tables_1) h _ List.mem_cons_self)
    exact ⟨meth, c, h1, h2, h3, h4, h5, h6⟩
  · intro p e s m args below meth c s₁ B hml0 hP _
    obtain ⟨rfl, hx, hbd, hgv⟩ := hP
    obtain ⟨scr, harrAt, hlist, hof, hsmall⟩ := hx
    obtain ⟨hcb, hkn, -, -⟩ := State.arrayAt?_spec harrAt
    have hown : s.vm.findClass R_law = some m.cls := findClass_of_methodNamed B.named
    have hts0 : ∀ c ∈ (Jvm.Cond.code x code maxLocals ret :: tables_1), c.before #[Value.ref b] s = true := atoms_spec (ws := Jvm.Cond.code x code maxLocals ret :: tables_1) B.pre
    have hts : ∀ w ∈ lw_tbl, w.before #[Value.ref b] s = true := k2_hts_sels lw_privs (fun w hw => hts0 w (List.mem_cons_of_mem _ hw)) lw_privs_ok
    have hml : c.maxLocals = 4 := B.maxLocals_eq (hts0 _ List.mem_cons_self)
    have X₀ : Stand p l e room_1 s m #[Value.ref b] below meth c s₁ [] 0 0 := Stand.of_body B
    have hh0 : s₁.heap = s.heap := by rw [B.state]; rfl
    have hsz : scr.slots.size = xs.length := by rw [← Array.length_toList, hlist, List.length_map]
    have hval : ∀ j : Nat, j < xs.length → scr.slots[j]? = some (.int (xs.getD j 0)) := fun j hj => by
      rw [← Array.getElem?_toList, hlist]
      simp [hj]
    have hbl : b < s.heap.size := (Array.getElem?_eq_some_iff.mp hcb).1
    have hX : va_X b xs.length (fun j => xs.getD j 0) s s.heap := ⟨scr, hcb, hof, hkn, hsz, hval⟩
    have K : W p l e room_1 s m #[Value.ref b] below meth c s₁.heap [] 0 0 (lw_Z below #[Value.ref b] s) (entryFrame m ([Value.ref b] : List Value).toArray 4) := by
      rw [hh0]
      exact whole_start l hbd ⟨B.exec, B.bytes, B.returns, hml, hown, hts, hX, hbl, B.notSynchronized, hgv⟩
    obtain ⟨t, a1, o, b1, b2, b3⟩ := K s₁ rfl X₀
    exact ⟨t, o, a1, b1, b2, b3⟩
theorem lw_pre_spec {args : Array Value} {s : State} (h : (Jvm.Cond.and given_1 narrow_1).before args s = true) (hr : rest_1_c.before args s = true) : ∃ (b : Addr) (xs : List Int32), lw_P b xs args s := by
  have hs := flat_of_before _ h
  have hq := flat_of_before _ hr
  have hc : (Cond.count 1).before args s = true := hs _ (by decide +kernel)
  have harr : (Cond.arrayOf (.arg 0) .int).before args s = true := hs _ (by decide +kernel)
  have hle : (Cond.le (.length (.arg 0)) (.int 3074)).before args s = true := hs _ (by decide +kernel)
  have hlen : (Cond.isInt (.length (.arg 0))).before args s = true := hq _ (by decide +kernel)
  have hall : (Cond.all (.arg 0) (.isInt (.elem (.arg 0) (.index 0)))).before args s = true := hq _ (by decide +kernel)
  obtain ⟨b, xs, hb, hx⟩ := State.ints_of_pre rfl harr hlen hall
  have hsm : xs.length < 2 ^ 31 := hx.choose_spec.2.2.2
  have hev : (Term.length (.arg 0)).eval args s none [] s = some (.int xs.length.toInt32) := hx.length_eval hb
  have hv := Cond.le_ints hev (show (Term.int 3074).eval args s none [] s = some (.int 3074) from rfl)
  have hd : xs.length.toInt32 ≤ 3074 := by
    simpa [Cond.before, Cond.holds, hv] using hle
  have hN : xs.length ≤ 3074 := (Int32.ofNat_le_ofNat hsm (by decide)).mp (show Int32.ofNat xs.length ≤ Int32.ofNat 3074 from hd)
  exact ⟨b, xs, Cond.one_arg hc (show args[0]? = some (.ref b) from hb), hx, hN, h⟩
theorem lw_comes (l : Launch) : Comes l x (Jvm.Cond.code x code maxLocals ret :: tables_1) room_1 (fun tb e args s => Calls_1 tb e args s ∧ rest_1 tb e args s ∧ Pre_1 tb e args s)
    (fun _ _ args s o t => lw_Q args s o t) := by
  intro p e ha hc hk s m args below hf hfit hheap happ hpre
  obtain ⟨b, xs, hP⟩ := lw_pre_spec hpre.2.2 hpre.2.1
  obtain ⟨k, o, h1, h2, h3, hQ⟩ := lw_walk l b xs p e ha hc hk s m args below hf ((Spec.applies_iff_loose hf).mp happ).1 hP trivial
  exact ⟨k, o, h1, h2, h3, hQ⟩
theorem lw_frame {s t : State} {o : Outcome} {args : Array Value} (h : Framed s o t [] 600000 7302250) :
    Framed s o t (fieldLocs frame_1_writes args s ++ arrayLocs frame_1_arrays args s ++ staticLocs frame_1_statics s) 600000 7302250 := h
theorem lw_limb (L : Cond) (hL : ∀ (args : Array Value) (s t : State), L.after args s (.returned (some (.int 1))) t = true) :
    ArmFor flags0 classFile x code maxLocals ret World_1 tables_1 room_1 Calls_1 rest_1 Pre_1
      (fun tb e a s o t => postC L tb e a s o t ∧ Framed s o t (fieldLocs frame_1_writes a s ++ arrayLocs frame_1_arrays a s ++ staticLocs frame_1_statics s) 600000 7302250) := by
  intro l _ _ _ p e ha hc hk s m args below hf hfit hheap happ hpre
  obtain ⟨k, o, h1, h2, h3, rfl, hF⟩ := lw_comes l p e ha hc hk s m args below hf hfit hheap happ hpre
  exact ⟨k, _, h1, h2, h3, hL args s _, lw_frame hF⟩
theorem i_vc : Claimed_1_1 ∧ Claimed_1_2 := ⟨lw_limb limb_1_1 (fun args s t => by simp [limb_1_1, Cond.after, Cond.holds, Cond.value]), lw_limb limb_1_2 (fun args s t => Cond.after_iff.mpr (by
  first | (rw [show limb_1_2 = Cond.eq .result (.int 1) from rfl, Cond.eq_ints (x := 1) (y := 1) rfl rfl]; simp; done) | (simp [limb_1_2, Cond.value, Term.eval]; done)))⟩
end
