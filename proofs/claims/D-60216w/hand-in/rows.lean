section
-- ===== PART A: goes FIRST, ahead of the names: the tables' words, and 'selects' of the private methods out of them =====
/-- a private method of a class that the tables say can be made, by its rows of tables_1 -/
def lw_okq (q : MethodName × Nat) : Prop := (q.1.cls ≠ "java/lang/invoke/MethodHandle" ∧ q.1.cls ≠ "java/lang/invoke/VarHandle") ∧ Cond.instantiable q.1.cls q.2 ∈ tables_1 ∧ Cond.privateMethod q.1 ∈ tables_1 ∧ Cond.instanceMethod q.1 ∈ tables_1
theorem lw_p0 : lw_okq (⟨"PageRangeStore", "has", "(I)Z"⟩, 12) := ⟨⟨by decide +kernel, by decide +kernel⟩, List.mem_of_getElem? (i := 4) (by decide +kernel), List.mem_of_getElem? (i := 76) (by decide +kernel), List.mem_of_getElem? (i := 77) (by decide +kernel)⟩
theorem lw_p1 : lw_okq (⟨"PageRangeStore", "bringIn", "(IZI)V"⟩, 12) := ⟨⟨by decide +kernel, by decide +kernel⟩, List.mem_of_getElem? (i := 4) (by decide +kernel), List.mem_of_getElem? (i := 80) (by decide +kernel), List.mem_of_getElem? (i := 81) (by decide +kernel)⟩
theorem lw_p2 : lw_okq (⟨"PageRangeStore", "allocate", "(I)I"⟩, 12) := ⟨⟨by decide +kernel, by decide +kernel⟩, List.mem_of_getElem? (i := 4) (by decide +kernel), List.mem_of_getElem? (i := 84) (by decide +kernel), List.mem_of_getElem? (i := 85) (by decide +kernel)⟩
theorem lw_p3 : lw_okq (⟨"PageRangeStore", "split", "(III)V"⟩, 12) := ⟨⟨by decide +kernel, by decide +kernel⟩, List.mem_of_getElem? (i := 4) (by decide +kernel), List.mem_of_getElem? (i := 88) (by decide +kernel), List.mem_of_getElem? (i := 89) (by decide +kernel)⟩
theorem lw_p4 : lw_okq (⟨"PageRangeStore", "preempt", "()V"⟩, 12) := ⟨⟨by decide +kernel, by decide +kernel⟩, List.mem_of_getElem? (i := 4) (by decide +kernel), List.mem_of_getElem? (i := 92) (by decide +kernel), List.mem_of_getElem? (i := 93) (by decide +kernel)⟩
theorem lw_p5 : lw_okq (⟨"PageRangeStore", "giveBack", "(II)V"⟩, 12) := ⟨⟨by decide +kernel, by decide +kernel⟩, List.mem_of_getElem? (i := 4) (by decide +kernel), List.mem_of_getElem? (i := 96) (by decide +kernel), List.mem_of_getElem? (i := 97) (by decide +kernel)⟩
theorem lw_p6 : lw_okq (⟨"PageRangeStore", "use", "(I)V"⟩, 12) := ⟨⟨by decide +kernel, by decide +kernel⟩, List.mem_of_getElem? (i := 4) (by decide +kernel), List.mem_of_getElem? (i := 100) (by decide +kernel), List.mem_of_getElem? (i := 101) (by decide +kernel)⟩
theorem lw_p7 : lw_okq (⟨"PageRangeStore", "joinUp", "(I)V"⟩, 12) := ⟨⟨by decide +kernel, by decide +kernel⟩, List.mem_of_getElem? (i := 4) (by decide +kernel), List.mem_of_getElem? (i := 104) (by decide +kernel), List.mem_of_getElem? (i := 105) (by decide +kernel)⟩
theorem lw_p8 : lw_okq (⟨"PageRangeStore", "takeOut", "(I)V"⟩, 12) := ⟨⟨by decide +kernel, by decide +kernel⟩, List.mem_of_getElem? (i := 4) (by decide +kernel), List.mem_of_getElem? (i := 112) (by decide +kernel), List.mem_of_getElem? (i := 113) (by decide +kernel)⟩
theorem lw_p9 : lw_okq (⟨"PageRangeStore", "breakUp", "(I)V"⟩, 12) := ⟨⟨by decide +kernel, by decide +kernel⟩, List.mem_of_getElem? (i := 4) (by decide +kernel), List.mem_of_getElem? (i := 116) (by decide +kernel), List.mem_of_getElem? (i := 117) (by decide +kernel)⟩
theorem lw_p10 : lw_okq (⟨"PageRangeStore", "mayWrite", "(I)Z"⟩, 12) := ⟨⟨by decide +kernel, by decide +kernel⟩, List.mem_of_getElem? (i := 4) (by decide +kernel), List.mem_of_getElem? (i := 124) (by decide +kernel), List.mem_of_getElem? (i := 125) (by decide +kernel)⟩
theorem lw_p11 : lw_okq (⟨"PageRangeStore", "setWrite", "(IZ)V"⟩, 12) := ⟨⟨by decide +kernel, by decide +kernel⟩, List.mem_of_getElem? (i := 4) (by decide +kernel), List.mem_of_getElem? (i := 128) (by decide +kernel), List.mem_of_getElem? (i := 129) (by decide +kernel)⟩
theorem lw_p12 : lw_okq (⟨"PageRangeStore", "content", "(I)I"⟩, 12) := ⟨⟨by decide +kernel, by decide +kernel⟩, List.mem_of_getElem? (i := 4) (by decide +kernel), List.mem_of_getElem? (i := 147) (by decide +kernel), List.mem_of_getElem? (i := 148) (by decide +kernel)⟩
theorem lw_p13 : lw_okq (⟨"PageRangeStore", "translate", "(I)I"⟩, 12) := ⟨⟨by decide +kernel, by decide +kernel⟩, List.mem_of_getElem? (i := 4) (by decide +kernel), List.mem_of_getElem? (i := 151) (by decide +kernel), List.mem_of_getElem? (i := 152) (by decide +kernel)⟩
theorem lw_p14 : lw_okq (⟨"PageRangeStore", "setContent", "(II)V"⟩, 12) := ⟨⟨by decide +kernel, by decide +kernel⟩, List.mem_of_getElem? (i := 4) (by decide +kernel), List.mem_of_getElem? (i := 159) (by decide +kernel), List.mem_of_getElem? (i := 160) (by decide +kernel)⟩
theorem lw_p15 : lw_okq (⟨"PageRangeStore", "carry", "(II)V"⟩, 12) := ⟨⟨by decide +kernel, by decide +kernel⟩, List.mem_of_getElem? (i := 4) (by decide +kernel), List.mem_of_getElem? (i := 175) (by decide +kernel), List.mem_of_getElem? (i := 176) (by decide +kernel)⟩
def lw_privs_1 : List (MethodName × Nat) := [(⟨"PageRangeStore", "has", "(I)Z"⟩, 12), (⟨"PageRangeStore", "bringIn", "(IZI)V"⟩, 12), (⟨"PageRangeStore", "allocate", "(I)I"⟩, 12), (⟨"PageRangeStore", "split", "(III)V"⟩, 12), (⟨"PageRangeStore", "preempt", "()V"⟩, 12), (⟨"PageRangeStore", "giveBack", "(II)V"⟩, 12), (⟨"PageRangeStore", "use", "(I)V"⟩, 12), (⟨"PageRangeStore", "joinUp", "(I)V"⟩, 12), (⟨"PageRangeStore", "takeOut", "(I)V"⟩, 12), (⟨"PageRangeStore", "breakUp", "(I)V"⟩, 12), (⟨"PageRangeStore", "mayWrite", "(I)Z"⟩, 12), (⟨"PageRangeStore", "setWrite", "(IZ)V"⟩, 12), (⟨"PageRangeStore", "content", "(I)I"⟩, 12), (⟨"PageRangeStore", "translate", "(I)I"⟩, 12), (⟨"PageRangeStore", "setContent", "(II)V"⟩, 12), (⟨"PageRangeStore", "carry", "(II)V"⟩, 12)]
theorem lw_r1 : ∀ q ∈ lw_privs_1, lw_okq q := List.forall_mem_cons.mpr ⟨lw_p0, List.forall_mem_cons.mpr ⟨lw_p1, List.forall_mem_cons.mpr ⟨lw_p2, List.forall_mem_cons.mpr ⟨lw_p3, List.forall_mem_cons.mpr ⟨lw_p4, List.forall_mem_cons.mpr ⟨lw_p5, List.forall_mem_cons.mpr ⟨lw_p6, List.forall_mem_cons.mpr ⟨lw_p7, List.forall_mem_cons.mpr ⟨lw_p8, List.forall_mem_cons.mpr ⟨lw_p9, List.forall_mem_cons.mpr ⟨lw_p10, List.forall_mem_cons.mpr ⟨lw_p11, List.forall_mem_cons.mpr ⟨lw_p12, List.forall_mem_cons.mpr ⟨lw_p13, List.forall_mem_cons.mpr ⟨lw_p14, List.forall_mem_cons.mpr ⟨lw_p15, fun _ h => absurd h List.not_mem_nil⟩⟩⟩⟩⟩⟩⟩⟩⟩⟩⟩⟩⟩⟩⟩⟩
theorem lw_p16 : lw_okq (⟨"PageRangeStoreModel", "badSpace", "(I)Z"⟩, 4) := ⟨⟨by decide +kernel, by decide +kernel⟩, List.mem_of_getElem? (i := 198) (by decide +kernel), List.mem_of_getElem? (i := 229) (by decide +kernel), List.mem_of_getElem? (i := 230) (by decide +kernel)⟩
theorem lw_p17 : lw_okq (⟨"PageRangeStoreModel", "badRange", "(II)Z"⟩, 4) := ⟨⟨by decide +kernel, by decide +kernel⟩, List.mem_of_getElem? (i := 198) (by decide +kernel), List.mem_of_getElem? (i := 237) (by decide +kernel), List.mem_of_getElem? (i := 238) (by decide +kernel)⟩
theorem lw_p18 : lw_okq (⟨"PageRangeStoreModel", "make", "(II)V"⟩, 4) := ⟨⟨by decide +kernel, by decide +kernel⟩, List.mem_of_getElem? (i := 198) (by decide +kernel), List.mem_of_getElem? (i := 242) (by decide +kernel), List.mem_of_getElem? (i := 243) (by decide +kernel)⟩
theorem lw_p19 : lw_okq (⟨"PageRangeStoreModel", "badPage", "(I)Z"⟩, 4) := ⟨⟨by decide +kernel, by decide +kernel⟩, List.mem_of_getElem? (i := 198) (by decide +kernel), List.mem_of_getElem? (i := 258) (by decide +kernel), List.mem_of_getElem? (i := 259) (by decide +kernel)⟩
theorem lw_p20 : lw_okq (⟨"PageRangeStoreModel", "copy", "(II)V"⟩, 4) := ⟨⟨by decide +kernel, by decide +kernel⟩, List.mem_of_getElem? (i := 198) (by decide +kernel), List.mem_of_getElem? (i := 286) (by decide +kernel), List.mem_of_getElem? (i := 287) (by decide +kernel)⟩
def lw_privs_2 : List (MethodName × Nat) := [(⟨"PageRangeStoreModel", "badSpace", "(I)Z"⟩, 4), (⟨"PageRangeStoreModel", "badRange", "(II)Z"⟩, 4), (⟨"PageRangeStoreModel", "make", "(II)V"⟩, 4), (⟨"PageRangeStoreModel", "badPage", "(I)Z"⟩, 4), (⟨"PageRangeStoreModel", "copy", "(II)V"⟩, 4)]
theorem lw_r2 : ∀ q ∈ lw_privs_2, lw_okq q := List.forall_mem_cons.mpr ⟨lw_p16, List.forall_mem_cons.mpr ⟨lw_p17, List.forall_mem_cons.mpr ⟨lw_p18, List.forall_mem_cons.mpr ⟨lw_p19, List.forall_mem_cons.mpr ⟨lw_p20, fun _ h => absurd h List.not_mem_nil⟩⟩⟩⟩⟩
def lw_privs : List (MethodName × Nat) := lw_privs_1 ++ (lw_privs_2)
def lw_tbl : List Cond := k2_sels lw_privs ++ tables_1
theorem lw_privs_ok : ∀ q ∈ lw_privs, lw_okq q := by
  show ∀ q ∈ lw_privs_1 ++ (lw_privs_2), lw_okq q
  exact List.forall_mem_append.mpr ⟨lw_r1, lw_r2⟩

/-! THE CLAIM OUT OF ONE WALK OF THE LAW'S BODY. Your part is whole_start (and what it stands on); all else here is the same for every law, but numbers. -/
def R_law : String := "PageRangeStoreLaw"
def lw_P (b : Addr) (xs : List Int32) (args : Array Value) (s : State) : Prop := args = #[.ref b] ∧ s.IntsAt b xs ∧ xs.length ≤ 2561 ∧ (Jvm.Cond.and given_1 narrow_1).before args s = true
def lw_Q (_ : Array Value) (s : State) (o : Outcome) (t : State) : Prop := o = .returned (some (.int 1)) ∧ Framed s o t [] 14 656
def lw_Z (below : List Frame) (a : Array Value) (s : State) : State → Prop := fun t => ∃ o, t.status = .running ∧ Ended t below o ∧ lw_Q a s o t
/-- the law's own end, with 1 on the stack, nothing written that was there before, its room as the claim has it -/
theorem lw_ret {p : Program} {l : Launch} {e : Env} {s : State} {m : MethodId} {below : List Frame} {meth : Method} {c : Code} {b : Nat} (hx : p.tables.exec = Jvm.exec) (hb : c.code = code) (hr : meth.sig.returnType = ret) (hlocks : meth.locks = false) {pc : Nat} {H : Heap} {ls : Array Slot} (hdg : decode code pc = .ok (.ireturn, 1)) : W p l e room_1 s m #[Value.ref b] below meth c H [] 14 656 (lw_Z below #[Value.ref b] s) (F0 m pc ls [.int 1]) := by
  intro T hT X
  obtain ⟨fs, hret, hrun, hended, hW, hframe⟩ := X.leave (v := some (.int 1)) (hlocks := hlocks) (fun h => by rw [hr] at h; cases h)
  have hmeth' : T.vm.method? m = some meth := X.method'
  refine ⟨T.setFrames fs, ?_, .returned (some (.int 1)), hrun, hended, rfl, ⟨_, rfl⟩, hW, hframe⟩
  jvm_step X.here [X.here.top, hx, hb, hdg, hmeth', hr, ret, narrow_b1]
  (try refine ⟨rfl, ?_⟩); (try refine ⟨rfl, ?_⟩)
  first | (intro acts; rw [hret _ acts rfl rfl rfl]) | rw [hret _ _ rfl rfl rfl]
  exact Steps.refl _
/-- what holds at the law's entry: the machine, the code, the tables' words (any of lw_tbl by 'hts w (by decide +kernel)'), the script of L ints xs at the cell b, what the Statement gives of the start (any of its parts by flat_of_before) -/
def lw_At (p : Program) (s : State) (m : MethodId) (meth : Method) (c : Code) (b L : Nat) (xs : Nat → Int32) : Prop :=
  p.tables.exec = Jvm.exec ∧ c.code = code ∧ meth.sig.returnType = ret ∧ c.maxLocals = 4 ∧ s.vm.findClass R_law = some m.cls ∧ (∀ w ∈ lw_tbl, w.before #[Value.ref b] s = true) ∧ va_X b L xs s s.heap ∧ b < s.heap.size ∧ meth.locks = false ∧ (Jvm.Cond.and given_1 narrow_1).before #[Value.ref b] s = true

-- NAMES (printed by gen.py): classes, field tables, methods
def xw_T : List Cond := lw_tbl.filter goodWord
theorem xw_good : ∀ w ∈ xw_T, goodWord w = true := fun w h => (List.mem_filter.mp h).2
theorem xw_in {w : Cond} {i : Nat} (h : lw_tbl[i]? = some w) (hg : goodWord w = true) : w ∈ xw_T := List.mem_filter.mpr ⟨List.mem_of_getElem? h, hg⟩
def R_X : String := "PageRangeStore"
def R_M : String := "PageRangeStoreModel"
def F_X : u_T := fun k => match k with
  | 0 => ("PageRangeStore", "data", "[I", true)
  | 1 => ("PageRangeStore", "free", "[Z", true)
  | 2 => ("PageRangeStore", "frameOf", "[I", true)
  | 3 => ("PageRangeStore", "canWrite", "[Z", true)
  | 4 => ("PageRangeStore", "base", "[I", true)
  | 5 => ("PageRangeStore", "held", "[I", true)
  | 6 => ("PageRangeStore", "large", "[Z", true)
  | 7 => ("PageRangeStore", "largeWrite", "[Z", true)
  | 8 => ("PageRangeStore", "lastUse", "[I", true)
  | 9 => ("PageRangeStore", "frameCount", "I", false)
  | 10 => ("PageRangeStore", "usedCount", "I", false)
  | _ => ("PageRangeStore", "clock", "I", false)
def t_X : Nat → FieldType := fun k => match k with
  | 0 => .array .int
  | 1 => .array .boolean
  | 2 => .array .int
  | 3 => .array .boolean
  | 4 => .array .int
  | 5 => .array .int
  | 6 => .array .boolean
  | 7 => .array .boolean
  | 8 => .array .int
  | 9 => .int
  | 10 => .int
  | _ => .int
theorem n_X : ∀ a, a < 12 → ∀ b, b < 12 → a ≠ b → (F_X a).2.1 ≠ (F_X b).2.1 := by decide +kernel
theorem t_X_ok : ∀ k, k < 12 → parseFieldDescriptor (F_X k).2.2.1 = some (t_X k) := by decide +kernel
theorem i_X : ∀ w ∈ u_ws R_X F_X 12, w ∈ xw_T := by decide +kernel
def F_M : u_T := fun k => match k with
  | 0 => ("PageRangeStoreModel", "frames", "I", false)
  | 1 => ("PageRangeStoreModel", "there", "[Z", false)
  | 2 => ("PageRangeStoreModel", "open", "[Z", false)
  | _ => ("PageRangeStoreModel", "content", "[I", false)
def t_M : Nat → FieldType := fun k => match k with
  | 0 => .int
  | 1 => .array .boolean
  | 2 => .array .boolean
  | _ => .array .int
theorem n_M : ∀ a, a < 4 → ∀ b, b < 4 → a ≠ b → (F_M a).2.1 ≠ (F_M b).2.1 := by decide +kernel
theorem t_M_ok : ∀ k, k < 4 → parseFieldDescriptor (F_M k).2.2.1 = some (t_M k) := by decide +kernel
theorem i_M : ∀ w ∈ u_ws R_M F_M 4, w ∈ xw_T := by decide +kernel
abbrev classes : List vw_C := [(R_X, F_X, 12), (R_M, F_M, 4)]
abbrev b_X_init : ByteArray := prog_1_method_1_code
def y_X_init : MethodName := ⟨"PageRangeStore", "<init>", "(I)V"⟩
abbrev b_X_frames : ByteArray := prog_1_method_2_code
def y_X_frames : MethodName := ⟨"PageRangeStore", "frames", "()I"⟩
abbrev b_X_used : ByteArray := prog_1_method_3_code
def y_X_used : MethodName := ⟨"PageRangeStore", "used", "()I"⟩
abbrev b_X_mappedIn : ByteArray := prog_1_method_4_code
def y_X_mappedIn : MethodName := ⟨"PageRangeStore", "mappedIn", "(I)I"⟩
abbrev b_X_map : ByteArray := prog_1_method_5_code
def y_X_map : MethodName := ⟨"PageRangeStore", "map", "(III)I"⟩
abbrev b_X_unmap : ByteArray := prog_1_method_6_code
def y_X_unmap : MethodName := ⟨"PageRangeStore", "unmap", "(III)I"⟩
abbrev b_X_protect : ByteArray := prog_1_method_7_code
def y_X_protect : MethodName := ⟨"PageRangeStore", "protect", "(IIII)I"⟩
abbrev b_X_mapped : ByteArray := prog_1_method_8_code
def y_X_mapped : MethodName := ⟨"PageRangeStore", "mapped", "(II)I"⟩
abbrev b_X_writable : ByteArray := prog_1_method_9_code
def y_X_writable : MethodName := ⟨"PageRangeStore", "writable", "(II)I"⟩
abbrev b_X_read : ByteArray := prog_1_method_10_code
def y_X_read : MethodName := ⟨"PageRangeStore", "read", "(II)I"⟩
abbrev b_X_write : ByteArray := prog_1_method_11_code
def y_X_write : MethodName := ⟨"PageRangeStore", "write", "(III)I"⟩
abbrev b_X_touch : ByteArray := prog_1_method_12_code
def y_X_touch : MethodName := ⟨"PageRangeStore", "touch", "(III)I"⟩
abbrev b_X_stamp : ByteArray := prog_1_method_13_code
def y_X_stamp : MethodName := ⟨"PageRangeStore", "stamp", "(III)I"⟩
abbrev b_X_remap : ByteArray := prog_1_method_14_code
def y_X_remap : MethodName := ⟨"PageRangeStore", "remap", "(III)I"⟩
abbrev b_X_duplicate : ByteArray := prog_1_method_15_code
def y_X_duplicate : MethodName := ⟨"PageRangeStore", "duplicate", "(II)I"⟩
abbrev b_X_exchange : ByteArray := prog_1_method_16_code
def y_X_exchange : MethodName := ⟨"PageRangeStore", "exchange", "(I)I"⟩
abbrev b_X_sum : ByteArray := prog_1_method_17_code
def y_X_sum : MethodName := ⟨"PageRangeStore", "sum", "(I)I"⟩
abbrev b_X_nextMapped : ByteArray := prog_1_method_18_code
def y_X_nextMapped : MethodName := ⟨"PageRangeStore", "nextMapped", "(II)I"⟩
abbrev b_X_isSpace : ByteArray := prog_1_method_19_code
def y_X_isSpace : MethodName := ⟨"PageRangeStore", "isSpace", "(I)Z"⟩
abbrev b_X_isPage : ByteArray := prog_1_method_20_code
def y_X_isPage : MethodName := ⟨"PageRangeStore", "isPage", "(I)Z"⟩
abbrev b_X_isRange : ByteArray := prog_1_method_21_code
def y_X_isRange : MethodName := ⟨"PageRangeStore", "isRange", "(II)Z"⟩
abbrev b_X_bits : ByteArray := prog_1_method_22_code
def y_X_bits : MethodName := ⟨"PageRangeStore", "bits", "(I)I"⟩
abbrev b_X_has : ByteArray := prog_1_method_23_code
def y_X_has : MethodName := ⟨"PageRangeStore", "has", "(I)Z"⟩
abbrev b_X_translate : ByteArray := prog_1_method_24_code
def y_X_translate : MethodName := ⟨"PageRangeStore", "translate", "(I)I"⟩
abbrev b_X_mayWrite : ByteArray := prog_1_method_25_code
def y_X_mayWrite : MethodName := ⟨"PageRangeStore", "mayWrite", "(I)Z"⟩
abbrev b_X_content : ByteArray := prog_1_method_26_code
def y_X_content : MethodName := ⟨"PageRangeStore", "content", "(I)I"⟩
abbrev b_X_setContent : ByteArray := prog_1_method_27_code
def y_X_setContent : MethodName := ⟨"PageRangeStore", "setContent", "(II)V"⟩
abbrev b_X_use : ByteArray := prog_1_method_28_code
def y_X_use : MethodName := ⟨"PageRangeStore", "use", "(I)V"⟩
abbrev b_X_setWrite : ByteArray := prog_1_method_29_code
def y_X_setWrite : MethodName := ⟨"PageRangeStore", "setWrite", "(IZ)V"⟩
abbrev b_X_breakUp : ByteArray := prog_1_method_30_code
def y_X_breakUp : MethodName := ⟨"PageRangeStore", "breakUp", "(I)V"⟩
abbrev b_X_joinUp : ByteArray := prog_1_method_31_code
def y_X_joinUp : MethodName := ⟨"PageRangeStore", "joinUp", "(I)V"⟩
abbrev b_X_bringIn : ByteArray := prog_1_method_32_code
def y_X_bringIn : MethodName := ⟨"PageRangeStore", "bringIn", "(IZI)V"⟩
abbrev b_X_takeOut : ByteArray := prog_1_method_33_code
def y_X_takeOut : MethodName := ⟨"PageRangeStore", "takeOut", "(I)V"⟩
abbrev b_X_carry : ByteArray := prog_1_method_34_code
def y_X_carry : MethodName := ⟨"PageRangeStore", "carry", "(II)V"⟩
abbrev b_X_preempt : ByteArray := prog_1_method_35_code
def y_X_preempt : MethodName := ⟨"PageRangeStore", "preempt", "()V"⟩
abbrev b_X_allocate : ByteArray := prog_1_method_36_code
def y_X_allocate : MethodName := ⟨"PageRangeStore", "allocate", "(I)I"⟩
abbrev b_X_split : ByteArray := prog_1_method_37_code
def y_X_split : MethodName := ⟨"PageRangeStore", "split", "(III)V"⟩
abbrev b_X_giveBack : ByteArray := prog_1_method_38_code
def y_X_giveBack : MethodName := ⟨"PageRangeStore", "giveBack", "(II)V"⟩
abbrev b_M_init : ByteArray := prog_3_method_1_code
def y_M_init : MethodName := ⟨"PageRangeStoreModel", "<init>", "(I)V"⟩
abbrev b_M_frames : ByteArray := prog_3_method_2_code
def y_M_frames : MethodName := ⟨"PageRangeStoreModel", "frames", "()I"⟩
abbrev b_M_used : ByteArray := prog_3_method_3_code
def y_M_used : MethodName := ⟨"PageRangeStoreModel", "used", "()I"⟩
abbrev b_M_badSpace : ByteArray := prog_3_method_4_code
def y_M_badSpace : MethodName := ⟨"PageRangeStoreModel", "badSpace", "(I)Z"⟩
abbrev b_M_badPage : ByteArray := prog_3_method_5_code
def y_M_badPage : MethodName := ⟨"PageRangeStoreModel", "badPage", "(I)Z"⟩
abbrev b_M_badRange : ByteArray := prog_3_method_6_code
def y_M_badRange : MethodName := ⟨"PageRangeStoreModel", "badRange", "(II)Z"⟩
abbrev b_M_mappedIn : ByteArray := prog_3_method_7_code
def y_M_mappedIn : MethodName := ⟨"PageRangeStoreModel", "mappedIn", "(I)I"⟩
abbrev b_M_make : ByteArray := prog_3_method_8_code
def y_M_make : MethodName := ⟨"PageRangeStoreModel", "make", "(II)V"⟩
abbrev b_M_map : ByteArray := prog_3_method_9_code
def y_M_map : MethodName := ⟨"PageRangeStoreModel", "map", "(III)I"⟩
abbrev b_M_unmap : ByteArray := prog_3_method_10_code
def y_M_unmap : MethodName := ⟨"PageRangeStoreModel", "unmap", "(III)I"⟩
abbrev b_M_protect : ByteArray := prog_3_method_11_code
def y_M_protect : MethodName := ⟨"PageRangeStoreModel", "protect", "(IIII)I"⟩
abbrev b_M_mapped : ByteArray := prog_3_method_12_code
def y_M_mapped : MethodName := ⟨"PageRangeStoreModel", "mapped", "(II)I"⟩
abbrev b_M_writable : ByteArray := prog_3_method_13_code
def y_M_writable : MethodName := ⟨"PageRangeStoreModel", "writable", "(II)I"⟩
abbrev b_M_read : ByteArray := prog_3_method_14_code
def y_M_read : MethodName := ⟨"PageRangeStoreModel", "read", "(II)I"⟩
abbrev b_M_write : ByteArray := prog_3_method_15_code
def y_M_write : MethodName := ⟨"PageRangeStoreModel", "write", "(III)I"⟩
abbrev b_M_touch : ByteArray := prog_3_method_16_code
def y_M_touch : MethodName := ⟨"PageRangeStoreModel", "touch", "(III)I"⟩
abbrev b_M_stamp : ByteArray := prog_3_method_17_code
def y_M_stamp : MethodName := ⟨"PageRangeStoreModel", "stamp", "(III)I"⟩
abbrev b_M_copy : ByteArray := prog_3_method_18_code
def y_M_copy : MethodName := ⟨"PageRangeStoreModel", "copy", "(II)V"⟩
abbrev b_M_remap : ByteArray := prog_3_method_19_code
def y_M_remap : MethodName := ⟨"PageRangeStoreModel", "remap", "(III)I"⟩
abbrev b_M_duplicate : ByteArray := prog_3_method_20_code
def y_M_duplicate : MethodName := ⟨"PageRangeStoreModel", "duplicate", "(II)I"⟩
abbrev b_M_exchange : ByteArray := prog_3_method_21_code
def y_M_exchange : MethodName := ⟨"PageRangeStoreModel", "exchange", "(I)I"⟩
abbrev b_M_sum : ByteArray := prog_3_method_22_code
def y_M_sum : MethodName := ⟨"PageRangeStoreModel", "sum", "(I)I"⟩
abbrev b_M_nextMapped : ByteArray := prog_3_method_23_code
def y_M_nextMapped : MethodName := ⟨"PageRangeStoreModel", "nextMapped", "(II)I"⟩
abbrev b_L_cell : ByteArray := method_2_code
def y_L_cell : MethodName := ⟨"PageRangeStoreLaw", "cell", "([II)I"⟩
/-- what a virtual call needs of the tables -/
def xwV (own : String) (idx : Nat) (y : MethodName) (b : ByteArray) (nL : Nat) (ret : Option FieldType) (n : Nat) : Prop :=
  Cond.methodLink own idx y ∈ xw_T ∧ Cond.instanceMethod y ∈ xw_T ∧ Cond.selects y.cls y y ∈ xw_T ∧ Cond.initialized y.cls ∈ xw_T ∧ Cond.code y b nL ret ∈ xw_T ∧
  (y.cls ≠ "java/lang/invoke/MethodHandle" ∧ y.cls ≠ "java/lang/invoke/VarHandle" ∧ (parseMethodDescriptor y.desc).map (fun d => d.parameters.length) = some n)
/-- what a static call needs of the tables -/
def xwS (own : String) (idx : Nat) (y : MethodName) (b : ByteArray) (nL : Nat) (ret : Option FieldType) (n : Nat) : Prop :=
  Cond.methodLink own idx y ∈ xw_T ∧ Cond.static y ∈ xw_T ∧ Cond.initialized y.cls ∈ xw_T ∧ Cond.code y b nL ret ∈ xw_T ∧
  (y.cls ≠ "java/lang/invoke/MethodHandle" ∧ y.cls ≠ "java/lang/invoke/VarHandle" ∧ (parseMethodDescriptor y.desc).map (fun d => d.parameters.length) = some n)
theorem f_X_0 : Cond.fieldLink R_X 7 "PageRangeStore" "data" "[I" ∈ xw_T := xw_in (i := 32) rfl rfl
theorem f_X_1 : Cond.fieldLink R_X 13 "PageRangeStore" "free" "[Z" ∈ xw_T := xw_in (i := 33) rfl rfl
theorem f_X_2 : Cond.fieldLink R_X 17 "PageRangeStore" "frameOf" "[I" ∈ xw_T := xw_in (i := 34) rfl rfl
theorem f_X_3 : Cond.fieldLink R_X 20 "PageRangeStore" "canWrite" "[Z" ∈ xw_T := xw_in (i := 35) rfl rfl
theorem f_X_4 : Cond.fieldLink R_X 23 "PageRangeStore" "base" "[I" ∈ xw_T := xw_in (i := 36) rfl rfl
theorem f_X_5 : Cond.fieldLink R_X 26 "PageRangeStore" "held" "[I" ∈ xw_T := xw_in (i := 37) rfl rfl
theorem f_X_6 : Cond.fieldLink R_X 29 "PageRangeStore" "large" "[Z" ∈ xw_T := xw_in (i := 38) rfl rfl
theorem f_X_7 : Cond.fieldLink R_X 32 "PageRangeStore" "largeWrite" "[Z" ∈ xw_T := xw_in (i := 39) rfl rfl
theorem f_X_8 : Cond.fieldLink R_X 35 "PageRangeStore" "lastUse" "[I" ∈ xw_T := xw_in (i := 40) rfl rfl
theorem f_X_9 : Cond.fieldLink R_X 38 "PageRangeStore" "frameCount" "I" ∈ xw_T := xw_in (i := 41) rfl rfl
theorem f_X_10 : Cond.fieldLink R_X 42 "PageRangeStore" "usedCount" "I" ∈ xw_T := xw_in (i := 42) rfl rfl
theorem f_X_11 : Cond.fieldLink R_X 94 "PageRangeStore" "clock" "I" ∈ xw_T := xw_in (i := 43) rfl rfl
theorem f_M_0 : Cond.fieldLink R_M 20 "PageRangeStoreModel" "frames" "I" ∈ xw_T := xw_in (i := 224) rfl rfl
theorem f_M_1 : Cond.fieldLink R_M 7 "PageRangeStoreModel" "there" "[Z" ∈ xw_T := xw_in (i := 225) rfl rfl
theorem f_M_2 : Cond.fieldLink R_M 13 "PageRangeStoreModel" "open" "[Z" ∈ xw_T := xw_in (i := 226) rfl rfl
theorem f_M_3 : Cond.fieldLink R_M 16 "PageRangeStoreModel" "content" "[I" ∈ xw_T := xw_in (i := 227) rfl rfl
theorem k_X_45 : xwS R_X 45 y_X_isSpace b_X_isSpace 1 (some .boolean) 1 := ⟨(xw_in (i := 83) rfl rfl), (xw_in (i := 84) rfl rfl), (xw_in (i := 22) rfl rfl), (xw_in (i := 85) rfl rfl), by decide +kernel⟩
theorem k_X_49 : xwS R_X 49 y_X_bits b_X_bits 3 (some .int) 1 := ⟨(xw_in (i := 86) rfl rfl), (xw_in (i := 87) rfl rfl), (xw_in (i := 22) rfl rfl), (xw_in (i := 88) rfl rfl), by decide +kernel⟩
theorem k_X_53 : xwS R_X 53 y_X_isRange b_X_isRange 2 (some .boolean) 2 := ⟨(xw_in (i := 93) rfl rfl), (xw_in (i := 94) rfl rfl), (xw_in (i := 22) rfl rfl), (xw_in (i := 95) rfl rfl), by decide +kernel⟩
theorem k_X_57 : xwV R_X 57 y_X_has b_X_has 2 (some .boolean) 1 := ⟨(xw_in (i := 96) rfl rfl), (xw_in (i := 98) rfl rfl), (xw_in (i := 0) rfl rfl), (xw_in (i := 22) rfl rfl), (xw_in (i := 99) rfl rfl), by decide +kernel⟩
theorem k_X_60 : xwV R_X 60 y_X_bringIn b_X_bringIn 6 none 3 := ⟨(xw_in (i := 100) rfl rfl), (xw_in (i := 102) rfl rfl), (xw_in (i := 1) rfl rfl), (xw_in (i := 22) rfl rfl), (xw_in (i := 103) rfl rfl), by decide +kernel⟩
theorem k_X_64 : xwV R_X 64 y_X_takeOut b_X_takeOut 4 none 1 := ⟨(xw_in (i := 132) rfl rfl), (xw_in (i := 134) rfl rfl), (xw_in (i := 8) rfl rfl), (xw_in (i := 22) rfl rfl), (xw_in (i := 135) rfl rfl), by decide +kernel⟩
theorem k_X_68 : xwV R_X 68 y_X_mayWrite b_X_mayWrite 2 (some .boolean) 1 := ⟨(xw_in (i := 144) rfl rfl), (xw_in (i := 146) rfl rfl), (xw_in (i := 10) rfl rfl), (xw_in (i := 22) rfl rfl), (xw_in (i := 147) rfl rfl), by decide +kernel⟩
theorem k_X_71 : xwV R_X 71 y_X_setWrite b_X_setWrite 4 none 2 := ⟨(xw_in (i := 148) rfl rfl), (xw_in (i := 150) rfl rfl), (xw_in (i := 11) rfl rfl), (xw_in (i := 22) rfl rfl), (xw_in (i := 151) rfl rfl), by decide +kernel⟩
theorem k_X_75 : xwS R_X 75 y_X_isPage b_X_isPage 1 (some .boolean) 1 := ⟨(xw_in (i := 156) rfl rfl), (xw_in (i := 157) rfl rfl), (xw_in (i := 22) rfl rfl), (xw_in (i := 158) rfl rfl), by decide +kernel⟩
theorem k_X_78 : xwV R_X 78 y_X_content b_X_content 3 (some .int) 1 := ⟨(xw_in (i := 167) rfl rfl), (xw_in (i := 169) rfl rfl), (xw_in (i := 12) rfl rfl), (xw_in (i := 22) rfl rfl), (xw_in (i := 170) rfl rfl), by decide +kernel⟩
theorem k_X_81 : xwV R_X 81 y_X_setContent b_X_setContent 4 none 2 := ⟨(xw_in (i := 179) rfl rfl), (xw_in (i := 181) rfl rfl), (xw_in (i := 14) rfl rfl), (xw_in (i := 22) rfl rfl), (xw_in (i := 182) rfl rfl), by decide +kernel⟩
theorem k_X_85 : xwV R_X 85 y_X_carry b_X_carry 5 none 2 := ⟨(xw_in (i := 195) rfl rfl), (xw_in (i := 197) rfl rfl), (xw_in (i := 15) rfl rfl), (xw_in (i := 22) rfl rfl), (xw_in (i := 198) rfl rfl), by decide +kernel⟩
theorem k_X_88 : xwV R_X 88 y_X_translate b_X_translate 3 (some .int) 1 := ⟨(xw_in (i := 171) rfl rfl), (xw_in (i := 173) rfl rfl), (xw_in (i := 13) rfl rfl), (xw_in (i := 22) rfl rfl), (xw_in (i := 174) rfl rfl), by decide +kernel⟩
theorem k_X_91 : xwV R_X 91 y_X_use b_X_use 2 none 1 := ⟨(xw_in (i := 120) rfl rfl), (xw_in (i := 122) rfl rfl), (xw_in (i := 6) rfl rfl), (xw_in (i := 22) rfl rfl), (xw_in (i := 123) rfl rfl), by decide +kernel⟩
theorem k_X_97 : xwV R_X 97 y_X_breakUp b_X_breakUp 3 none 1 := ⟨(xw_in (i := 136) rfl rfl), (xw_in (i := 138) rfl rfl), (xw_in (i := 9) rfl rfl), (xw_in (i := 22) rfl rfl), (xw_in (i := 139) rfl rfl), by decide +kernel⟩
theorem k_X_100 : xwV R_X 100 y_X_joinUp b_X_joinUp 3 none 1 := ⟨(xw_in (i := 124) rfl rfl), (xw_in (i := 126) rfl rfl), (xw_in (i := 7) rfl rfl), (xw_in (i := 22) rfl rfl), (xw_in (i := 127) rfl rfl), by decide +kernel⟩
theorem k_X_103 : xwV R_X 103 y_X_allocate b_X_allocate 4 (some .int) 1 := ⟨(xw_in (i := 104) rfl rfl), (xw_in (i := 106) rfl rfl), (xw_in (i := 2) rfl rfl), (xw_in (i := 22) rfl rfl), (xw_in (i := 107) rfl rfl), by decide +kernel⟩
theorem k_X_106 : xwV R_X 106 y_X_preempt b_X_preempt 3 none 0 := ⟨(xw_in (i := 112) rfl rfl), (xw_in (i := 114) rfl rfl), (xw_in (i := 4) rfl rfl), (xw_in (i := 22) rfl rfl), (xw_in (i := 115) rfl rfl), by decide +kernel⟩
theorem k_X_109 : xwV R_X 109 y_X_giveBack b_X_giveBack 7 none 2 := ⟨(xw_in (i := 116) rfl rfl), (xw_in (i := 118) rfl rfl), (xw_in (i := 5) rfl rfl), (xw_in (i := 22) rfl rfl), (xw_in (i := 119) rfl rfl), by decide +kernel⟩
theorem k_X_112 : xwV R_X 112 y_X_split b_X_split 5 none 3 := ⟨(xw_in (i := 108) rfl rfl), (xw_in (i := 110) rfl rfl), (xw_in (i := 3) rfl rfl), (xw_in (i := 22) rfl rfl), (xw_in (i := 111) rfl rfl), by decide +kernel⟩
theorem k_M_24 : xwV R_M 24 y_M_badSpace b_M_badSpace 2 (some .boolean) 1 := ⟨(xw_in (i := 249) rfl rfl), (xw_in (i := 251) rfl rfl), (xw_in (i := 16) rfl rfl), (xw_in (i := 23) rfl rfl), (xw_in (i := 252) rfl rfl), by decide +kernel⟩
theorem k_M_28 : xwV R_M 28 y_M_badRange b_M_badRange 3 (some .boolean) 2 := ⟨(xw_in (i := 257) rfl rfl), (xw_in (i := 259) rfl rfl), (xw_in (i := 17) rfl rfl), (xw_in (i := 23) rfl rfl), (xw_in (i := 260) rfl rfl), by decide +kernel⟩
theorem k_M_32 : xwV R_M 32 y_M_used b_M_used 3 (some .int) 0 := ⟨(xw_in (i := 261) rfl rfl), (xw_in (i := 242) rfl rfl), (xw_in (i := 243) rfl rfl), (xw_in (i := 23) rfl rfl), (xw_in (i := 244) rfl rfl), by decide +kernel⟩
theorem k_M_36 : xwV R_M 36 y_M_make b_M_make 3 none 2 := ⟨(xw_in (i := 262) rfl rfl), (xw_in (i := 264) rfl rfl), (xw_in (i := 18) rfl rfl), (xw_in (i := 23) rfl rfl), (xw_in (i := 265) rfl rfl), by decide +kernel⟩
theorem k_M_40 : xwV R_M 40 y_M_badPage b_M_badPage 2 (some .boolean) 1 := ⟨(xw_in (i := 278) rfl rfl), (xw_in (i := 280) rfl rfl), (xw_in (i := 19) rfl rfl), (xw_in (i := 23) rfl rfl), (xw_in (i := 281) rfl rfl), by decide +kernel⟩
theorem k_M_43 : xwV R_M 43 y_M_copy b_M_copy 3 none 2 := ⟨(xw_in (i := 306) rfl rfl), (xw_in (i := 308) rfl rfl), (xw_in (i := 20) rfl rfl), (xw_in (i := 23) rfl rfl), (xw_in (i := 309) rfl rfl), by decide +kernel⟩
theorem k_L_9 : xwS R_law 9 y_L_cell b_L_cell 2 (some .int) 2 := ⟨(xw_in (i := 215) rfl rfl), (xw_in (i := 216) rfl rfl), (xw_in (i := 21) rfl rfl), (xw_in (i := 217) rfl rfl), by decide +kernel⟩
theorem k_L_21 : xwV R_law 21 y_X_frames b_X_frames 1 (some .int) 0 := ⟨(xw_in (i := 71) rfl rfl), (xw_in (i := 72) rfl rfl), (xw_in (i := 73) rfl rfl), (xw_in (i := 22) rfl rfl), (xw_in (i := 74) rfl rfl), by decide +kernel⟩
theorem k_L_25 : xwV R_law 25 y_M_frames b_M_frames 1 (some .int) 0 := ⟨(xw_in (i := 237) rfl rfl), (xw_in (i := 238) rfl rfl), (xw_in (i := 239) rfl rfl), (xw_in (i := 23) rfl rfl), (xw_in (i := 240) rfl rfl), by decide +kernel⟩
theorem k_L_26 : xwV R_law 26 y_X_used b_X_used 1 (some .int) 0 := ⟨(xw_in (i := 75) rfl rfl), (xw_in (i := 76) rfl rfl), (xw_in (i := 77) rfl rfl), (xw_in (i := 22) rfl rfl), (xw_in (i := 78) rfl rfl), by decide +kernel⟩
theorem k_L_29 : xwV R_law 29 y_M_used b_M_used 3 (some .int) 0 := ⟨(xw_in (i := 241) rfl rfl), (xw_in (i := 242) rfl rfl), (xw_in (i := 243) rfl rfl), (xw_in (i := 23) rfl rfl), (xw_in (i := 244) rfl rfl), by decide +kernel⟩
theorem k_L_30 : xwV R_law 30 y_X_mappedIn b_X_mappedIn 4 (some .int) 1 := ⟨(xw_in (i := 79) rfl rfl), (xw_in (i := 80) rfl rfl), (xw_in (i := 81) rfl rfl), (xw_in (i := 22) rfl rfl), (xw_in (i := 82) rfl rfl), by decide +kernel⟩
theorem k_L_34 : xwV R_law 34 y_M_mappedIn b_M_mappedIn 4 (some .int) 1 := ⟨(xw_in (i := 245) rfl rfl), (xw_in (i := 246) rfl rfl), (xw_in (i := 247) rfl rfl), (xw_in (i := 23) rfl rfl), (xw_in (i := 248) rfl rfl), by decide +kernel⟩
theorem k_L_35 : xwV R_law 35 y_X_map b_X_map 7 (some .int) 3 := ⟨(xw_in (i := 89) rfl rfl), (xw_in (i := 90) rfl rfl), (xw_in (i := 91) rfl rfl), (xw_in (i := 22) rfl rfl), (xw_in (i := 92) rfl rfl), by decide +kernel⟩
theorem k_L_39 : xwV R_law 39 y_M_map b_M_map 6 (some .int) 3 := ⟨(xw_in (i := 253) rfl rfl), (xw_in (i := 254) rfl rfl), (xw_in (i := 255) rfl rfl), (xw_in (i := 23) rfl rfl), (xw_in (i := 256) rfl rfl), by decide +kernel⟩
theorem k_L_40 : xwV R_law 40 y_X_unmap b_X_unmap 7 (some .int) 3 := ⟨(xw_in (i := 128) rfl rfl), (xw_in (i := 129) rfl rfl), (xw_in (i := 130) rfl rfl), (xw_in (i := 22) rfl rfl), (xw_in (i := 131) rfl rfl), by decide +kernel⟩
theorem k_L_43 : xwV R_law 43 y_M_unmap b_M_unmap 6 (some .int) 3 := ⟨(xw_in (i := 266) rfl rfl), (xw_in (i := 267) rfl rfl), (xw_in (i := 268) rfl rfl), (xw_in (i := 23) rfl rfl), (xw_in (i := 269) rfl rfl), by decide +kernel⟩
theorem k_L_44 : xwV R_law 44 y_X_protect b_X_protect 9 (some .int) 4 := ⟨(xw_in (i := 140) rfl rfl), (xw_in (i := 141) rfl rfl), (xw_in (i := 142) rfl rfl), (xw_in (i := 22) rfl rfl), (xw_in (i := 143) rfl rfl), by decide +kernel⟩
theorem k_L_48 : xwV R_law 48 y_M_protect b_M_protect 9 (some .int) 4 := ⟨(xw_in (i := 270) rfl rfl), (xw_in (i := 271) rfl rfl), (xw_in (i := 272) rfl rfl), (xw_in (i := 23) rfl rfl), (xw_in (i := 273) rfl rfl), by decide +kernel⟩
theorem k_L_49 : xwV R_law 49 y_X_mapped b_X_mapped 3 (some .int) 2 := ⟨(xw_in (i := 152) rfl rfl), (xw_in (i := 153) rfl rfl), (xw_in (i := 154) rfl rfl), (xw_in (i := 22) rfl rfl), (xw_in (i := 155) rfl rfl), by decide +kernel⟩
theorem k_L_53 : xwV R_law 53 y_M_mapped b_M_mapped 3 (some .int) 2 := ⟨(xw_in (i := 274) rfl rfl), (xw_in (i := 275) rfl rfl), (xw_in (i := 276) rfl rfl), (xw_in (i := 23) rfl rfl), (xw_in (i := 277) rfl rfl), by decide +kernel⟩
theorem k_L_54 : xwV R_law 54 y_X_writable b_X_writable 4 (some .int) 2 := ⟨(xw_in (i := 159) rfl rfl), (xw_in (i := 160) rfl rfl), (xw_in (i := 161) rfl rfl), (xw_in (i := 22) rfl rfl), (xw_in (i := 162) rfl rfl), by decide +kernel⟩
theorem k_L_57 : xwV R_law 57 y_M_writable b_M_writable 3 (some .int) 2 := ⟨(xw_in (i := 282) rfl rfl), (xw_in (i := 283) rfl rfl), (xw_in (i := 284) rfl rfl), (xw_in (i := 23) rfl rfl), (xw_in (i := 285) rfl rfl), by decide +kernel⟩
theorem k_L_58 : xwV R_law 58 y_X_read b_X_read 4 (some .int) 2 := ⟨(xw_in (i := 163) rfl rfl), (xw_in (i := 164) rfl rfl), (xw_in (i := 165) rfl rfl), (xw_in (i := 22) rfl rfl), (xw_in (i := 166) rfl rfl), by decide +kernel⟩
theorem k_L_61 : xwV R_law 61 y_M_read b_M_read 3 (some .int) 2 := ⟨(xw_in (i := 286) rfl rfl), (xw_in (i := 287) rfl rfl), (xw_in (i := 288) rfl rfl), (xw_in (i := 23) rfl rfl), (xw_in (i := 289) rfl rfl), by decide +kernel⟩
theorem k_L_62 : xwV R_law 62 y_X_write b_X_write 5 (some .int) 3 := ⟨(xw_in (i := 175) rfl rfl), (xw_in (i := 176) rfl rfl), (xw_in (i := 177) rfl rfl), (xw_in (i := 22) rfl rfl), (xw_in (i := 178) rfl rfl), by decide +kernel⟩
theorem k_L_65 : xwV R_law 65 y_M_write b_M_write 5 (some .int) 3 := ⟨(xw_in (i := 290) rfl rfl), (xw_in (i := 291) rfl rfl), (xw_in (i := 292) rfl rfl), (xw_in (i := 23) rfl rfl), (xw_in (i := 293) rfl rfl), by decide +kernel⟩
theorem k_L_66 : xwV R_law 66 y_X_touch b_X_touch 5 (some .int) 3 := ⟨(xw_in (i := 183) rfl rfl), (xw_in (i := 184) rfl rfl), (xw_in (i := 185) rfl rfl), (xw_in (i := 22) rfl rfl), (xw_in (i := 186) rfl rfl), by decide +kernel⟩
theorem k_L_69 : xwV R_law 69 y_M_touch b_M_touch 5 (some .int) 3 := ⟨(xw_in (i := 294) rfl rfl), (xw_in (i := 295) rfl rfl), (xw_in (i := 296) rfl rfl), (xw_in (i := 23) rfl rfl), (xw_in (i := 297) rfl rfl), by decide +kernel⟩
theorem k_L_70 : xwV R_law 70 y_X_stamp b_X_stamp 7 (some .int) 3 := ⟨(xw_in (i := 187) rfl rfl), (xw_in (i := 188) rfl rfl), (xw_in (i := 189) rfl rfl), (xw_in (i := 22) rfl rfl), (xw_in (i := 190) rfl rfl), by decide +kernel⟩
theorem k_L_73 : xwV R_law 73 y_M_stamp b_M_stamp 9 (some .int) 3 := ⟨(xw_in (i := 298) rfl rfl), (xw_in (i := 299) rfl rfl), (xw_in (i := 300) rfl rfl), (xw_in (i := 23) rfl rfl), (xw_in (i := 301) rfl rfl), by decide +kernel⟩
theorem k_L_74 : xwV R_law 74 y_X_remap b_X_remap 6 (some .int) 3 := ⟨(xw_in (i := 191) rfl rfl), (xw_in (i := 192) rfl rfl), (xw_in (i := 193) rfl rfl), (xw_in (i := 22) rfl rfl), (xw_in (i := 194) rfl rfl), by decide +kernel⟩
theorem k_L_77 : xwV R_law 77 y_M_remap b_M_remap 4 (some .int) 3 := ⟨(xw_in (i := 302) rfl rfl), (xw_in (i := 303) rfl rfl), (xw_in (i := 304) rfl rfl), (xw_in (i := 23) rfl rfl), (xw_in (i := 305) rfl rfl), by decide +kernel⟩
theorem k_L_78 : xwV R_law 78 y_X_duplicate b_X_duplicate 7 (some .int) 2 := ⟨(xw_in (i := 199) rfl rfl), (xw_in (i := 200) rfl rfl), (xw_in (i := 201) rfl rfl), (xw_in (i := 22) rfl rfl), (xw_in (i := 202) rfl rfl), by decide +kernel⟩
theorem k_L_81 : xwV R_law 81 y_M_duplicate b_M_duplicate 3 (some .int) 2 := ⟨(xw_in (i := 310) rfl rfl), (xw_in (i := 311) rfl rfl), (xw_in (i := 312) rfl rfl), (xw_in (i := 23) rfl rfl), (xw_in (i := 313) rfl rfl), by decide +kernel⟩
theorem k_L_82 : xwV R_law 82 y_X_exchange b_X_exchange 7 (some .int) 1 := ⟨(xw_in (i := 203) rfl rfl), (xw_in (i := 204) rfl rfl), (xw_in (i := 205) rfl rfl), (xw_in (i := 22) rfl rfl), (xw_in (i := 206) rfl rfl), by decide +kernel⟩
theorem k_L_85 : xwV R_law 85 y_M_exchange b_M_exchange 5 (some .int) 1 := ⟨(xw_in (i := 314) rfl rfl), (xw_in (i := 315) rfl rfl), (xw_in (i := 316) rfl rfl), (xw_in (i := 23) rfl rfl), (xw_in (i := 317) rfl rfl), by decide +kernel⟩
theorem k_L_86 : xwV R_law 86 y_X_sum b_X_sum 4 (some .int) 1 := ⟨(xw_in (i := 207) rfl rfl), (xw_in (i := 208) rfl rfl), (xw_in (i := 209) rfl rfl), (xw_in (i := 22) rfl rfl), (xw_in (i := 210) rfl rfl), by decide +kernel⟩
theorem k_L_89 : xwV R_law 89 y_M_sum b_M_sum 4 (some .int) 1 := ⟨(xw_in (i := 318) rfl rfl), (xw_in (i := 319) rfl rfl), (xw_in (i := 320) rfl rfl), (xw_in (i := 23) rfl rfl), (xw_in (i := 321) rfl rfl), by decide +kernel⟩
theorem k_L_90 : xwV R_law 90 y_X_nextMapped b_X_nextMapped 4 (some .int) 2 := ⟨(xw_in (i := 211) rfl rfl), (xw_in (i := 212) rfl rfl), (xw_in (i := 213) rfl rfl), (xw_in (i := 22) rfl rfl), (xw_in (i := 214) rfl rfl), by decide +kernel⟩
theorem k_L_93 : xwV R_law 93 y_M_nextMapped b_M_nextMapped 4 (some .int) 2 := ⟨(xw_in (i := 322) rfl rfl), (xw_in (i := 323) rfl rfl), (xw_in (i := 324) rfl rfl), (xw_in (i := 23) rfl rfl), (xw_in (i := 325) rfl rfl), by decide +kernel⟩
theorem kB_m5 : (Int8.ofInt (-5)).toInt32 = (-5) := by decide +kernel
theorem kB_m4 : (Int8.ofInt (-4)).toInt32 = (-4) := by decide +kernel
theorem kB_m3 : (Int8.ofInt (-3)).toInt32 = (-3) := by decide +kernel
theorem kB_m2 : (Int8.ofInt (-2)).toInt32 = (-2) := by decide +kernel
theorem kB_6 : (Int8.ofInt 6).toInt32 = nI 6 := by decide +kernel
theorem kB_8 : (Int8.ofInt 8).toInt32 = nI 8 := by decide +kernel
theorem kB_15 : (Int8.ofInt 15).toInt32 = nI 15 := by decide +kernel
theorem kB_16 : (Int8.ofInt 16).toInt32 = nI 16 := by decide +kernel
theorem kB_31 : (Int8.ofInt 31).toInt32 = nI 31 := by decide +kernel
theorem kB_32 : (Int8.ofInt 32).toInt32 = nI 32 := by decide +kernel
theorem kB_48 : (Int8.ofInt 48).toInt32 = nI 48 := by decide +kernel
theorem kB_63 : (Int8.ofInt 63).toInt32 = nI 63 := by decide +kernel
theorem kB_64 : (Int8.ofInt 64).toInt32 = nI 64 := by decide +kernel
theorem kI_m1 : Int32.ofInt (-1) = (-1) := by decide +kernel
theorem kI_0 : Int32.ofInt 0 = nI 0 := by decide +kernel
theorem kI_1 : Int32.ofInt 1 = nI 1 := by decide +kernel
theorem kI_2 : Int32.ofInt 2 = nI 2 := by decide +kernel
theorem kI_3 : Int32.ofInt 3 = nI 3 := by decide +kernel
theorem kI_4 : Int32.ofInt 4 = nI 4 := by decide +kernel
theorem kI_5 : Int32.ofInt 5 = nI 5 := by decide +kernel
theorem kS_144 : (Int16.ofInt 144).toInt32 = nI 144 := by decide +kernel
theorem kS_192 : (Int16.ofInt 192).toInt32 = nI 192 := by decide +kernel
end
section
/-! The judgement xW: the machine at a pc of a method, with the method's world hidden behind a pure state. -/
abbrev xT : Type := Nat → Nat → Int32
/-- array a of the state becomes g -/
def sA (σ : xT) (a : Nat) (g : Nat → Int32) : xT := fun b => if b = a then g else σ b
/-- place i of array a becomes v -/
def sS (σ : xT) (a i : Nat) (v : Int32) : xT := sA σ a (upd (σ a) i v)
theorem sS_at (σ : xT) (a i : Nat) (v : Int32) (b j : Nat) : sS σ a i v b j = if b = a ∧ j = i then v else σ b j := by
  unfold sS sA upd
  by_cases h : b = a
  · subst h; simp
  · simp [h]
theorem sA_at (σ : xT) (a : Nat) (g : Nat → Int32) (b j : Nat) : sA σ a g b j = if b = a then g j else σ b j := by
  unfold sA
  by_cases h : b = a
  · subst h; simp
  · simp [h]
/-- how the cells are addressed: class numbers and slots, the int arrays' class, the boolean arrays' class, the addresses -/
abbrev xA : Type := va_G × ClassId × ClassId × (Nat → Nat)
def xP (a : xA) (σ : xT) : va_W :=
  [(a.2.2.2 0, .inr (0, [.ref (a.2.2.2 1), .ref (a.2.2.2 2), .ref (a.2.2.2 3), .ref (a.2.2.2 4), .ref (a.2.2.2 5), .ref (a.2.2.2 6), .ref (a.2.2.2 7), .ref (a.2.2.2 8), .ref (a.2.2.2 9), .int (σ 9 0), .int (σ 10 0), .int (σ 11 0)])),
   (a.2.2.2 1, .inl (a.2.1, 48, .inl (σ 0))), (a.2.2.2 2, .inl (a.2.2.1, 192, .inl (σ 1))), (a.2.2.2 3, .inl (a.2.1, 64, .inl (σ 2))), (a.2.2.2 4, .inl (a.2.2.1, 64, .inl (σ 3))),
   (a.2.2.2 5, .inl (a.2.1, 16, .inl (σ 4))), (a.2.2.2 6, .inl (a.2.1, 16, .inl (σ 5))), (a.2.2.2 7, .inl (a.2.2.1, 16, .inl (σ 6))), (a.2.2.2 8, .inl (a.2.2.1, 16, .inl (σ 7))), (a.2.2.2 9, .inl (a.2.1, 16, .inl (σ 8)))]
def mP (a : xA) (μ : xT) : va_W :=
  [(a.2.2.2 0, .inr (1, [.int (μ 3 0), .ref (a.2.2.2 1), .ref (a.2.2.2 2), .ref (a.2.2.2 3)])),
   (a.2.2.2 1, .inl (a.2.2.1, 64, .inl (μ 0))), (a.2.2.2 2, .inl (a.2.2.1, 64, .inl (μ 1))), (a.2.2.2 3, .inl (a.2.1, 64, .inl (μ 2)))]
abbrev xTy (a : xA) : List (ClassId × FieldType) := [(a.2.1, .int), (a.2.2.1, .boolean)]
/-! locals by place -/
def xv : Nat → List (Option Value) → List (Nat × Value)
  | _, [] => []
  | k, some v :: r => (k, v) :: xv (k + 1) r
  | k, none :: r => xv (k + 1) r
theorem xv_mem : ∀ (L : List (Option Value)) (k j : Nat) (w : Value), (j, w) ∈ xv k L ↔ ∃ i, L[i]? = some (some w) ∧ j = k + i
  | [], k, j, w => by simp [xv]
  | none :: r, k, j, w => by
    rw [xv, xv_mem r (k + 1) j w]
    constructor
    · rintro ⟨i, h1, h2⟩
      exact ⟨i + 1, by simpa using h1, by omega⟩
    · rintro ⟨i, h1, h2⟩
      cases i with
      | zero => simp at h1
      | succ i => exact ⟨i, by simpa using h1, by omega⟩
  | some v :: r, k, j, w => by
    rw [xv, List.mem_cons, xv_mem r (k + 1) j w]
    constructor
    · rintro (h | ⟨i, h1, h2⟩)
      · cases h
        exact ⟨0, by simp, by omega⟩
      · exact ⟨i + 1, by simpa using h1, by omega⟩
    · rintro ⟨i, h1, h2⟩
      cases i with
      | zero =>
        left
        simp at h1
        subst h1
        rw [h2]; rfl
      | succ i => exact Or.inr ⟨i, by simpa using h1, by omega⟩
def xl (ls : Array Slot) (nL : Nat) (L : List (Option Value)) : Prop := lv_has ls nL (xv 0 L) ∧ ∀ v, some v ∈ L → v.category = 1
theorem xl_at {ls : Array Slot} {nL : Nat} {L : List (Option Value)} (h : xl ls nL L) (i : Nat) {v : Value} (hi : L[i]? = some (some v)) : ls[i]? = some (.val v) :=
  h.1.2.2 (i, v) ((xv_mem L 0 i v).mpr ⟨i, hi, by omega⟩)
theorem xl_set {ls ls' : Array Slot} {nL : Nat} {L : List (Option Value)} (h : xl ls nL L) {i : Nat} {v : Value} (hc : v.category = 1)
    (h' : lv_has ls' nL ((i, v) :: (xv 0 L).filter (fun q => !(q.1 == i) && !(q.1 + 1 == i && q.2.category == 2)))) : xl ls' nL (L.set i (some v)) := by
  refine ⟨⟨h'.1, h'.2.1, ?_⟩, ?_⟩
  · rintro ⟨j, w⟩ hq
    apply h'.2.2
    obtain ⟨k, h1, h2⟩ := (xv_mem _ 0 j w).mp hq
    have hjk : j = k := by omega
    subst hjk
    by_cases hji : j = i
    · subst hji
      have hl : j < (L.set j (some v)).length := (List.getElem?_eq_some_iff.mp h1).1
      rw [List.length_set] at hl
      rw [List.getElem?_set_self hl] at h1
      cases h1
      exact List.mem_cons_self
    · rw [List.getElem?_set_ne (Ne.symm hji)] at h1
      refine List.mem_cons_of_mem _ (List.mem_filter.mpr ⟨(xv_mem L 0 j w).mpr ⟨j, h1, by omega⟩, ?_⟩)
      have hcw := h.2 w (List.mem_of_getElem? h1)
      simp [hji, hcw]
  · intro w hw
    rcases List.mem_or_eq_of_mem_set hw with h1 | h1
    · exact h.2 w h1
    · cases h1; exact hc
/-- fewer known locals -/
def xle (L L' : List (Option Value)) : Prop := ∀ (i : Nat) (v : Value), L'[i]? = some (some v) → L[i]? = some (some v)
theorem xl_le {ls : Array Slot} {nL : Nat} {L L' : List (Option Value)} (h : xl ls nL L) (hl : xle L L') : xl ls nL L' := by
  refine ⟨⟨h.1.1, h.1.2.1, ?_⟩, fun v hv => ?_⟩
  · rintro ⟨j, w⟩ hq
    obtain ⟨k, h1, h2⟩ := (xv_mem _ 0 j w).mp hq
    have hjk : j = k := by omega
    subst hjk
    exact xl_at h j (hl j w h1)
  · obtain ⟨i, hi⟩ := List.getElem?_of_mem hv
    exact h.2 v (List.mem_of_getElem? (hl i v hi))
theorem xle_nil {L : List (Option Value)} : xle L [] := fun i v h => by simp at h
theorem xle_c {a : Option Value} {L L' : List (Option Value)} (h : xle L L') : xle (a :: L) (a :: L') := fun i v hi => by
  cases i with
  | zero => simpa using hi
  | succ i => simpa using h i v (by simpa using hi)
theorem xle_n {a : Option Value} {L L' : List (Option Value)} (h : xle L L') : xle (a :: L) (none :: L') := fun i v hi => by
  cases i with
  | zero => simp at hi
  | succ i => simpa using h i v (by simpa using hi)
/-! the context: program, launch, env, room, start, method, arguments, frames below, method's data, code, cells, slots, goal, what may change, number of locals -/
abbrev xG : Type := Program × Launch × Env × Room × State × MethodId × Array Value × List Frame × Method × Code × Nat × Nat × (State → Prop) × (Nat → Prop) × Nat
def xW (Γ : xG) (a : xA) {S : Type} (wf : S → va_W) (σ : S) (pc : Nat) (L : List (Option Value)) (st : List Value) : Prop :=
  match Γ with
  | (p, l, e, R, s, m, args, below, meth, c, cells, slots, Q, A, nL) =>
    ∀ (H : Heap) (locs : List Loc) (ls : Array Slot), va_P a.1 classes (wf σ) H → va_S A s.heap H locs → xl ls nL L → W p l e R s m args below meth c H locs cells slots Q (F0 m pc ls st)
def xC (Γ : xG) (a : xA) {S : Type} (wf : S → va_W) (cc : ByteArray) (nl : Nat) (own : String) (K : Nat) : Prop :=
  match Γ with
  | (p, _, _, R, s, m, args, _, meth, c, cells, slots, _, A, nL) =>
    p.tables.exec = Jvm.exec ∧ c.code = cc ∧ c.maxLocals = nL ∧ nL = nl ∧ s.vm.findClass own = some m.cls ∧ (∀ w ∈ xw_T, w.before args s = true) ∧ va_K a.1 classes (xTy a) s ∧ (∀ u : S, va_D A (wf u)) ∧
    (∀ q, s.heap.size ≤ q → A q) ∧ meth.locks = false ∧ (K ≤ R.frames ∧ 28 * K ≤ R.locals ∧ cells ≤ R.cells ∧ slots ≤ R.slots)
def xd (cc : ByteArray) (pc : Nat) (i : Instr) (n pc' : Nat) : Prop := decode cc pc = .ok (i, n) ∧ pc + n = pc'
def xb (cc : ByteArray) (pc : Nat) (i : Instr) (off : Int) (pc' tgt : Nat) : Prop := decode cc pc = .ok (i, 3) ∧ pc + 3 = pc' ∧ (pc : Int) + off = (tgt : Int)
section XR
variable {Γ : xG} {a : xA} {S : Type} {wf : S → va_W} {σ : S} {cc : ByteArray} {nl : Nat} {own : String} {K pc pc' tgt : Nat} {L : List (Option Value)} {st : List Value} {x y z : Int32} {off : Int}
theorem x_iconst (C : xC Γ a wf cc nl own K) {n : Int} (d : xd cc pc (.iconst n) 1 pc') (h : Int32.ofInt n = z) (k : xW Γ a wf σ pc' L (.int z :: st)) : xW Γ a wf σ pc L st := by
  obtain ⟨p, l, e, R, s, m, args, below, meth, c, cells, slots, Q, A, nL⟩ := Γ
  obtain ⟨hx, hb, hml, rfl, hown, hts, hK, hD, hA, hlk, hR⟩ := C
  obtain ⟨d, rfl⟩ := d
  exact fun H locs ls hP hS hl => lv_iconst hx hb d h (k H locs ls hP hS hl)
theorem x_bipush (C : xC Γ a wf cc nl own K) {n : Int} (d : xd cc pc (.bipush n) 2 pc') (h : (Int8.ofInt n).toInt32 = z) (k : xW Γ a wf σ pc' L (.int z :: st)) : xW Γ a wf σ pc L st := by
  obtain ⟨p, l, e, R, s, m, args, below, meth, c, cells, slots, Q, A, nL⟩ := Γ
  obtain ⟨hx, hb, hml, rfl, hown, hts, hK, hD, hA, hlk, hR⟩ := C
  obtain ⟨d, rfl⟩ := d
  exact fun H locs ls hP hS hl => lv_bipush hx hb d h (k H locs ls hP hS hl)
theorem x_sipush (C : xC Γ a wf cc nl own K) {n : Int} (d : xd cc pc (.sipush n) 3 pc') (h : (Int16.ofInt n).toInt32 = z) (k : xW Γ a wf σ pc' L (.int z :: st)) : xW Γ a wf σ pc L st := by
  obtain ⟨p, l, e, R, s, m, args, below, meth, c, cells, slots, Q, A, nL⟩ := Γ
  obtain ⟨hx, hb, hml, rfl, hown, hts, hK, hD, hA, hlk, hR⟩ := C
  obtain ⟨d, rfl⟩ := d
  exact fun H locs ls hP hS hl => lv_sipush hx hb d h (k H locs ls hP hS hl)
theorem x_iload0 {r : List (Option Value)} (C : xC Γ a wf cc nl own K) (d : xd cc pc (.iload_n 0) 1 pc') (k : xW Γ a wf σ pc' (some (.int x) :: r) (.int x :: st)) : xW Γ a wf σ pc (some (.int x) :: r) st := by
  obtain ⟨p, l, e, R, s, m, args, below, meth, c, cells, slots, Q, A, nL⟩ := Γ
  obtain ⟨hx, hb, hml, rfl, hown, hts, hK, hD, hA, hlk, hR⟩ := C
  obtain ⟨d, rfl⟩ := d
  exact fun H locs ls hP hS hl => lv_iload_n hx hb d rfl (xl_at hl 0 rfl) (k H locs ls hP hS hl)
theorem x_iload1 {o0 : Option Value} {r : List (Option Value)} (C : xC Γ a wf cc nl own K) (d : xd cc pc (.iload_n 1) 1 pc') (k : xW Γ a wf σ pc' (o0 :: some (.int x) :: r) (.int x :: st)) : xW Γ a wf σ pc (o0 :: some (.int x) :: r) st := by
  obtain ⟨p, l, e, R, s, m, args, below, meth, c, cells, slots, Q, A, nL⟩ := Γ
  obtain ⟨hx, hb, hml, rfl, hown, hts, hK, hD, hA, hlk, hR⟩ := C
  obtain ⟨d, rfl⟩ := d
  exact fun H locs ls hP hS hl => lv_iload_n hx hb d rfl (xl_at hl 1 rfl) (k H locs ls hP hS hl)
theorem x_iload2 {o0 o1 : Option Value} {r : List (Option Value)} (C : xC Γ a wf cc nl own K) (d : xd cc pc (.iload_n 2) 1 pc') (k : xW Γ a wf σ pc' (o0 :: o1 :: some (.int x) :: r) (.int x :: st)) : xW Γ a wf σ pc (o0 :: o1 :: some (.int x) :: r) st := by
  obtain ⟨p, l, e, R, s, m, args, below, meth, c, cells, slots, Q, A, nL⟩ := Γ
  obtain ⟨hx, hb, hml, rfl, hown, hts, hK, hD, hA, hlk, hR⟩ := C
  obtain ⟨d, rfl⟩ := d
  exact fun H locs ls hP hS hl => lv_iload_n hx hb d rfl (xl_at hl 2 rfl) (k H locs ls hP hS hl)
theorem x_iload3 {o0 o1 o2 : Option Value} {r : List (Option Value)} (C : xC Γ a wf cc nl own K) (d : xd cc pc (.iload_n 3) 1 pc') (k : xW Γ a wf σ pc' (o0 :: o1 :: o2 :: some (.int x) :: r) (.int x :: st)) : xW Γ a wf σ pc (o0 :: o1 :: o2 :: some (.int x) :: r) st := by
  obtain ⟨p, l, e, R, s, m, args, below, meth, c, cells, slots, Q, A, nL⟩ := Γ
  obtain ⟨hx, hb, hml, rfl, hown, hts, hK, hD, hA, hlk, hR⟩ := C
  obtain ⟨d, rfl⟩ := d
  exact fun H locs ls hP hS hl => lv_iload_n hx hb d rfl (xl_at hl 3 rfl) (k H locs ls hP hS hl)
theorem x_iload4 {o0 o1 o2 o3 : Option Value} {r : List (Option Value)} (C : xC Γ a wf cc nl own K) (d : xd cc pc (.iload 4) 2 pc') (k : xW Γ a wf σ pc' (o0 :: o1 :: o2 :: o3 :: some (.int x) :: r) (.int x :: st)) : xW Γ a wf σ pc (o0 :: o1 :: o2 :: o3 :: some (.int x) :: r) st := by
  obtain ⟨p, l, e, R, s, m, args, below, meth, c, cells, slots, Q, A, nL⟩ := Γ
  obtain ⟨hx, hb, hml, rfl, hown, hts, hK, hD, hA, hlk, hR⟩ := C
  obtain ⟨d, rfl⟩ := d
  exact fun H locs ls hP hS hl => lv_iload hx hb d (xl_at hl 4 rfl) (k H locs ls hP hS hl)
theorem x_iload5 {o0 o1 o2 o3 o4 : Option Value} {r : List (Option Value)} (C : xC Γ a wf cc nl own K) (d : xd cc pc (.iload 5) 2 pc') (k : xW Γ a wf σ pc' (o0 :: o1 :: o2 :: o3 :: o4 :: some (.int x) :: r) (.int x :: st)) : xW Γ a wf σ pc (o0 :: o1 :: o2 :: o3 :: o4 :: some (.int x) :: r) st := by
  obtain ⟨p, l, e, R, s, m, args, below, meth, c, cells, slots, Q, A, nL⟩ := Γ
  obtain ⟨hx, hb, hml, rfl, hown, hts, hK, hD, hA, hlk, hR⟩ := C
  obtain ⟨d, rfl⟩ := d
  exact fun H locs ls hP hS hl => lv_iload hx hb d (xl_at hl 5 rfl) (k H locs ls hP hS hl)
theorem x_iload6 {o0 o1 o2 o3 o4 o5 : Option Value} {r : List (Option Value)} (C : xC Γ a wf cc nl own K) (d : xd cc pc (.iload 6) 2 pc') (k : xW Γ a wf σ pc' (o0 :: o1 :: o2 :: o3 :: o4 :: o5 :: some (.int x) :: r) (.int x :: st)) : xW Γ a wf σ pc (o0 :: o1 :: o2 :: o3 :: o4 :: o5 :: some (.int x) :: r) st := by
  obtain ⟨p, l, e, R, s, m, args, below, meth, c, cells, slots, Q, A, nL⟩ := Γ
  obtain ⟨hx, hb, hml, rfl, hown, hts, hK, hD, hA, hlk, hR⟩ := C
  obtain ⟨d, rfl⟩ := d
  exact fun H locs ls hP hS hl => lv_iload hx hb d (xl_at hl 6 rfl) (k H locs ls hP hS hl)
theorem x_iload7 {o0 o1 o2 o3 o4 o5 o6 : Option Value} {r : List (Option Value)} (C : xC Γ a wf cc nl own K) (d : xd cc pc (.iload 7) 2 pc') (k : xW Γ a wf σ pc' (o0 :: o1 :: o2 :: o3 :: o4 :: o5 :: o6 :: some (.int x) :: r) (.int x :: st)) : xW Γ a wf σ pc (o0 :: o1 :: o2 :: o3 :: o4 :: o5 :: o6 :: some (.int x) :: r) st := by
  obtain ⟨p, l, e, R, s, m, args, below, meth, c, cells, slots, Q, A, nL⟩ := Γ
  obtain ⟨hx, hb, hml, rfl, hown, hts, hK, hD, hA, hlk, hR⟩ := C
  obtain ⟨d, rfl⟩ := d
  exact fun H locs ls hP hS hl => lv_iload hx hb d (xl_at hl 7 rfl) (k H locs ls hP hS hl)
theorem x_iload8 {o0 o1 o2 o3 o4 o5 o6 o7 : Option Value} {r : List (Option Value)} (C : xC Γ a wf cc nl own K) (d : xd cc pc (.iload 8) 2 pc') (k : xW Γ a wf σ pc' (o0 :: o1 :: o2 :: o3 :: o4 :: o5 :: o6 :: o7 :: some (.int x) :: r) (.int x :: st)) : xW Γ a wf σ pc (o0 :: o1 :: o2 :: o3 :: o4 :: o5 :: o6 :: o7 :: some (.int x) :: r) st := by
  obtain ⟨p, l, e, R, s, m, args, below, meth, c, cells, slots, Q, A, nL⟩ := Γ
  obtain ⟨hx, hb, hml, rfl, hown, hts, hK, hD, hA, hlk, hR⟩ := C
  obtain ⟨d, rfl⟩ := d
  exact fun H locs ls hP hS hl => lv_iload hx hb d (xl_at hl 8 rfl) (k H locs ls hP hS hl)
theorem x_aload0 {r : List (Option Value)} {b : Nat} (C : xC Γ a wf cc nl own K) (d : xd cc pc (.aload_n 0) 1 pc') (k : xW Γ a wf σ pc' (some (.ref b) :: r) (.ref b :: st)) : xW Γ a wf σ pc (some (.ref b) :: r) st := by
  obtain ⟨p, l, e, R, s, m, args, below, meth, c, cells, slots, Q, A, nL⟩ := Γ
  obtain ⟨hx, hb, hml, rfl, hown, hts, hK, hD, hA, hlk, hR⟩ := C
  obtain ⟨d, rfl⟩ := d
  exact fun H locs ls hP hS hl => lv_aload_n hx hb d rfl (xl_at hl 0 rfl) (k H locs ls hP hS hl)
theorem x_aload1 {o0 : Option Value} {r : List (Option Value)} {b : Nat} (C : xC Γ a wf cc nl own K) (d : xd cc pc (.aload_n 1) 1 pc') (k : xW Γ a wf σ pc' (o0 :: some (.ref b) :: r) (.ref b :: st)) : xW Γ a wf σ pc (o0 :: some (.ref b) :: r) st := by
  obtain ⟨p, l, e, R, s, m, args, below, meth, c, cells, slots, Q, A, nL⟩ := Γ
  obtain ⟨hx, hb, hml, rfl, hown, hts, hK, hD, hA, hlk, hR⟩ := C
  obtain ⟨d, rfl⟩ := d
  exact fun H locs ls hP hS hl => lv_aload_n hx hb d rfl (xl_at hl 1 rfl) (k H locs ls hP hS hl)
theorem x_aload2 {o0 o1 : Option Value} {r : List (Option Value)} {b : Nat} (C : xC Γ a wf cc nl own K) (d : xd cc pc (.aload_n 2) 1 pc') (k : xW Γ a wf σ pc' (o0 :: o1 :: some (.ref b) :: r) (.ref b :: st)) : xW Γ a wf σ pc (o0 :: o1 :: some (.ref b) :: r) st := by
  obtain ⟨p, l, e, R, s, m, args, below, meth, c, cells, slots, Q, A, nL⟩ := Γ
  obtain ⟨hx, hb, hml, rfl, hown, hts, hK, hD, hA, hlk, hR⟩ := C
  obtain ⟨d, rfl⟩ := d
  exact fun H locs ls hP hS hl => lv_aload_n hx hb d rfl (xl_at hl 2 rfl) (k H locs ls hP hS hl)
theorem x_istore0 {r : List (Option Value)} {w : Option Value} (C : xC Γ a wf cc nl own K) (d : xd cc pc (.istore_n 0) 1 pc') (k : xW Γ a wf σ pc' (some (.int x) :: r) st) (hn : 0 < nl := by decide) : xW Γ a wf σ pc (w :: r) (.int x :: st) := by
  obtain ⟨p, l, e, R, s, m, args, below, meth, c, cells, slots, Q, A, nL⟩ := Γ
  obtain ⟨hx, hb, hml, rfl, hown, hts, hK, hD, hA, hlk, hR⟩ := C
  obtain ⟨d, rfl⟩ := d
  exact fun H locs ls hP hS hl => lv_istore_n hx hb d rfl hl.1 hn rfl (fun ls' h' => k H locs ls' hP hS (xl_set hl rfl h'))
theorem x_iinc0 {r : List (Option Value)} {n : Int} (C : xC Γ a wf cc nl own K) (d : xd cc pc (.iinc 0 n) 3 pc') (h : x + Int32.ofInt n = z) (k : xW Γ a wf σ pc' (some (.int z) :: r) st) (hn : 0 < nl := by decide) : xW Γ a wf σ pc (some (.int x) :: r) st := by
  obtain ⟨p, l, e, R, s, m, args, below, meth, c, cells, slots, Q, A, nL⟩ := Γ
  obtain ⟨hx, hb, hml, rfl, hown, hts, hK, hD, hA, hlk, hR⟩ := C
  obtain ⟨d, rfl⟩ := d
  intro H locs ls hP hS hl
  obtain ⟨k0, hk0⟩ := List.getElem?_of_mem ((xv_mem (some (.int x) :: r) 0 0 (.int x)).mpr ⟨0, rfl, rfl⟩)
  exact lv_iinc hx hb d hl.1 hk0 h hn rfl (fun ls' h' => k H locs ls' hP hS (xl_set hl rfl h'))
theorem x_iincN0 {r : List (Option Value)} {j : Nat} (C : xC Γ a wf cc nl own K) (d : xd cc pc (.iinc 0 1) 3 pc') (k : xW Γ a wf σ pc' (some (.int (nI (j + 1))) :: r) st) (hn : 0 < nl := by decide) : xW Γ a wf σ pc (some (.int (nI j)) :: r) st := x_iinc0 C d (by rw [← nI_1]; rfl) k hn
theorem x_istore1 {o0 : Option Value} {r : List (Option Value)} {w : Option Value} (C : xC Γ a wf cc nl own K) (d : xd cc pc (.istore_n 1) 1 pc') (k : xW Γ a wf σ pc' (o0 :: some (.int x) :: r) st) (hn : 1 < nl := by decide) : xW Γ a wf σ pc (o0 :: w :: r) (.int x :: st) := by
  obtain ⟨p, l, e, R, s, m, args, below, meth, c, cells, slots, Q, A, nL⟩ := Γ
  obtain ⟨hx, hb, hml, rfl, hown, hts, hK, hD, hA, hlk, hR⟩ := C
  obtain ⟨d, rfl⟩ := d
  exact fun H locs ls hP hS hl => lv_istore_n hx hb d rfl hl.1 hn rfl (fun ls' h' => k H locs ls' hP hS (xl_set hl rfl h'))
theorem x_iinc1 {o0 : Option Value} {r : List (Option Value)} {n : Int} (C : xC Γ a wf cc nl own K) (d : xd cc pc (.iinc 1 n) 3 pc') (h : x + Int32.ofInt n = z) (k : xW Γ a wf σ pc' (o0 :: some (.int z) :: r) st) (hn : 1 < nl := by decide) : xW Γ a wf σ pc (o0 :: some (.int x) :: r) st := by
  obtain ⟨p, l, e, R, s, m, args, below, meth, c, cells, slots, Q, A, nL⟩ := Γ
  obtain ⟨hx, hb, hml, rfl, hown, hts, hK, hD, hA, hlk, hR⟩ := C
  obtain ⟨d, rfl⟩ := d
  intro H locs ls hP hS hl
  obtain ⟨k0, hk0⟩ := List.getElem?_of_mem ((xv_mem (o0 :: some (.int x) :: r) 0 1 (.int x)).mpr ⟨1, rfl, rfl⟩)
  exact lv_iinc hx hb d hl.1 hk0 h hn rfl (fun ls' h' => k H locs ls' hP hS (xl_set hl rfl h'))
theorem x_iincN1 {o0 : Option Value} {r : List (Option Value)} {j : Nat} (C : xC Γ a wf cc nl own K) (d : xd cc pc (.iinc 1 1) 3 pc') (k : xW Γ a wf σ pc' (o0 :: some (.int (nI (j + 1))) :: r) st) (hn : 1 < nl := by decide) : xW Γ a wf σ pc (o0 :: some (.int (nI j)) :: r) st := x_iinc1 C d (by rw [← nI_1]; rfl) k hn
theorem x_istore2 {o0 o1 : Option Value} {r : List (Option Value)} {w : Option Value} (C : xC Γ a wf cc nl own K) (d : xd cc pc (.istore_n 2) 1 pc') (k : xW Γ a wf σ pc' (o0 :: o1 :: some (.int x) :: r) st) (hn : 2 < nl := by decide) : xW Γ a wf σ pc (o0 :: o1 :: w :: r) (.int x :: st) := by
  obtain ⟨p, l, e, R, s, m, args, below, meth, c, cells, slots, Q, A, nL⟩ := Γ
  obtain ⟨hx, hb, hml, rfl, hown, hts, hK, hD, hA, hlk, hR⟩ := C
  obtain ⟨d, rfl⟩ := d
  exact fun H locs ls hP hS hl => lv_istore_n hx hb d rfl hl.1 hn rfl (fun ls' h' => k H locs ls' hP hS (xl_set hl rfl h'))
theorem x_iinc2 {o0 o1 : Option Value} {r : List (Option Value)} {n : Int} (C : xC Γ a wf cc nl own K) (d : xd cc pc (.iinc 2 n) 3 pc') (h : x + Int32.ofInt n = z) (k : xW Γ a wf σ pc' (o0 :: o1 :: some (.int z) :: r) st) (hn : 2 < nl := by decide) : xW Γ a wf σ pc (o0 :: o1 :: some (.int x) :: r) st := by
  obtain ⟨p, l, e, R, s, m, args, below, meth, c, cells, slots, Q, A, nL⟩ := Γ
  obtain ⟨hx, hb, hml, rfl, hown, hts, hK, hD, hA, hlk, hR⟩ := C
  obtain ⟨d, rfl⟩ := d
  intro H locs ls hP hS hl
  obtain ⟨k0, hk0⟩ := List.getElem?_of_mem ((xv_mem (o0 :: o1 :: some (.int x) :: r) 0 2 (.int x)).mpr ⟨2, rfl, rfl⟩)
  exact lv_iinc hx hb d hl.1 hk0 h hn rfl (fun ls' h' => k H locs ls' hP hS (xl_set hl rfl h'))
theorem x_iincN2 {o0 o1 : Option Value} {r : List (Option Value)} {j : Nat} (C : xC Γ a wf cc nl own K) (d : xd cc pc (.iinc 2 1) 3 pc') (k : xW Γ a wf σ pc' (o0 :: o1 :: some (.int (nI (j + 1))) :: r) st) (hn : 2 < nl := by decide) : xW Γ a wf σ pc (o0 :: o1 :: some (.int (nI j)) :: r) st := x_iinc2 C d (by rw [← nI_1]; rfl) k hn
theorem x_istore3 {o0 o1 o2 : Option Value} {r : List (Option Value)} {w : Option Value} (C : xC Γ a wf cc nl own K) (d : xd cc pc (.istore_n 3) 1 pc') (k : xW Γ a wf σ pc' (o0 :: o1 :: o2 :: some (.int x) :: r) st) (hn : 3 < nl := by decide) : xW Γ a wf σ pc (o0 :: o1 :: o2 :: w :: r) (.int x :: st) := by
  obtain ⟨p, l, e, R, s, m, args, below, meth, c, cells, slots, Q, A, nL⟩ := Γ
  obtain ⟨hx, hb, hml, rfl, hown, hts, hK, hD, hA, hlk, hR⟩ := C
  obtain ⟨d, rfl⟩ := d
  exact fun H locs ls hP hS hl => lv_istore_n hx hb d rfl hl.1 hn rfl (fun ls' h' => k H locs ls' hP hS (xl_set hl rfl h'))
theorem x_iinc3 {o0 o1 o2 : Option Value} {r : List (Option Value)} {n : Int} (C : xC Γ a wf cc nl own K) (d : xd cc pc (.iinc 3 n) 3 pc') (h : x + Int32.ofInt n = z) (k : xW Γ a wf σ pc' (o0 :: o1 :: o2 :: some (.int z) :: r) st) (hn : 3 < nl := by decide) : xW Γ a wf σ pc (o0 :: o1 :: o2 :: some (.int x) :: r) st := by
  obtain ⟨p, l, e, R, s, m, args, below, meth, c, cells, slots, Q, A, nL⟩ := Γ
  obtain ⟨hx, hb, hml, rfl, hown, hts, hK, hD, hA, hlk, hR⟩ := C
  obtain ⟨d, rfl⟩ := d
  intro H locs ls hP hS hl
  obtain ⟨k0, hk0⟩ := List.getElem?_of_mem ((xv_mem (o0 :: o1 :: o2 :: some (.int x) :: r) 0 3 (.int x)).mpr ⟨3, rfl, rfl⟩)
  exact lv_iinc hx hb d hl.1 hk0 h hn rfl (fun ls' h' => k H locs ls' hP hS (xl_set hl rfl h'))
theorem x_iincN3 {o0 o1 o2 : Option Value} {r : List (Option Value)} {j : Nat} (C : xC Γ a wf cc nl own K) (d : xd cc pc (.iinc 3 1) 3 pc') (k : xW Γ a wf σ pc' (o0 :: o1 :: o2 :: some (.int (nI (j + 1))) :: r) st) (hn : 3 < nl := by decide) : xW Γ a wf σ pc (o0 :: o1 :: o2 :: some (.int (nI j)) :: r) st := x_iinc3 C d (by rw [← nI_1]; rfl) k hn
theorem x_istore4 {o0 o1 o2 o3 : Option Value} {r : List (Option Value)} {w : Option Value} (C : xC Γ a wf cc nl own K) (d : xd cc pc (.istore 4) 2 pc') (k : xW Γ a wf σ pc' (o0 :: o1 :: o2 :: o3 :: some (.int x) :: r) st) (hn : 4 < nl := by decide) : xW Γ a wf σ pc (o0 :: o1 :: o2 :: o3 :: w :: r) (.int x :: st) := by
  obtain ⟨p, l, e, R, s, m, args, below, meth, c, cells, slots, Q, A, nL⟩ := Γ
  obtain ⟨hx, hb, hml, rfl, hown, hts, hK, hD, hA, hlk, hR⟩ := C
  obtain ⟨d, rfl⟩ := d
  exact fun H locs ls hP hS hl => lv_istore hx hb d hl.1 hn rfl (fun ls' h' => k H locs ls' hP hS (xl_set hl rfl h'))
theorem x_iinc4 {o0 o1 o2 o3 : Option Value} {r : List (Option Value)} {n : Int} (C : xC Γ a wf cc nl own K) (d : xd cc pc (.iinc 4 n) 3 pc') (h : x + Int32.ofInt n = z) (k : xW Γ a wf σ pc' (o0 :: o1 :: o2 :: o3 :: some (.int z) :: r) st) (hn : 4 < nl := by decide) : xW Γ a wf σ pc (o0 :: o1 :: o2 :: o3 :: some (.int x) :: r) st := by
  obtain ⟨p, l, e, R, s, m, args, below, meth, c, cells, slots, Q, A, nL⟩ := Γ
  obtain ⟨hx, hb, hml, rfl, hown, hts, hK, hD, hA, hlk, hR⟩ := C
  obtain ⟨d, rfl⟩ := d
  intro H locs ls hP hS hl
  obtain ⟨k0, hk0⟩ := List.getElem?_of_mem ((xv_mem (o0 :: o1 :: o2 :: o3 :: some (.int x) :: r) 0 4 (.int x)).mpr ⟨4, rfl, rfl⟩)
  exact lv_iinc hx hb d hl.1 hk0 h hn rfl (fun ls' h' => k H locs ls' hP hS (xl_set hl rfl h'))
theorem x_iincN4 {o0 o1 o2 o3 : Option Value} {r : List (Option Value)} {j : Nat} (C : xC Γ a wf cc nl own K) (d : xd cc pc (.iinc 4 1) 3 pc') (k : xW Γ a wf σ pc' (o0 :: o1 :: o2 :: o3 :: some (.int (nI (j + 1))) :: r) st) (hn : 4 < nl := by decide) : xW Γ a wf σ pc (o0 :: o1 :: o2 :: o3 :: some (.int (nI j)) :: r) st := x_iinc4 C d (by rw [← nI_1]; rfl) k hn
theorem x_istore5 {o0 o1 o2 o3 o4 : Option Value} {r : List (Option Value)} {w : Option Value} (C : xC Γ a wf cc nl own K) (d : xd cc pc (.istore 5) 2 pc') (k : xW Γ a wf σ pc' (o0 :: o1 :: o2 :: o3 :: o4 :: some (.int x) :: r) st) (hn : 5 < nl := by decide) : xW Γ a wf σ pc (o0 :: o1 :: o2 :: o3 :: o4 :: w :: r) (.int x :: st) := by
  obtain ⟨p, l, e, R, s, m, args, below, meth, c, cells, slots, Q, A, nL⟩ := Γ
  obtain ⟨hx, hb, hml, rfl, hown, hts, hK, hD, hA, hlk, hR⟩ := C
  obtain ⟨d, rfl⟩ := d
  exact fun H locs ls hP hS hl => lv_istore hx hb d hl.1 hn rfl (fun ls' h' => k H locs ls' hP hS (xl_set hl rfl h'))
theorem x_iinc5 {o0 o1 o2 o3 o4 : Option Value} {r : List (Option Value)} {n : Int} (C : xC Γ a wf cc nl own K) (d : xd cc pc (.iinc 5 n) 3 pc') (h : x + Int32.ofInt n = z) (k : xW Γ a wf σ pc' (o0 :: o1 :: o2 :: o3 :: o4 :: some (.int z) :: r) st) (hn : 5 < nl := by decide) : xW Γ a wf σ pc (o0 :: o1 :: o2 :: o3 :: o4 :: some (.int x) :: r) st := by
  obtain ⟨p, l, e, R, s, m, args, below, meth, c, cells, slots, Q, A, nL⟩ := Γ
  obtain ⟨hx, hb, hml, rfl, hown, hts, hK, hD, hA, hlk, hR⟩ := C
  obtain ⟨d, rfl⟩ := d
  intro H locs ls hP hS hl
  obtain ⟨k0, hk0⟩ := List.getElem?_of_mem ((xv_mem (o0 :: o1 :: o2 :: o3 :: o4 :: some (.int x) :: r) 0 5 (.int x)).mpr ⟨5, rfl, rfl⟩)
  exact lv_iinc hx hb d hl.1 hk0 h hn rfl (fun ls' h' => k H locs ls' hP hS (xl_set hl rfl h'))
theorem x_iincN5 {o0 o1 o2 o3 o4 : Option Value} {r : List (Option Value)} {j : Nat} (C : xC Γ a wf cc nl own K) (d : xd cc pc (.iinc 5 1) 3 pc') (k : xW Γ a wf σ pc' (o0 :: o1 :: o2 :: o3 :: o4 :: some (.int (nI (j + 1))) :: r) st) (hn : 5 < nl := by decide) : xW Γ a wf σ pc (o0 :: o1 :: o2 :: o3 :: o4 :: some (.int (nI j)) :: r) st := x_iinc5 C d (by rw [← nI_1]; rfl) k hn
theorem x_istore6 {o0 o1 o2 o3 o4 o5 : Option Value} {r : List (Option Value)} {w : Option Value} (C : xC Γ a wf cc nl own K) (d : xd cc pc (.istore 6) 2 pc') (k : xW Γ a wf σ pc' (o0 :: o1 :: o2 :: o3 :: o4 :: o5 :: some (.int x) :: r) st) (hn : 6 < nl := by decide) : xW Γ a wf σ pc (o0 :: o1 :: o2 :: o3 :: o4 :: o5 :: w :: r) (.int x :: st) := by
  obtain ⟨p, l, e, R, s, m, args, below, meth, c, cells, slots, Q, A, nL⟩ := Γ
  obtain ⟨hx, hb, hml, rfl, hown, hts, hK, hD, hA, hlk, hR⟩ := C
  obtain ⟨d, rfl⟩ := d
  exact fun H locs ls hP hS hl => lv_istore hx hb d hl.1 hn rfl (fun ls' h' => k H locs ls' hP hS (xl_set hl rfl h'))
theorem x_iinc6 {o0 o1 o2 o3 o4 o5 : Option Value} {r : List (Option Value)} {n : Int} (C : xC Γ a wf cc nl own K) (d : xd cc pc (.iinc 6 n) 3 pc') (h : x + Int32.ofInt n = z) (k : xW Γ a wf σ pc' (o0 :: o1 :: o2 :: o3 :: o4 :: o5 :: some (.int z) :: r) st) (hn : 6 < nl := by decide) : xW Γ a wf σ pc (o0 :: o1 :: o2 :: o3 :: o4 :: o5 :: some (.int x) :: r) st := by
  obtain ⟨p, l, e, R, s, m, args, below, meth, c, cells, slots, Q, A, nL⟩ := Γ
  obtain ⟨hx, hb, hml, rfl, hown, hts, hK, hD, hA, hlk, hR⟩ := C
  obtain ⟨d, rfl⟩ := d
  intro H locs ls hP hS hl
  obtain ⟨k0, hk0⟩ := List.getElem?_of_mem ((xv_mem (o0 :: o1 :: o2 :: o3 :: o4 :: o5 :: some (.int x) :: r) 0 6 (.int x)).mpr ⟨6, rfl, rfl⟩)
  exact lv_iinc hx hb d hl.1 hk0 h hn rfl (fun ls' h' => k H locs ls' hP hS (xl_set hl rfl h'))
theorem x_iincN6 {o0 o1 o2 o3 o4 o5 : Option Value} {r : List (Option Value)} {j : Nat} (C : xC Γ a wf cc nl own K) (d : xd cc pc (.iinc 6 1) 3 pc') (k : xW Γ a wf σ pc' (o0 :: o1 :: o2 :: o3 :: o4 :: o5 :: some (.int (nI (j + 1))) :: r) st) (hn : 6 < nl := by decide) : xW Γ a wf σ pc (o0 :: o1 :: o2 :: o3 :: o4 :: o5 :: some (.int (nI j)) :: r) st := x_iinc6 C d (by rw [← nI_1]; rfl) k hn
theorem x_istore7 {o0 o1 o2 o3 o4 o5 o6 : Option Value} {r : List (Option Value)} {w : Option Value} (C : xC Γ a wf cc nl own K) (d : xd cc pc (.istore 7) 2 pc') (k : xW Γ a wf σ pc' (o0 :: o1 :: o2 :: o3 :: o4 :: o5 :: o6 :: some (.int x) :: r) st) (hn : 7 < nl := by decide) : xW Γ a wf σ pc (o0 :: o1 :: o2 :: o3 :: o4 :: o5 :: o6 :: w :: r) (.int x :: st) := by
  obtain ⟨p, l, e, R, s, m, args, below, meth, c, cells, slots, Q, A, nL⟩ := Γ
  obtain ⟨hx, hb, hml, rfl, hown, hts, hK, hD, hA, hlk, hR⟩ := C
  obtain ⟨d, rfl⟩ := d
  exact fun H locs ls hP hS hl => lv_istore hx hb d hl.1 hn rfl (fun ls' h' => k H locs ls' hP hS (xl_set hl rfl h'))
theorem x_iinc7 {o0 o1 o2 o3 o4 o5 o6 : Option Value} {r : List (Option Value)} {n : Int} (C : xC Γ a wf cc nl own K) (d : xd cc pc (.iinc 7 n) 3 pc') (h : x + Int32.ofInt n = z) (k : xW Γ a wf σ pc' (o0 :: o1 :: o2 :: o3 :: o4 :: o5 :: o6 :: some (.int z) :: r) st) (hn : 7 < nl := by decide) : xW Γ a wf σ pc (o0 :: o1 :: o2 :: o3 :: o4 :: o5 :: o6 :: some (.int x) :: r) st := by
  obtain ⟨p, l, e, R, s, m, args, below, meth, c, cells, slots, Q, A, nL⟩ := Γ
  obtain ⟨hx, hb, hml, rfl, hown, hts, hK, hD, hA, hlk, hR⟩ := C
  obtain ⟨d, rfl⟩ := d
  intro H locs ls hP hS hl
  obtain ⟨k0, hk0⟩ := List.getElem?_of_mem ((xv_mem (o0 :: o1 :: o2 :: o3 :: o4 :: o5 :: o6 :: some (.int x) :: r) 0 7 (.int x)).mpr ⟨7, rfl, rfl⟩)
  exact lv_iinc hx hb d hl.1 hk0 h hn rfl (fun ls' h' => k H locs ls' hP hS (xl_set hl rfl h'))
theorem x_iincN7 {o0 o1 o2 o3 o4 o5 o6 : Option Value} {r : List (Option Value)} {j : Nat} (C : xC Γ a wf cc nl own K) (d : xd cc pc (.iinc 7 1) 3 pc') (k : xW Γ a wf σ pc' (o0 :: o1 :: o2 :: o3 :: o4 :: o5 :: o6 :: some (.int (nI (j + 1))) :: r) st) (hn : 7 < nl := by decide) : xW Γ a wf σ pc (o0 :: o1 :: o2 :: o3 :: o4 :: o5 :: o6 :: some (.int (nI j)) :: r) st := x_iinc7 C d (by rw [← nI_1]; rfl) k hn
theorem x_istore8 {o0 o1 o2 o3 o4 o5 o6 o7 : Option Value} {r : List (Option Value)} {w : Option Value} (C : xC Γ a wf cc nl own K) (d : xd cc pc (.istore 8) 2 pc') (k : xW Γ a wf σ pc' (o0 :: o1 :: o2 :: o3 :: o4 :: o5 :: o6 :: o7 :: some (.int x) :: r) st) (hn : 8 < nl := by decide) : xW Γ a wf σ pc (o0 :: o1 :: o2 :: o3 :: o4 :: o5 :: o6 :: o7 :: w :: r) (.int x :: st) := by
  obtain ⟨p, l, e, R, s, m, args, below, meth, c, cells, slots, Q, A, nL⟩ := Γ
  obtain ⟨hx, hb, hml, rfl, hown, hts, hK, hD, hA, hlk, hR⟩ := C
  obtain ⟨d, rfl⟩ := d
  exact fun H locs ls hP hS hl => lv_istore hx hb d hl.1 hn rfl (fun ls' h' => k H locs ls' hP hS (xl_set hl rfl h'))
theorem x_iinc8 {o0 o1 o2 o3 o4 o5 o6 o7 : Option Value} {r : List (Option Value)} {n : Int} (C : xC Γ a wf cc nl own K) (d : xd cc pc (.iinc 8 n) 3 pc') (h : x + Int32.ofInt n = z) (k : xW Γ a wf σ pc' (o0 :: o1 :: o2 :: o3 :: o4 :: o5 :: o6 :: o7 :: some (.int z) :: r) st) (hn : 8 < nl := by decide) : xW Γ a wf σ pc (o0 :: o1 :: o2 :: o3 :: o4 :: o5 :: o6 :: o7 :: some (.int x) :: r) st := by
  obtain ⟨p, l, e, R, s, m, args, below, meth, c, cells, slots, Q, A, nL⟩ := Γ
  obtain ⟨hx, hb, hml, rfl, hown, hts, hK, hD, hA, hlk, hR⟩ := C
  obtain ⟨d, rfl⟩ := d
  intro H locs ls hP hS hl
  obtain ⟨k0, hk0⟩ := List.getElem?_of_mem ((xv_mem (o0 :: o1 :: o2 :: o3 :: o4 :: o5 :: o6 :: o7 :: some (.int x) :: r) 0 8 (.int x)).mpr ⟨8, rfl, rfl⟩)
  exact lv_iinc hx hb d hl.1 hk0 h hn rfl (fun ls' h' => k H locs ls' hP hS (xl_set hl rfl h'))
theorem x_iincN8 {o0 o1 o2 o3 o4 o5 o6 o7 : Option Value} {r : List (Option Value)} {j : Nat} (C : xC Γ a wf cc nl own K) (d : xd cc pc (.iinc 8 1) 3 pc') (k : xW Γ a wf σ pc' (o0 :: o1 :: o2 :: o3 :: o4 :: o5 :: o6 :: o7 :: some (.int (nI (j + 1))) :: r) st) (hn : 8 < nl := by decide) : xW Γ a wf σ pc (o0 :: o1 :: o2 :: o3 :: o4 :: o5 :: o6 :: o7 :: some (.int (nI j)) :: r) st := x_iinc8 C d (by rw [← nI_1]; rfl) k hn
theorem x_iadd (C : xC Γ a wf cc nl own K) (d : xd cc pc .iadd 1 pc') (h : x + y = z) (k : xW Γ a wf σ pc' L (.int z :: st)) : xW Γ a wf σ pc L (.int y :: .int x :: st) := by
  obtain ⟨p, l, e, R, s, m, args, below, meth, c, cells, slots, Q, A, nL⟩ := Γ
  obtain ⟨hx, hb, hml, rfl, hown, hts, hK, hD, hA, hlk, hR⟩ := C
  obtain ⟨d, rfl⟩ := d
  subst h
  exact fun H locs ls hP hS hl => lv_iadd hx hb d (k H locs ls hP hS hl)
theorem x_isub (C : xC Γ a wf cc nl own K) (d : xd cc pc .isub 1 pc') (h : x - y = z) (k : xW Γ a wf σ pc' L (.int z :: st)) : xW Γ a wf σ pc L (.int y :: .int x :: st) := by
  obtain ⟨p, l, e, R, s, m, args, below, meth, c, cells, slots, Q, A, nL⟩ := Γ
  obtain ⟨hx, hb, hml, rfl, hown, hts, hK, hD, hA, hlk, hR⟩ := C
  obtain ⟨d, rfl⟩ := d
  subst h
  exact fun H locs ls hP hS hl => lv_isub hx hb d (k H locs ls hP hS hl)
theorem x_imul (C : xC Γ a wf cc nl own K) (d : xd cc pc .imul 1 pc') (h : x * y = z) (k : xW Γ a wf σ pc' L (.int z :: st)) : xW Γ a wf σ pc L (.int y :: .int x :: st) := by
  obtain ⟨p, l, e, R, s, m, args, below, meth, c, cells, slots, Q, A, nL⟩ := Γ
  obtain ⟨hx, hb, hml, rfl, hown, hts, hK, hD, hA, hlk, hR⟩ := C
  obtain ⟨d, rfl⟩ := d
  subst h
  exact fun H locs ls hP hS hl => lv_imul hx hb d (k H locs ls hP hS hl)
theorem x_iand (C : xC Γ a wf cc nl own K) (d : xd cc pc .iand 1 pc') (h : x &&& y = z) (k : xW Γ a wf σ pc' L (.int z :: st)) : xW Γ a wf σ pc L (.int y :: .int x :: st) := by
  obtain ⟨p, l, e, R, s, m, args, below, meth, c, cells, slots, Q, A, nL⟩ := Γ
  obtain ⟨hx, hb, hml, rfl, hown, hts, hK, hD, hA, hlk, hR⟩ := C
  obtain ⟨d, rfl⟩ := d
  subst h
  exact fun H locs ls hP hS hl => lv_iand hx hb d (k H locs ls hP hS hl)
theorem x_ior (C : xC Γ a wf cc nl own K) (d : xd cc pc .ior 1 pc') (h : x ||| y = z) (k : xW Γ a wf σ pc' L (.int z :: st)) : xW Γ a wf σ pc L (.int y :: .int x :: st) := by
  obtain ⟨p, l, e, R, s, m, args, below, meth, c, cells, slots, Q, A, nL⟩ := Γ
  obtain ⟨hx, hb, hml, rfl, hown, hts, hK, hD, hA, hlk, hR⟩ := C
  obtain ⟨d, rfl⟩ := d
  subst h
  exact fun H locs ls hP hS hl => lv_ior hx hb d (k H locs ls hP hS hl)
theorem x_ixor (C : xC Γ a wf cc nl own K) (d : xd cc pc .ixor 1 pc') (h : x ^^^ y = z) (k : xW Γ a wf σ pc' L (.int z :: st)) : xW Γ a wf σ pc L (.int y :: .int x :: st) := by
  obtain ⟨p, l, e, R, s, m, args, below, meth, c, cells, slots, Q, A, nL⟩ := Γ
  obtain ⟨hx, hb, hml, rfl, hown, hts, hK, hD, hA, hlk, hR⟩ := C
  obtain ⟨d, rfl⟩ := d
  subst h
  exact fun H locs ls hP hS hl => lv_ixor hx hb d (k H locs ls hP hS hl)
theorem x_ishl (C : xC Γ a wf cc nl own K) (d : xd cc pc .ishl 1 pc') (h : x <<< (y &&& 31) = z) (k : xW Γ a wf σ pc' L (.int z :: st)) : xW Γ a wf σ pc L (.int y :: .int x :: st) := by
  obtain ⟨p, l, e, R, s, m, args, below, meth, c, cells, slots, Q, A, nL⟩ := Γ
  obtain ⟨hx, hb, hml, rfl, hown, hts, hK, hD, hA, hlk, hR⟩ := C
  obtain ⟨d, rfl⟩ := d
  subst h
  exact fun H locs ls hP hS hl => lv_ishl hx hb d (k H locs ls hP hS hl)
theorem x_ishr (C : xC Γ a wf cc nl own K) (d : xd cc pc .ishr 1 pc') (h : x >>> (y &&& 31) = z) (k : xW Γ a wf σ pc' L (.int z :: st)) : xW Γ a wf σ pc L (.int y :: .int x :: st) := by
  obtain ⟨p, l, e, R, s, m, args, below, meth, c, cells, slots, Q, A, nL⟩ := Γ
  obtain ⟨hx, hb, hml, rfl, hown, hts, hK, hD, hA, hlk, hR⟩ := C
  obtain ⟨d, rfl⟩ := d
  subst h
  exact fun H locs ls hP hS hl => lv_ishr hx hb d (k H locs ls hP hS hl)
theorem x_irem (C : xC Γ a wf cc nl own K) (d : xd cc pc .irem 1 pc') (hne : ¬ y = 0) (h : x - x / y * y = z) (k : xW Γ a wf σ pc' L (.int z :: st)) : xW Γ a wf σ pc L (.int y :: .int x :: st) := by
  obtain ⟨p, l, e, R, s, m, args, below, meth, c, cells, slots, Q, A, nL⟩ := Γ
  obtain ⟨hx, hb, hml, rfl, hown, hts, hK, hD, hA, hlk, hR⟩ := C
  obtain ⟨d, rfl⟩ := d
  subst h
  exact fun H locs ls hP hS hl => lv_irem hx hb d hne (k H locs ls hP hS hl)
theorem x_idiv (C : xC Γ a wf cc nl own K) (d : xd cc pc .idiv 1 pc') (hne : ¬ y = 0) (h : x / y = z) (k : xW Γ a wf σ pc' L (.int z :: st)) : xW Γ a wf σ pc L (.int y :: .int x :: st) := by
  obtain ⟨p, l, e, R, s, m, args, below, meth, c, cells, slots, Q, A, nL⟩ := Γ
  obtain ⟨hx, hb, hml, rfl, hown, hts, hK, hD, hA, hlk, hR⟩ := C
  obtain ⟨d, rfl⟩ := d
  subst h
  exact fun H locs ls hP hS hl => lv_idiv hx hb d hne (k H locs ls hP hS hl)
theorem x_iaddN {i j : Nat} (C : xC Γ a wf cc nl own K) (d : xd cc pc .iadd 1 pc') (k : xW Γ a wf σ pc' L (.int (nI (i + j)) :: st)) : xW Γ a wf σ pc L (.int (nI j) :: .int (nI i) :: st) := x_iadd C d (nI_add i j) k
theorem x_imulN {i j : Nat} (C : xC Γ a wf cc nl own K) (d : xd cc pc .imul 1 pc') (k : xW Γ a wf σ pc' L (.int (nI (i * j)) :: st)) : xW Γ a wf σ pc L (.int (nI j) :: .int (nI i) :: st) := x_imul C d (pk_mul i j) k
theorem x_if_eq (C : xC Γ a wf cc nl own K) (d : xb cc pc (.ifCond .eq off) off pc' tgt) (kt : x = 0 → xW Γ a wf σ tgt L st) (kf : ¬ x = 0 → xW Γ a wf σ pc' L st) : xW Γ a wf σ pc L (.int x :: st) := by
  obtain ⟨p, l, e, R, s, m, args, below, meth, c, cells, slots, Q, A, nL⟩ := Γ
  obtain ⟨hx, hb, hml, rfl, hown, hts, hK, hD, hA, hlk, hR⟩ := C
  obtain ⟨d, rfl, d3⟩ := d
  exact fun H locs ls hP hS hl => lv_if_eq hx hb d d3 (fun h => kt h H locs ls hP hS hl) (fun h => kf h H locs ls hP hS hl)
theorem x_if_ne (C : xC Γ a wf cc nl own K) (d : xb cc pc (.ifCond .ne off) off pc' tgt) (kt : ¬ x = 0 → xW Γ a wf σ tgt L st) (kf : x = 0 → xW Γ a wf σ pc' L st) : xW Γ a wf σ pc L (.int x :: st) := by
  obtain ⟨p, l, e, R, s, m, args, below, meth, c, cells, slots, Q, A, nL⟩ := Γ
  obtain ⟨hx, hb, hml, rfl, hown, hts, hK, hD, hA, hlk, hR⟩ := C
  obtain ⟨d, rfl, d3⟩ := d
  exact fun H locs ls hP hS hl => lv_if_ne hx hb d d3 (fun h => kt h H locs ls hP hS hl) (fun h => kf h H locs ls hP hS hl)
theorem x_if_lt (C : xC Γ a wf cc nl own K) (d : xb cc pc (.ifCond .lt off) off pc' tgt) (kt : x < 0 → xW Γ a wf σ tgt L st) (kf : ¬ x < 0 → xW Γ a wf σ pc' L st) : xW Γ a wf σ pc L (.int x :: st) := by
  obtain ⟨p, l, e, R, s, m, args, below, meth, c, cells, slots, Q, A, nL⟩ := Γ
  obtain ⟨hx, hb, hml, rfl, hown, hts, hK, hD, hA, hlk, hR⟩ := C
  obtain ⟨d, rfl, d3⟩ := d
  exact fun H locs ls hP hS hl => lv_if_lt hx hb d d3 (fun h => kt h H locs ls hP hS hl) (fun h => kf h H locs ls hP hS hl)
theorem x_if_ge (C : xC Γ a wf cc nl own K) (d : xb cc pc (.ifCond .ge off) off pc' tgt) (kt : 0 ≤ x → xW Γ a wf σ tgt L st) (kf : ¬ 0 ≤ x → xW Γ a wf σ pc' L st) : xW Γ a wf σ pc L (.int x :: st) := by
  obtain ⟨p, l, e, R, s, m, args, below, meth, c, cells, slots, Q, A, nL⟩ := Γ
  obtain ⟨hx, hb, hml, rfl, hown, hts, hK, hD, hA, hlk, hR⟩ := C
  obtain ⟨d, rfl, d3⟩ := d
  exact fun H locs ls hP hS hl => lv_if_ge hx hb d d3 (fun h => kt h H locs ls hP hS hl) (fun h => kf h H locs ls hP hS hl)
theorem x_icmp_eq (C : xC Γ a wf cc nl own K) (d : xb cc pc (.if_icmp .eq off) off pc' tgt) (kt : x = y → xW Γ a wf σ tgt L st) (kf : ¬ x = y → xW Γ a wf σ pc' L st) : xW Γ a wf σ pc L (.int y :: .int x :: st) := by
  obtain ⟨p, l, e, R, s, m, args, below, meth, c, cells, slots, Q, A, nL⟩ := Γ
  obtain ⟨hx, hb, hml, rfl, hown, hts, hK, hD, hA, hlk, hR⟩ := C
  obtain ⟨d, rfl, d3⟩ := d
  exact fun H locs ls hP hS hl => lv_icmp_eq hx hb d d3 (fun h => kt h H locs ls hP hS hl) (fun h => kf h H locs ls hP hS hl)
theorem x_icmp_ne (C : xC Γ a wf cc nl own K) (d : xb cc pc (.if_icmp .ne off) off pc' tgt) (kt : ¬ x = y → xW Γ a wf σ tgt L st) (kf : x = y → xW Γ a wf σ pc' L st) : xW Γ a wf σ pc L (.int y :: .int x :: st) := by
  obtain ⟨p, l, e, R, s, m, args, below, meth, c, cells, slots, Q, A, nL⟩ := Γ
  obtain ⟨hx, hb, hml, rfl, hown, hts, hK, hD, hA, hlk, hR⟩ := C
  obtain ⟨d, rfl, d3⟩ := d
  exact fun H locs ls hP hS hl => lv_icmp_ne hx hb d d3 (fun h => kt h H locs ls hP hS hl) (fun h => kf h H locs ls hP hS hl)
theorem x_icmp_lt (C : xC Γ a wf cc nl own K) (d : xb cc pc (.if_icmp .lt off) off pc' tgt) (kt : x < y → xW Γ a wf σ tgt L st) (kf : ¬ x < y → xW Γ a wf σ pc' L st) : xW Γ a wf σ pc L (.int y :: .int x :: st) := by
  obtain ⟨p, l, e, R, s, m, args, below, meth, c, cells, slots, Q, A, nL⟩ := Γ
  obtain ⟨hx, hb, hml, rfl, hown, hts, hK, hD, hA, hlk, hR⟩ := C
  obtain ⟨d, rfl, d3⟩ := d
  exact fun H locs ls hP hS hl => lv_icmp_lt hx hb d d3 (fun h => kt h H locs ls hP hS hl) (fun h => kf h H locs ls hP hS hl)
theorem x_icmp_ge (C : xC Γ a wf cc nl own K) (d : xb cc pc (.if_icmp .ge off) off pc' tgt) (kt : y ≤ x → xW Γ a wf σ tgt L st) (kf : ¬ y ≤ x → xW Γ a wf σ pc' L st) : xW Γ a wf σ pc L (.int y :: .int x :: st) := by
  obtain ⟨p, l, e, R, s, m, args, below, meth, c, cells, slots, Q, A, nL⟩ := Γ
  obtain ⟨hx, hb, hml, rfl, hown, hts, hK, hD, hA, hlk, hR⟩ := C
  obtain ⟨d, rfl, d3⟩ := d
  exact fun H locs ls hP hS hl => lv_icmp_ge hx hb d d3 (fun h => kt h H locs ls hP hS hl) (fun h => kf h H locs ls hP hS hl)
theorem x_icmp_gt (C : xC Γ a wf cc nl own K) (d : xb cc pc (.if_icmp .gt off) off pc' tgt) (kt : y < x → xW Γ a wf σ tgt L st) (kf : ¬ y < x → xW Γ a wf σ pc' L st) : xW Γ a wf σ pc L (.int y :: .int x :: st) := by
  obtain ⟨p, l, e, R, s, m, args, below, meth, c, cells, slots, Q, A, nL⟩ := Γ
  obtain ⟨hx, hb, hml, rfl, hown, hts, hK, hD, hA, hlk, hR⟩ := C
  obtain ⟨d, rfl, d3⟩ := d
  exact fun H locs ls hP hS hl => lv_icmp_gt hx hb d d3 (fun h => kt h H locs ls hP hS hl) (fun h => kf h H locs ls hP hS hl)
theorem x_icmp_le (C : xC Γ a wf cc nl own K) (d : xb cc pc (.if_icmp .le off) off pc' tgt) (kt : x ≤ y → xW Γ a wf σ tgt L st) (kf : ¬ x ≤ y → xW Γ a wf σ pc' L st) : xW Γ a wf σ pc L (.int y :: .int x :: st) := by
  obtain ⟨p, l, e, R, s, m, args, below, meth, c, cells, slots, Q, A, nL⟩ := Γ
  obtain ⟨hx, hb, hml, rfl, hown, hts, hK, hD, hA, hlk, hR⟩ := C
  obtain ⟨d, rfl, d3⟩ := d
  exact fun H locs ls hP hS hl => lv_icmp_le hx hb d d3 (fun h => kt h H locs ls hP hS hl) (fun h => kf h H locs ls hP hS hl)
theorem x_icmp_eqN {i j : Nat} (C : xC Γ a wf cc nl own K) (d : xb cc pc (.if_icmp .eq off) off pc' tgt) (hi : i < 2 ^ 31) (hj : j < 2 ^ 31) (kt : i = j → xW Γ a wf σ tgt L st) (kf : i ≠ j → xW Γ a wf σ pc' L st) : xW Γ a wf σ pc L (.int (nI j) :: .int (nI i) :: st) :=
  x_icmp_eq C d (fun h => kt ((nI_eq hi hj).mp h)) (fun h => kf (fun e => h ((nI_eq hi hj).mpr e)))
theorem x_icmp_neN {i j : Nat} (C : xC Γ a wf cc nl own K) (d : xb cc pc (.if_icmp .ne off) off pc' tgt) (hi : i < 2 ^ 31) (hj : j < 2 ^ 31) (kt : i ≠ j → xW Γ a wf σ tgt L st) (kf : i = j → xW Γ a wf σ pc' L st) : xW Γ a wf σ pc L (.int (nI j) :: .int (nI i) :: st) :=
  x_icmp_ne C d (fun h => kt (fun e => h ((nI_eq hi hj).mpr e))) (fun h => kf ((nI_eq hi hj).mp h))
theorem x_icmp_ltN {i j : Nat} (C : xC Γ a wf cc nl own K) (d : xb cc pc (.if_icmp .lt off) off pc' tgt) (hi : i < 2 ^ 31) (hj : j < 2 ^ 31) (kt : i < j → xW Γ a wf σ tgt L st) (kf : j ≤ i → xW Γ a wf σ pc' L st) : xW Γ a wf σ pc L (.int (nI j) :: .int (nI i) :: st) :=
  x_icmp_lt C d (fun h => kt ((nI_ltI hi hj).mp h)) (fun h => kf (Nat.not_lt.mp (fun e => h ((nI_ltI hi hj).mpr e))))
theorem x_icmp_geN {i j : Nat} (C : xC Γ a wf cc nl own K) (d : xb cc pc (.if_icmp .ge off) off pc' tgt) (hi : i < 2 ^ 31) (hj : j < 2 ^ 31) (kt : j ≤ i → xW Γ a wf σ tgt L st) (kf : i < j → xW Γ a wf σ pc' L st) : xW Γ a wf σ pc L (.int (nI j) :: .int (nI i) :: st) :=
  x_icmp_ge C d (fun h => kt ((nI_leI hj hi).mp h)) (fun h => kf (Nat.not_le.mp (fun e => h ((nI_leI hj hi).mpr e))))
theorem x_icmp_gtN {i j : Nat} (C : xC Γ a wf cc nl own K) (d : xb cc pc (.if_icmp .gt off) off pc' tgt) (hi : i < 2 ^ 31) (hj : j < 2 ^ 31) (kt : j < i → xW Γ a wf σ tgt L st) (kf : i ≤ j → xW Γ a wf σ pc' L st) : xW Γ a wf σ pc L (.int (nI j) :: .int (nI i) :: st) :=
  x_icmp_gt C d (fun h => kt ((nI_ltI hj hi).mp h)) (fun h => kf (Nat.not_lt.mp (fun e => h ((nI_ltI hj hi).mpr e))))
theorem x_icmp_leN {i j : Nat} (C : xC Γ a wf cc nl own K) (d : xb cc pc (.if_icmp .le off) off pc' tgt) (hi : i < 2 ^ 31) (hj : j < 2 ^ 31) (kt : i ≤ j → xW Γ a wf σ tgt L st) (kf : j < i → xW Γ a wf σ pc' L st) : xW Γ a wf σ pc L (.int (nI j) :: .int (nI i) :: st) :=
  x_icmp_le C d (fun h => kt ((nI_leI hi hj).mp h)) (fun h => kf (Nat.not_le.mp (fun e => h ((nI_leI hi hj).mpr e))))
theorem x_goto (C : xC Γ a wf cc nl own K) (d : xb cc pc (.goto off) off pc' tgt) (k : xW Γ a wf σ tgt L st) : xW Γ a wf σ pc L st := by
  obtain ⟨p, l, e, R, s, m, args, below, meth, c, cells, slots, Q, A, nL⟩ := Γ
  obtain ⟨hx, hb, hml, rfl, hown, hts, hK, hD, hA, hlk, hR⟩ := C
  obtain ⟨d, rfl, d3⟩ := d
  exact fun H locs ls hP hS hl => lv_goto hx hb d d3 (k H locs ls hP hS hl)
theorem x_dup {v : Value} (C : xC Γ a wf cc nl own K) (d : xd cc pc .dup 1 pc') (hv : v.category = 1) (k : xW Γ a wf σ pc' L (v :: v :: st)) : xW Γ a wf σ pc L (v :: st) := by
  obtain ⟨p, l, e, R, s, m, args, below, meth, c, cells, slots, Q, A, nL⟩ := Γ
  obtain ⟨hx, hb, hml, rfl, hown, hts, hK, hD, hA, hlk, hR⟩ := C
  obtain ⟨d, rfl⟩ := d
  exact fun H locs ls hP hS hl => lv_dup hx hb d hv (k H locs ls hP hS hl)
theorem x_g0 {τ : xT} (C : xC Γ a (xP a) cc nl R_X K) (d : xd cc pc (.getfield 7) 3 pc') (k : xW Γ a (xP a) τ pc' L (.ref (a.2.2.2 1) :: st)) : xW Γ a (xP a) τ pc L (.ref (a.2.2.2 0) :: st) := by
  obtain ⟨p, l, e, R, s, m, args, below, meth, c, cells, slots, Q, A, nL⟩ := Γ
  obtain ⟨hx, hb, hml, rfl, hown, hts, hK, hD, hA, hlk, hR⟩ := C
  obtain ⟨d, rfl⟩ := d
  exact fun H locs ls hP hS hl => va_get (D := a.1) (ci := 0) (v := .ref (a.2.2.2 1)) (C := R_X) (T := F_X) (N := 12) hx hb hts i_X hown hK hP 0 rfl rfl 0 (by decide) (hts _ f_X_0) (fun _ h9 => h9) rfl d (k H locs ls hP hS hl)
theorem x_g1 {τ : xT} (C : xC Γ a (xP a) cc nl R_X K) (d : xd cc pc (.getfield 13) 3 pc') (k : xW Γ a (xP a) τ pc' L (.ref (a.2.2.2 2) :: st)) : xW Γ a (xP a) τ pc L (.ref (a.2.2.2 0) :: st) := by
  obtain ⟨p, l, e, R, s, m, args, below, meth, c, cells, slots, Q, A, nL⟩ := Γ
  obtain ⟨hx, hb, hml, rfl, hown, hts, hK, hD, hA, hlk, hR⟩ := C
  obtain ⟨d, rfl⟩ := d
  exact fun H locs ls hP hS hl => va_get (D := a.1) (ci := 0) (v := .ref (a.2.2.2 2)) (C := R_X) (T := F_X) (N := 12) hx hb hts i_X hown hK hP 0 rfl rfl 1 (by decide) (hts _ f_X_1) (fun _ h9 => h9) rfl d (k H locs ls hP hS hl)
theorem x_g2 {τ : xT} (C : xC Γ a (xP a) cc nl R_X K) (d : xd cc pc (.getfield 17) 3 pc') (k : xW Γ a (xP a) τ pc' L (.ref (a.2.2.2 3) :: st)) : xW Γ a (xP a) τ pc L (.ref (a.2.2.2 0) :: st) := by
  obtain ⟨p, l, e, R, s, m, args, below, meth, c, cells, slots, Q, A, nL⟩ := Γ
  obtain ⟨hx, hb, hml, rfl, hown, hts, hK, hD, hA, hlk, hR⟩ := C
  obtain ⟨d, rfl⟩ := d
  exact fun H locs ls hP hS hl => va_get (D := a.1) (ci := 0) (v := .ref (a.2.2.2 3)) (C := R_X) (T := F_X) (N := 12) hx hb hts i_X hown hK hP 0 rfl rfl 2 (by decide) (hts _ f_X_2) (fun _ h9 => h9) rfl d (k H locs ls hP hS hl)
theorem x_g3 {τ : xT} (C : xC Γ a (xP a) cc nl R_X K) (d : xd cc pc (.getfield 20) 3 pc') (k : xW Γ a (xP a) τ pc' L (.ref (a.2.2.2 4) :: st)) : xW Γ a (xP a) τ pc L (.ref (a.2.2.2 0) :: st) := by
  obtain ⟨p, l, e, R, s, m, args, below, meth, c, cells, slots, Q, A, nL⟩ := Γ
  obtain ⟨hx, hb, hml, rfl, hown, hts, hK, hD, hA, hlk, hR⟩ := C
  obtain ⟨d, rfl⟩ := d
  exact fun H locs ls hP hS hl => va_get (D := a.1) (ci := 0) (v := .ref (a.2.2.2 4)) (C := R_X) (T := F_X) (N := 12) hx hb hts i_X hown hK hP 0 rfl rfl 3 (by decide) (hts _ f_X_3) (fun _ h9 => h9) rfl d (k H locs ls hP hS hl)
theorem x_g4 {τ : xT} (C : xC Γ a (xP a) cc nl R_X K) (d : xd cc pc (.getfield 23) 3 pc') (k : xW Γ a (xP a) τ pc' L (.ref (a.2.2.2 5) :: st)) : xW Γ a (xP a) τ pc L (.ref (a.2.2.2 0) :: st) := by
  obtain ⟨p, l, e, R, s, m, args, below, meth, c, cells, slots, Q, A, nL⟩ := Γ
  obtain ⟨hx, hb, hml, rfl, hown, hts, hK, hD, hA, hlk, hR⟩ := C
  obtain ⟨d, rfl⟩ := d
  exact fun H locs ls hP hS hl => va_get (D := a.1) (ci := 0) (v := .ref (a.2.2.2 5)) (C := R_X) (T := F_X) (N := 12) hx hb hts i_X hown hK hP 0 rfl rfl 4 (by decide) (hts _ f_X_4) (fun _ h9 => h9) rfl d (k H locs ls hP hS hl)
theorem x_g5 {τ : xT} (C : xC Γ a (xP a) cc nl R_X K) (d : xd cc pc (.getfield 26) 3 pc') (k : xW Γ a (xP a) τ pc' L (.ref (a.2.2.2 6) :: st)) : xW Γ a (xP a) τ pc L (.ref (a.2.2.2 0) :: st) := by
  obtain ⟨p, l, e, R, s, m, args, below, meth, c, cells, slots, Q, A, nL⟩ := Γ
  obtain ⟨hx, hb, hml, rfl, hown, hts, hK, hD, hA, hlk, hR⟩ := C
  obtain ⟨d, rfl⟩ := d
  exact fun H locs ls hP hS hl => va_get (D := a.1) (ci := 0) (v := .ref (a.2.2.2 6)) (C := R_X) (T := F_X) (N := 12) hx hb hts i_X hown hK hP 0 rfl rfl 5 (by decide) (hts _ f_X_5) (fun _ h9 => h9) rfl d (k H locs ls hP hS hl)
theorem x_g6 {τ : xT} (C : xC Γ a (xP a) cc nl R_X K) (d : xd cc pc (.getfield 29) 3 pc') (k : xW Γ a (xP a) τ pc' L (.ref (a.2.2.2 7) :: st)) : xW Γ a (xP a) τ pc L (.ref (a.2.2.2 0) :: st) := by
  obtain ⟨p, l, e, R, s, m, args, below, meth, c, cells, slots, Q, A, nL⟩ := Γ
  obtain ⟨hx, hb, hml, rfl, hown, hts, hK, hD, hA, hlk, hR⟩ := C
  obtain ⟨d, rfl⟩ := d
  exact fun H locs ls hP hS hl => va_get (D := a.1) (ci := 0) (v := .ref (a.2.2.2 7)) (C := R_X) (T := F_X) (N := 12) hx hb hts i_X hown hK hP 0 rfl rfl 6 (by decide) (hts _ f_X_6) (fun _ h9 => h9) rfl d (k H locs ls hP hS hl)
theorem x_g7 {τ : xT} (C : xC Γ a (xP a) cc nl R_X K) (d : xd cc pc (.getfield 32) 3 pc') (k : xW Γ a (xP a) τ pc' L (.ref (a.2.2.2 8) :: st)) : xW Γ a (xP a) τ pc L (.ref (a.2.2.2 0) :: st) := by
  obtain ⟨p, l, e, R, s, m, args, below, meth, c, cells, slots, Q, A, nL⟩ := Γ
  obtain ⟨hx, hb, hml, rfl, hown, hts, hK, hD, hA, hlk, hR⟩ := C
  obtain ⟨d, rfl⟩ := d
  exact fun H locs ls hP hS hl => va_get (D := a.1) (ci := 0) (v := .ref (a.2.2.2 8)) (C := R_X) (T := F_X) (N := 12) hx hb hts i_X hown hK hP 0 rfl rfl 7 (by decide) (hts _ f_X_7) (fun _ h9 => h9) rfl d (k H locs ls hP hS hl)
theorem x_g8 {τ : xT} (C : xC Γ a (xP a) cc nl R_X K) (d : xd cc pc (.getfield 35) 3 pc') (k : xW Γ a (xP a) τ pc' L (.ref (a.2.2.2 9) :: st)) : xW Γ a (xP a) τ pc L (.ref (a.2.2.2 0) :: st) := by
  obtain ⟨p, l, e, R, s, m, args, below, meth, c, cells, slots, Q, A, nL⟩ := Γ
  obtain ⟨hx, hb, hml, rfl, hown, hts, hK, hD, hA, hlk, hR⟩ := C
  obtain ⟨d, rfl⟩ := d
  exact fun H locs ls hP hS hl => va_get (D := a.1) (ci := 0) (v := .ref (a.2.2.2 9)) (C := R_X) (T := F_X) (N := 12) hx hb hts i_X hown hK hP 0 rfl rfl 8 (by decide) (hts _ f_X_8) (fun _ h9 => h9) rfl d (k H locs ls hP hS hl)
theorem x_g9 {τ : xT} (C : xC Γ a (xP a) cc nl R_X K) (d : xd cc pc (.getfield 38) 3 pc') (k : xW Γ a (xP a) τ pc' L (.int (τ 9 0) :: st)) : xW Γ a (xP a) τ pc L (.ref (a.2.2.2 0) :: st) := by
  obtain ⟨p, l, e, R, s, m, args, below, meth, c, cells, slots, Q, A, nL⟩ := Γ
  obtain ⟨hx, hb, hml, rfl, hown, hts, hK, hD, hA, hlk, hR⟩ := C
  obtain ⟨d, rfl⟩ := d
  exact fun H locs ls hP hS hl => va_get (D := a.1) (ci := 0) (v := .int (τ 9 0)) (C := R_X) (T := F_X) (N := 12) hx hb hts i_X hown hK hP 0 rfl rfl 9 (by decide) (hts _ f_X_9) (fun _ h9 => h9) rfl d (k H locs ls hP hS hl)
theorem x_p9 {τ : xT} (C : xC Γ a (xP a) cc nl R_X K) (d : xd cc pc (.putfield 38) 3 pc') (k : xW Γ a (xP a) (sS τ 9 0 x) pc' L st) : xW Γ a (xP a) τ pc L (.int x :: .ref (a.2.2.2 0) :: st) := by
  obtain ⟨p, l, e, R, s, m, args, below, meth, c, cells, slots, Q, A, nL⟩ := Γ
  obtain ⟨hx, hb, hml, rfl, hown, hts, hK, hD, hA, hlk, hR⟩ := C
  obtain ⟨d, rfl⟩ := d
  exact fun H locs ls hP hS hl => va_put (D := a.1) (ci := 0) (v := .int x) (ty := .int) (C := R_X) (T := F_X) (N := 12) hx hb hts i_X t_X t_X_ok n_X hown hK hP (hD τ) hS 0 rfl rfl 9 (by decide) (hts _ f_X_9) (fun _ h9 => h9) rfl (by decide +kernel) rfl rfl (Nat.le_of_ble_eq_true rfl) d (fun H1 locs1 hP1 hD1 hS1 => k H1 locs1 ls hP1 hS1 hl)
theorem x_g10 {τ : xT} (C : xC Γ a (xP a) cc nl R_X K) (d : xd cc pc (.getfield 42) 3 pc') (k : xW Γ a (xP a) τ pc' L (.int (τ 10 0) :: st)) : xW Γ a (xP a) τ pc L (.ref (a.2.2.2 0) :: st) := by
  obtain ⟨p, l, e, R, s, m, args, below, meth, c, cells, slots, Q, A, nL⟩ := Γ
  obtain ⟨hx, hb, hml, rfl, hown, hts, hK, hD, hA, hlk, hR⟩ := C
  obtain ⟨d, rfl⟩ := d
  exact fun H locs ls hP hS hl => va_get (D := a.1) (ci := 0) (v := .int (τ 10 0)) (C := R_X) (T := F_X) (N := 12) hx hb hts i_X hown hK hP 0 rfl rfl 10 (by decide) (hts _ f_X_10) (fun _ h9 => h9) rfl d (k H locs ls hP hS hl)
theorem x_p10 {τ : xT} (C : xC Γ a (xP a) cc nl R_X K) (d : xd cc pc (.putfield 42) 3 pc') (k : xW Γ a (xP a) (sS τ 10 0 x) pc' L st) : xW Γ a (xP a) τ pc L (.int x :: .ref (a.2.2.2 0) :: st) := by
  obtain ⟨p, l, e, R, s, m, args, below, meth, c, cells, slots, Q, A, nL⟩ := Γ
  obtain ⟨hx, hb, hml, rfl, hown, hts, hK, hD, hA, hlk, hR⟩ := C
  obtain ⟨d, rfl⟩ := d
  exact fun H locs ls hP hS hl => va_put (D := a.1) (ci := 0) (v := .int x) (ty := .int) (C := R_X) (T := F_X) (N := 12) hx hb hts i_X t_X t_X_ok n_X hown hK hP (hD τ) hS 0 rfl rfl 10 (by decide) (hts _ f_X_10) (fun _ h9 => h9) rfl (by decide +kernel) rfl rfl (Nat.le_of_ble_eq_true rfl) d (fun H1 locs1 hP1 hD1 hS1 => k H1 locs1 ls hP1 hS1 hl)
theorem x_g11 {τ : xT} (C : xC Γ a (xP a) cc nl R_X K) (d : xd cc pc (.getfield 94) 3 pc') (k : xW Γ a (xP a) τ pc' L (.int (τ 11 0) :: st)) : xW Γ a (xP a) τ pc L (.ref (a.2.2.2 0) :: st) := by
  obtain ⟨p, l, e, R, s, m, args, below, meth, c, cells, slots, Q, A, nL⟩ := Γ
  obtain ⟨hx, hb, hml, rfl, hown, hts, hK, hD, hA, hlk, hR⟩ := C
  obtain ⟨d, rfl⟩ := d
  exact fun H locs ls hP hS hl => va_get (D := a.1) (ci := 0) (v := .int (τ 11 0)) (C := R_X) (T := F_X) (N := 12) hx hb hts i_X hown hK hP 0 rfl rfl 11 (by decide) (hts _ f_X_11) (fun _ h9 => h9) rfl d (k H locs ls hP hS hl)
theorem x_p11 {τ : xT} (C : xC Γ a (xP a) cc nl R_X K) (d : xd cc pc (.putfield 94) 3 pc') (k : xW Γ a (xP a) (sS τ 11 0 x) pc' L st) : xW Γ a (xP a) τ pc L (.int x :: .ref (a.2.2.2 0) :: st) := by
  obtain ⟨p, l, e, R, s, m, args, below, meth, c, cells, slots, Q, A, nL⟩ := Γ
  obtain ⟨hx, hb, hml, rfl, hown, hts, hK, hD, hA, hlk, hR⟩ := C
  obtain ⟨d, rfl⟩ := d
  exact fun H locs ls hP hS hl => va_put (D := a.1) (ci := 0) (v := .int x) (ty := .int) (C := R_X) (T := F_X) (N := 12) hx hb hts i_X t_X t_X_ok n_X hown hK hP (hD τ) hS 0 rfl rfl 11 (by decide) (hts _ f_X_11) (fun _ h9 => h9) rfl (by decide +kernel) rfl rfl (Nat.le_of_ble_eq_true rfl) d (fun H1 locs1 hP1 hD1 hS1 => k H1 locs1 ls hP1 hS1 hl)
theorem x_ld0 {j : Nat} {τ : xT} (C : xC Γ a (xP a) cc nl R_X K) (d : xd cc pc .iaload 1 pc') (hj : j < 48) (k : xW Γ a (xP a) τ pc' L (.int (τ 0 j) :: st)) : xW Γ a (xP a) τ pc L (.int (nI j) :: .ref (a.2.2.2 1) :: st) := by
  obtain ⟨p, l, e, R, s, m, args, below, meth, c, cells, slots, Q, A, nL⟩ := Γ
  obtain ⟨hx, hb, hml, rfl, hown, hts, hK, hD, hA, hlk, hR⟩ := C
  obtain ⟨d, rfl⟩ := d
  intro H locs ls hP hS hl
  have e : (nI j).toNatClampNeg = j := nI_clamp (by omega)
  refine va_iald hx hb hK hP 1 0 rfl rfl (vp_in_nI hj (by decide)) d ?_
  rw [e]
  exact k H locs ls hP hS hl
theorem x_st0 {j : Nat} {τ : xT} (C : xC Γ a (xP a) cc nl R_X K) (d : xd cc pc .iastore 1 pc') (hj : j < 48) (k : xW Γ a (xP a) (sS τ 0 j x) pc' L st) : xW Γ a (xP a) τ pc L (.int x :: .int (nI j) :: .ref (a.2.2.2 1) :: st) := by
  obtain ⟨p, l, e, R, s, m, args, below, meth, c, cells, slots, Q, A, nL⟩ := Γ
  obtain ⟨hx, hb, hml, rfl, hown, hts, hK, hD, hA, hlk, hR⟩ := C
  obtain ⟨d, rfl⟩ := d
  intro H locs ls hP hS hl
  have e : (nI j).toNatClampNeg = j := nI_clamp (by omega)
  refine va_iast hx hb hK hP (hD τ) hS 1 0 rfl rfl (vp_in_nI hj (by decide)) d (fun H1 locs1 hP1 hD1 hS1 => ?_)
  rw [e] at hP1
  exact k H1 locs1 ls hP1 hS1 hl
theorem x_ld1 {j : Nat} {τ : xT} (C : xC Γ a (xP a) cc nl R_X K) (d : xd cc pc .baload 1 pc') (hj : j < 192) (k : xW Γ a (xP a) τ pc' L (.int (τ 1 j) :: st)) : xW Γ a (xP a) τ pc L (.int (nI j) :: .ref (a.2.2.2 2) :: st) := by
  obtain ⟨p, l, e, R, s, m, args, below, meth, c, cells, slots, Q, A, nL⟩ := Γ
  obtain ⟨hx, hb, hml, rfl, hown, hts, hK, hD, hA, hlk, hR⟩ := C
  obtain ⟨d, rfl⟩ := d
  intro H locs ls hP hS hl
  have e : (nI j).toNatClampNeg = j := nI_clamp (by omega)
  refine va_zald hx hb hK hP 2 1 rfl rfl (vp_in_nI hj (by decide)) d ?_
  rw [e]
  exact k H locs ls hP hS hl
theorem x_st1 {j : Nat} {τ : xT} (C : xC Γ a (xP a) cc nl R_X K) (d : xd cc pc .bastore 1 pc') (hj : j < 192) (hv : vp_nar .boolean x = x) (k : xW Γ a (xP a) (sS τ 1 j x) pc' L st) : xW Γ a (xP a) τ pc L (.int x :: .int (nI j) :: .ref (a.2.2.2 2) :: st) := by
  obtain ⟨p, l, e, R, s, m, args, below, meth, c, cells, slots, Q, A, nL⟩ := Γ
  obtain ⟨hx, hb, hml, rfl, hown, hts, hK, hD, hA, hlk, hR⟩ := C
  obtain ⟨d, rfl⟩ := d
  intro H locs ls hP hS hl
  have e : (nI j).toNatClampNeg = j := nI_clamp (by omega)
  refine va_zast hx hb hK hP (hD τ) hS 2 1 rfl rfl (vp_in_nI hj (by decide)) d (fun H1 locs1 hP1 hD1 hS1 => ?_)
  rw [e, hv] at hP1
  exact k H1 locs1 ls hP1 hS1 hl
theorem x_ld2 {j : Nat} {τ : xT} (C : xC Γ a (xP a) cc nl R_X K) (d : xd cc pc .iaload 1 pc') (hj : j < 64) (k : xW Γ a (xP a) τ pc' L (.int (τ 2 j) :: st)) : xW Γ a (xP a) τ pc L (.int (nI j) :: .ref (a.2.2.2 3) :: st) := by
  obtain ⟨p, l, e, R, s, m, args, below, meth, c, cells, slots, Q, A, nL⟩ := Γ
  obtain ⟨hx, hb, hml, rfl, hown, hts, hK, hD, hA, hlk, hR⟩ := C
  obtain ⟨d, rfl⟩ := d
  intro H locs ls hP hS hl
  have e : (nI j).toNatClampNeg = j := nI_clamp (by omega)
  refine va_iald hx hb hK hP 3 0 rfl rfl (vp_in_nI hj (by decide)) d ?_
  rw [e]
  exact k H locs ls hP hS hl
theorem x_st2 {j : Nat} {τ : xT} (C : xC Γ a (xP a) cc nl R_X K) (d : xd cc pc .iastore 1 pc') (hj : j < 64) (k : xW Γ a (xP a) (sS τ 2 j x) pc' L st) : xW Γ a (xP a) τ pc L (.int x :: .int (nI j) :: .ref (a.2.2.2 3) :: st) := by
  obtain ⟨p, l, e, R, s, m, args, below, meth, c, cells, slots, Q, A, nL⟩ := Γ
  obtain ⟨hx, hb, hml, rfl, hown, hts, hK, hD, hA, hlk, hR⟩ := C
  obtain ⟨d, rfl⟩ := d
  intro H locs ls hP hS hl
  have e : (nI j).toNatClampNeg = j := nI_clamp (by omega)
  refine va_iast hx hb hK hP (hD τ) hS 3 0 rfl rfl (vp_in_nI hj (by decide)) d (fun H1 locs1 hP1 hD1 hS1 => ?_)
  rw [e] at hP1
  exact k H1 locs1 ls hP1 hS1 hl
theorem x_ld3 {j : Nat} {τ : xT} (C : xC Γ a (xP a) cc nl R_X K) (d : xd cc pc .baload 1 pc') (hj : j < 64) (k : xW Γ a (xP a) τ pc' L (.int (τ 3 j) :: st)) : xW Γ a (xP a) τ pc L (.int (nI j) :: .ref (a.2.2.2 4) :: st) := by
  obtain ⟨p, l, e, R, s, m, args, below, meth, c, cells, slots, Q, A, nL⟩ := Γ
  obtain ⟨hx, hb, hml, rfl, hown, hts, hK, hD, hA, hlk, hR⟩ := C
  obtain ⟨d, rfl⟩ := d
  intro H locs ls hP hS hl
  have e : (nI j).toNatClampNeg = j := nI_clamp (by omega)
  refine va_zald hx hb hK hP 4 1 rfl rfl (vp_in_nI hj (by decide)) d ?_
  rw [e]
  exact k H locs ls hP hS hl
theorem x_st3 {j : Nat} {τ : xT} (C : xC Γ a (xP a) cc nl R_X K) (d : xd cc pc .bastore 1 pc') (hj : j < 64) (hv : vp_nar .boolean x = x) (k : xW Γ a (xP a) (sS τ 3 j x) pc' L st) : xW Γ a (xP a) τ pc L (.int x :: .int (nI j) :: .ref (a.2.2.2 4) :: st) := by
  obtain ⟨p, l, e, R, s, m, args, below, meth, c, cells, slots, Q, A, nL⟩ := Γ
  obtain ⟨hx, hb, hml, rfl, hown, hts, hK, hD, hA, hlk, hR⟩ := C
  obtain ⟨d, rfl⟩ := d
  intro H locs ls hP hS hl
  have e : (nI j).toNatClampNeg = j := nI_clamp (by omega)
  refine va_zast hx hb hK hP (hD τ) hS 4 1 rfl rfl (vp_in_nI hj (by decide)) d (fun H1 locs1 hP1 hD1 hS1 => ?_)
  rw [e, hv] at hP1
  exact k H1 locs1 ls hP1 hS1 hl
theorem x_ld4 {j : Nat} {τ : xT} (C : xC Γ a (xP a) cc nl R_X K) (d : xd cc pc .iaload 1 pc') (hj : j < 16) (k : xW Γ a (xP a) τ pc' L (.int (τ 4 j) :: st)) : xW Γ a (xP a) τ pc L (.int (nI j) :: .ref (a.2.2.2 5) :: st) := by
  obtain ⟨p, l, e, R, s, m, args, below, meth, c, cells, slots, Q, A, nL⟩ := Γ
  obtain ⟨hx, hb, hml, rfl, hown, hts, hK, hD, hA, hlk, hR⟩ := C
  obtain ⟨d, rfl⟩ := d
  intro H locs ls hP hS hl
  have e : (nI j).toNatClampNeg = j := nI_clamp (by omega)
  refine va_iald hx hb hK hP 5 0 rfl rfl (vp_in_nI hj (by decide)) d ?_
  rw [e]
  exact k H locs ls hP hS hl
theorem x_st4 {j : Nat} {τ : xT} (C : xC Γ a (xP a) cc nl R_X K) (d : xd cc pc .iastore 1 pc') (hj : j < 16) (k : xW Γ a (xP a) (sS τ 4 j x) pc' L st) : xW Γ a (xP a) τ pc L (.int x :: .int (nI j) :: .ref (a.2.2.2 5) :: st) := by
  obtain ⟨p, l, e, R, s, m, args, below, meth, c, cells, slots, Q, A, nL⟩ := Γ
  obtain ⟨hx, hb, hml, rfl, hown, hts, hK, hD, hA, hlk, hR⟩ := C
  obtain ⟨d, rfl⟩ := d
  intro H locs ls hP hS hl
  have e : (nI j).toNatClampNeg = j := nI_clamp (by omega)
  refine va_iast hx hb hK hP (hD τ) hS 5 0 rfl rfl (vp_in_nI hj (by decide)) d (fun H1 locs1 hP1 hD1 hS1 => ?_)
  rw [e] at hP1
  exact k H1 locs1 ls hP1 hS1 hl
theorem x_ld5 {j : Nat} {τ : xT} (C : xC Γ a (xP a) cc nl R_X K) (d : xd cc pc .iaload 1 pc') (hj : j < 16) (k : xW Γ a (xP a) τ pc' L (.int (τ 5 j) :: st)) : xW Γ a (xP a) τ pc L (.int (nI j) :: .ref (a.2.2.2 6) :: st) := by
  obtain ⟨p, l, e, R, s, m, args, below, meth, c, cells, slots, Q, A, nL⟩ := Γ
  obtain ⟨hx, hb, hml, rfl, hown, hts, hK, hD, hA, hlk, hR⟩ := C
  obtain ⟨d, rfl⟩ := d
  intro H locs ls hP hS hl
  have e : (nI j).toNatClampNeg = j := nI_clamp (by omega)
  refine va_iald hx hb hK hP 6 0 rfl rfl (vp_in_nI hj (by decide)) d ?_
  rw [e]
  exact k H locs ls hP hS hl
theorem x_st5 {j : Nat} {τ : xT} (C : xC Γ a (xP a) cc nl R_X K) (d : xd cc pc .iastore 1 pc') (hj : j < 16) (k : xW Γ a (xP a) (sS τ 5 j x) pc' L st) : xW Γ a (xP a) τ pc L (.int x :: .int (nI j) :: .ref (a.2.2.2 6) :: st) := by
  obtain ⟨p, l, e, R, s, m, args, below, meth, c, cells, slots, Q, A, nL⟩ := Γ
  obtain ⟨hx, hb, hml, rfl, hown, hts, hK, hD, hA, hlk, hR⟩ := C
  obtain ⟨d, rfl⟩ := d
  intro H locs ls hP hS hl
  have e : (nI j).toNatClampNeg = j := nI_clamp (by omega)
  refine va_iast hx hb hK hP (hD τ) hS 6 0 rfl rfl (vp_in_nI hj (by decide)) d (fun H1 locs1 hP1 hD1 hS1 => ?_)
  rw [e] at hP1
  exact k H1 locs1 ls hP1 hS1 hl
theorem x_ld6 {j : Nat} {τ : xT} (C : xC Γ a (xP a) cc nl R_X K) (d : xd cc pc .baload 1 pc') (hj : j < 16) (k : xW Γ a (xP a) τ pc' L (.int (τ 6 j) :: st)) : xW Γ a (xP a) τ pc L (.int (nI j) :: .ref (a.2.2.2 7) :: st) := by
  obtain ⟨p, l, e, R, s, m, args, below, meth, c, cells, slots, Q, A, nL⟩ := Γ
  obtain ⟨hx, hb, hml, rfl, hown, hts, hK, hD, hA, hlk, hR⟩ := C
  obtain ⟨d, rfl⟩ := d
  intro H locs ls hP hS hl
  have e : (nI j).toNatClampNeg = j := nI_clamp (by omega)
  refine va_zald hx hb hK hP 7 1 rfl rfl (vp_in_nI hj (by decide)) d ?_
  rw [e]
  exact k H locs ls hP hS hl
theorem x_st6 {j : Nat} {τ : xT} (C : xC Γ a (xP a) cc nl R_X K) (d : xd cc pc .bastore 1 pc') (hj : j < 16) (hv : vp_nar .boolean x = x) (k : xW Γ a (xP a) (sS τ 6 j x) pc' L st) : xW Γ a (xP a) τ pc L (.int x :: .int (nI j) :: .ref (a.2.2.2 7) :: st) := by
  obtain ⟨p, l, e, R, s, m, args, below, meth, c, cells, slots, Q, A, nL⟩ := Γ
  obtain ⟨hx, hb, hml, rfl, hown, hts, hK, hD, hA, hlk, hR⟩ := C
  obtain ⟨d, rfl⟩ := d
  intro H locs ls hP hS hl
  have e : (nI j).toNatClampNeg = j := nI_clamp (by omega)
  refine va_zast hx hb hK hP (hD τ) hS 7 1 rfl rfl (vp_in_nI hj (by decide)) d (fun H1 locs1 hP1 hD1 hS1 => ?_)
  rw [e, hv] at hP1
  exact k H1 locs1 ls hP1 hS1 hl
theorem x_ld7 {j : Nat} {τ : xT} (C : xC Γ a (xP a) cc nl R_X K) (d : xd cc pc .baload 1 pc') (hj : j < 16) (k : xW Γ a (xP a) τ pc' L (.int (τ 7 j) :: st)) : xW Γ a (xP a) τ pc L (.int (nI j) :: .ref (a.2.2.2 8) :: st) := by
  obtain ⟨p, l, e, R, s, m, args, below, meth, c, cells, slots, Q, A, nL⟩ := Γ
  obtain ⟨hx, hb, hml, rfl, hown, hts, hK, hD, hA, hlk, hR⟩ := C
  obtain ⟨d, rfl⟩ := d
  intro H locs ls hP hS hl
  have e : (nI j).toNatClampNeg = j := nI_clamp (by omega)
  refine va_zald hx hb hK hP 8 1 rfl rfl (vp_in_nI hj (by decide)) d ?_
  rw [e]
  exact k H locs ls hP hS hl
theorem x_st7 {j : Nat} {τ : xT} (C : xC Γ a (xP a) cc nl R_X K) (d : xd cc pc .bastore 1 pc') (hj : j < 16) (hv : vp_nar .boolean x = x) (k : xW Γ a (xP a) (sS τ 7 j x) pc' L st) : xW Γ a (xP a) τ pc L (.int x :: .int (nI j) :: .ref (a.2.2.2 8) :: st) := by
  obtain ⟨p, l, e, R, s, m, args, below, meth, c, cells, slots, Q, A, nL⟩ := Γ
  obtain ⟨hx, hb, hml, rfl, hown, hts, hK, hD, hA, hlk, hR⟩ := C
  obtain ⟨d, rfl⟩ := d
  intro H locs ls hP hS hl
  have e : (nI j).toNatClampNeg = j := nI_clamp (by omega)
  refine va_zast hx hb hK hP (hD τ) hS 8 1 rfl rfl (vp_in_nI hj (by decide)) d (fun H1 locs1 hP1 hD1 hS1 => ?_)
  rw [e, hv] at hP1
  exact k H1 locs1 ls hP1 hS1 hl
theorem x_ld8 {j : Nat} {τ : xT} (C : xC Γ a (xP a) cc nl R_X K) (d : xd cc pc .iaload 1 pc') (hj : j < 16) (k : xW Γ a (xP a) τ pc' L (.int (τ 8 j) :: st)) : xW Γ a (xP a) τ pc L (.int (nI j) :: .ref (a.2.2.2 9) :: st) := by
  obtain ⟨p, l, e, R, s, m, args, below, meth, c, cells, slots, Q, A, nL⟩ := Γ
  obtain ⟨hx, hb, hml, rfl, hown, hts, hK, hD, hA, hlk, hR⟩ := C
  obtain ⟨d, rfl⟩ := d
  intro H locs ls hP hS hl
  have e : (nI j).toNatClampNeg = j := nI_clamp (by omega)
  refine va_iald hx hb hK hP 9 0 rfl rfl (vp_in_nI hj (by decide)) d ?_
  rw [e]
  exact k H locs ls hP hS hl
theorem x_st8 {j : Nat} {τ : xT} (C : xC Γ a (xP a) cc nl R_X K) (d : xd cc pc .iastore 1 pc') (hj : j < 16) (k : xW Γ a (xP a) (sS τ 8 j x) pc' L st) : xW Γ a (xP a) τ pc L (.int x :: .int (nI j) :: .ref (a.2.2.2 9) :: st) := by
  obtain ⟨p, l, e, R, s, m, args, below, meth, c, cells, slots, Q, A, nL⟩ := Γ
  obtain ⟨hx, hb, hml, rfl, hown, hts, hK, hD, hA, hlk, hR⟩ := C
  obtain ⟨d, rfl⟩ := d
  intro H locs ls hP hS hl
  have e : (nI j).toNatClampNeg = j := nI_clamp (by omega)
  refine va_iast hx hb hK hP (hD τ) hS 9 0 rfl rfl (vp_in_nI hj (by decide)) d (fun H1 locs1 hP1 hD1 hS1 => ?_)
  rw [e] at hP1
  exact k H1 locs1 ls hP1 hS1 hl
theorem m_g0 {τ : xT} (C : xC Γ a (mP a) cc nl R_M K) (d : xd cc pc (.getfield 20) 3 pc') (k : xW Γ a (mP a) τ pc' L (.int (τ 3 0) :: st)) : xW Γ a (mP a) τ pc L (.ref (a.2.2.2 0) :: st) := by
  obtain ⟨p, l, e, R, s, m, args, below, meth, c, cells, slots, Q, A, nL⟩ := Γ
  obtain ⟨hx, hb, hml, rfl, hown, hts, hK, hD, hA, hlk, hR⟩ := C
  obtain ⟨d, rfl⟩ := d
  exact fun H locs ls hP hS hl => va_get (D := a.1) (ci := 1) (v := .int (τ 3 0)) (C := R_M) (T := F_M) (N := 4) hx hb hts i_M hown hK hP 0 rfl rfl 0 (by decide) (hts _ f_M_0) (fun _ h9 => h9) rfl d (k H locs ls hP hS hl)
theorem m_p0 {τ : xT} (C : xC Γ a (mP a) cc nl R_M K) (d : xd cc pc (.putfield 20) 3 pc') (k : xW Γ a (mP a) (sS τ 3 0 x) pc' L st) : xW Γ a (mP a) τ pc L (.int x :: .ref (a.2.2.2 0) :: st) := by
  obtain ⟨p, l, e, R, s, m, args, below, meth, c, cells, slots, Q, A, nL⟩ := Γ
  obtain ⟨hx, hb, hml, rfl, hown, hts, hK, hD, hA, hlk, hR⟩ := C
  obtain ⟨d, rfl⟩ := d
  exact fun H locs ls hP hS hl => va_put (D := a.1) (ci := 1) (v := .int x) (ty := .int) (C := R_M) (T := F_M) (N := 4) hx hb hts i_M t_M t_M_ok n_M hown hK hP (hD τ) hS 0 rfl rfl 0 (by decide) (hts _ f_M_0) (fun _ h9 => h9) rfl (by decide +kernel) rfl rfl (Nat.le_of_ble_eq_true rfl) d (fun H1 locs1 hP1 hD1 hS1 => k H1 locs1 ls hP1 hS1 hl)
theorem m_g1 {τ : xT} (C : xC Γ a (mP a) cc nl R_M K) (d : xd cc pc (.getfield 7) 3 pc') (k : xW Γ a (mP a) τ pc' L (.ref (a.2.2.2 1) :: st)) : xW Γ a (mP a) τ pc L (.ref (a.2.2.2 0) :: st) := by
  obtain ⟨p, l, e, R, s, m, args, below, meth, c, cells, slots, Q, A, nL⟩ := Γ
  obtain ⟨hx, hb, hml, rfl, hown, hts, hK, hD, hA, hlk, hR⟩ := C
  obtain ⟨d, rfl⟩ := d
  exact fun H locs ls hP hS hl => va_get (D := a.1) (ci := 1) (v := .ref (a.2.2.2 1)) (C := R_M) (T := F_M) (N := 4) hx hb hts i_M hown hK hP 0 rfl rfl 1 (by decide) (hts _ f_M_1) (fun _ h9 => h9) rfl d (k H locs ls hP hS hl)
theorem m_g2 {τ : xT} (C : xC Γ a (mP a) cc nl R_M K) (d : xd cc pc (.getfield 13) 3 pc') (k : xW Γ a (mP a) τ pc' L (.ref (a.2.2.2 2) :: st)) : xW Γ a (mP a) τ pc L (.ref (a.2.2.2 0) :: st) := by
  obtain ⟨p, l, e, R, s, m, args, below, meth, c, cells, slots, Q, A, nL⟩ := Γ
  obtain ⟨hx, hb, hml, rfl, hown, hts, hK, hD, hA, hlk, hR⟩ := C
  obtain ⟨d, rfl⟩ := d
  exact fun H locs ls hP hS hl => va_get (D := a.1) (ci := 1) (v := .ref (a.2.2.2 2)) (C := R_M) (T := F_M) (N := 4) hx hb hts i_M hown hK hP 0 rfl rfl 2 (by decide) (hts _ f_M_2) (fun _ h9 => h9) rfl d (k H locs ls hP hS hl)
theorem m_g3 {τ : xT} (C : xC Γ a (mP a) cc nl R_M K) (d : xd cc pc (.getfield 16) 3 pc') (k : xW Γ a (mP a) τ pc' L (.ref (a.2.2.2 3) :: st)) : xW Γ a (mP a) τ pc L (.ref (a.2.2.2 0) :: st) := by
  obtain ⟨p, l, e, R, s, m, args, below, meth, c, cells, slots, Q, A, nL⟩ := Γ
  obtain ⟨hx, hb, hml, rfl, hown, hts, hK, hD, hA, hlk, hR⟩ := C
  obtain ⟨d, rfl⟩ := d
  exact fun H locs ls hP hS hl => va_get (D := a.1) (ci := 1) (v := .ref (a.2.2.2 3)) (C := R_M) (T := F_M) (N := 4) hx hb hts i_M hown hK hP 0 rfl rfl 3 (by decide) (hts _ f_M_3) (fun _ h9 => h9) rfl d (k H locs ls hP hS hl)
theorem m_ld0 {j : Nat} {τ : xT} (C : xC Γ a (mP a) cc nl R_M K) (d : xd cc pc .baload 1 pc') (hj : j < 64) (k : xW Γ a (mP a) τ pc' L (.int (τ 0 j) :: st)) : xW Γ a (mP a) τ pc L (.int (nI j) :: .ref (a.2.2.2 1) :: st) := by
  obtain ⟨p, l, e, R, s, m, args, below, meth, c, cells, slots, Q, A, nL⟩ := Γ
  obtain ⟨hx, hb, hml, rfl, hown, hts, hK, hD, hA, hlk, hR⟩ := C
  obtain ⟨d, rfl⟩ := d
  intro H locs ls hP hS hl
  have e : (nI j).toNatClampNeg = j := nI_clamp (by omega)
  refine va_zald hx hb hK hP 1 1 rfl rfl (vp_in_nI hj (by decide)) d ?_
  rw [e]
  exact k H locs ls hP hS hl
theorem m_st0 {j : Nat} {τ : xT} (C : xC Γ a (mP a) cc nl R_M K) (d : xd cc pc .bastore 1 pc') (hj : j < 64) (hv : vp_nar .boolean x = x) (k : xW Γ a (mP a) (sS τ 0 j x) pc' L st) : xW Γ a (mP a) τ pc L (.int x :: .int (nI j) :: .ref (a.2.2.2 1) :: st) := by
  obtain ⟨p, l, e, R, s, m, args, below, meth, c, cells, slots, Q, A, nL⟩ := Γ
  obtain ⟨hx, hb, hml, rfl, hown, hts, hK, hD, hA, hlk, hR⟩ := C
  obtain ⟨d, rfl⟩ := d
  intro H locs ls hP hS hl
  have e : (nI j).toNatClampNeg = j := nI_clamp (by omega)
  refine va_zast hx hb hK hP (hD τ) hS 1 1 rfl rfl (vp_in_nI hj (by decide)) d (fun H1 locs1 hP1 hD1 hS1 => ?_)
  rw [e, hv] at hP1
  exact k H1 locs1 ls hP1 hS1 hl
theorem m_ld1 {j : Nat} {τ : xT} (C : xC Γ a (mP a) cc nl R_M K) (d : xd cc pc .baload 1 pc') (hj : j < 64) (k : xW Γ a (mP a) τ pc' L (.int (τ 1 j) :: st)) : xW Γ a (mP a) τ pc L (.int (nI j) :: .ref (a.2.2.2 2) :: st) := by
  obtain ⟨p, l, e, R, s, m, args, below, meth, c, cells, slots, Q, A, nL⟩ := Γ
  obtain ⟨hx, hb, hml, rfl, hown, hts, hK, hD, hA, hlk, hR⟩ := C
  obtain ⟨d, rfl⟩ := d
  intro H locs ls hP hS hl
  have e : (nI j).toNatClampNeg = j := nI_clamp (by omega)
  refine va_zald hx hb hK hP 2 1 rfl rfl (vp_in_nI hj (by decide)) d ?_
  rw [e]
  exact k H locs ls hP hS hl
theorem m_st1 {j : Nat} {τ : xT} (C : xC Γ a (mP a) cc nl R_M K) (d : xd cc pc .bastore 1 pc') (hj : j < 64) (hv : vp_nar .boolean x = x) (k : xW Γ a (mP a) (sS τ 1 j x) pc' L st) : xW Γ a (mP a) τ pc L (.int x :: .int (nI j) :: .ref (a.2.2.2 2) :: st) := by
  obtain ⟨p, l, e, R, s, m, args, below, meth, c, cells, slots, Q, A, nL⟩ := Γ
  obtain ⟨hx, hb, hml, rfl, hown, hts, hK, hD, hA, hlk, hR⟩ := C
  obtain ⟨d, rfl⟩ := d
  intro H locs ls hP hS hl
  have e : (nI j).toNatClampNeg = j := nI_clamp (by omega)
  refine va_zast hx hb hK hP (hD τ) hS 2 1 rfl rfl (vp_in_nI hj (by decide)) d (fun H1 locs1 hP1 hD1 hS1 => ?_)
  rw [e, hv] at hP1
  exact k H1 locs1 ls hP1 hS1 hl
theorem m_ld2 {j : Nat} {τ : xT} (C : xC Γ a (mP a) cc nl R_M K) (d : xd cc pc .iaload 1 pc') (hj : j < 64) (k : xW Γ a (mP a) τ pc' L (.int (τ 2 j) :: st)) : xW Γ a (mP a) τ pc L (.int (nI j) :: .ref (a.2.2.2 3) :: st) := by
  obtain ⟨p, l, e, R, s, m, args, below, meth, c, cells, slots, Q, A, nL⟩ := Γ
  obtain ⟨hx, hb, hml, rfl, hown, hts, hK, hD, hA, hlk, hR⟩ := C
  obtain ⟨d, rfl⟩ := d
  intro H locs ls hP hS hl
  have e : (nI j).toNatClampNeg = j := nI_clamp (by omega)
  refine va_iald hx hb hK hP 3 0 rfl rfl (vp_in_nI hj (by decide)) d ?_
  rw [e]
  exact k H locs ls hP hS hl
theorem m_st2 {j : Nat} {τ : xT} (C : xC Γ a (mP a) cc nl R_M K) (d : xd cc pc .iastore 1 pc') (hj : j < 64) (k : xW Γ a (mP a) (sS τ 2 j x) pc' L st) : xW Γ a (mP a) τ pc L (.int x :: .int (nI j) :: .ref (a.2.2.2 3) :: st) := by
  obtain ⟨p, l, e, R, s, m, args, below, meth, c, cells, slots, Q, A, nL⟩ := Γ
  obtain ⟨hx, hb, hml, rfl, hown, hts, hK, hD, hA, hlk, hR⟩ := C
  obtain ⟨d, rfl⟩ := d
  intro H locs ls hP hS hl
  have e : (nI j).toNatClampNeg = j := nI_clamp (by omega)
  refine va_iast hx hb hK hP (hD τ) hS 3 0 rfl rfl (vp_in_nI hj (by decide)) d (fun H1 locs1 hP1 hD1 hS1 => ?_)
  rw [e] at hP1
  exact k H1 locs1 ls hP1 hS1 hl
theorem x_top (h : x = y) (k : xW Γ a wf σ pc L (.int y :: st)) : xW Γ a wf σ pc L (.int x :: st) := h ▸ k
theorem x_sub {L' : List (Option Value)} (h : xle L L') (k : xW Γ a wf σ pc L' st) : xW Γ a wf σ pc L st := by
  obtain ⟨p, l, e, R, s, m, args, below, meth, c, cells, slots, Q, A, nL⟩ := Γ
  exact fun H locs ls hP hS hl => k H locs ls hP hS (xl_le hl h)
theorem x_st {σ' : S} (h : σ = σ') (k : xW Γ a wf σ' pc L st) : xW Γ a wf σ pc L st := h ▸ k
end XR
end
section
/-! Contracts over a pure state, calls, returns -/
def xrm (k : Nat) : Room := { frames := k, cells := 0, slots := 0, locals := 28 * k }
def xPr (a : xA) {S : Type} (wf : S → va_W) (σ : S) (sz : Nat) (av : List Value) : Array Value → State → Prop :=
  va_Pc av (fun U => U.heap.size = sz ∧ va_P a.1 classes (wf σ) U.heap ∧ va_K a.1 classes (xTy a) U ∧ va_D (fun _ => True) (wf σ))
/-- the contract of a method with an int answer: from the state σ, 'post answer (the new state)' -/
def MI (a : xA) {S : Type} (wf : S → va_W) (y : MethodName) (b : ByteArray) (nL : Nat) (ret : Option FieldType) (k : Nat) (av : List Value) (σ : S) (post : Int32 → S → Prop) : Prop :=
  ∀ (l : Launch) (sz : Nat), Met l y (.code y b nL ret :: xw_T) (xrm k) (xPr a wf σ sz av) (va_Qi post (fun u t => va_P a.1 classes (wf u) t.heap) (va_A (wf σ) sz)) 0 0 (va_A (wf σ) sz)
/-- the contract of a void method -/
def MV (a : xA) {S : Type} (wf : S → va_W) (y : MethodName) (b : ByteArray) (nL : Nat) (ret : Option FieldType) (k : Nat) (av : List Value) (σ : S) (post : S → Prop) : Prop :=
  ∀ (l : Launch) (sz : Nat), Met l y (.code y b nL ret :: xw_T) (xrm k) (xPr a wf σ sz av) (va_Qv post (fun u t => va_P a.1 classes (wf u) t.heap) (va_A (wf σ) sz)) 0 0 (va_A (wf σ) sz)
def zb (x : Int32) : Prop := x = nI 0 ∨ x = nI 1
theorem zb_0 : zb (nI 0) := Or.inl rfl
theorem zb_1 : zb (nI 1) := Or.inr rfl
theorem zb_nar {x : Int32} (h : zb x) : vp_nar .boolean x = x := by
  rcases h with rfl | rfl <;> decide +kernel
theorem zb_nr {x : Int32} (h : zb x) : narrow .boolean (.int x) = .int x := by
  rcases h with rfl | rfl
  · show Value.int (nI 0 &&& 1) = _
    rw [show nI 0 &&& 1 = nI 0 by decide +kernel]
  · show Value.int (nI 1 &&& 1) = _
    rw [show nI 1 &&& 1 = nI 1 by decide +kernel]
/-- the returns -/
def xRI (Γ : xG) (a : xA) {S : Type} (wf : S → va_W) (cc : ByteArray) (post : Int32 → S → Prop) : Prop :=
  ∀ {pc pc' : Nat} {v : Int32} {σ : S} {L : List (Option Value)}, xd cc pc .ireturn 1 pc' → post v σ → xW Γ a wf σ pc L [.int v]
def xRZ (Γ : xG) (a : xA) {S : Type} (wf : S → va_W) (cc : ByteArray) (post : Int32 → S → Prop) : Prop :=
  ∀ {pc pc' : Nat} {v : Int32} {σ : S} {L : List (Option Value)}, xd cc pc .ireturn 1 pc' → (zb v ∧ post v σ) → xW Γ a wf σ pc L [.int v]
def xRV (Γ : xG) (a : xA) {S : Type} (wf : S → va_W) (cc : ByteArray) (post : S → Prop) : Prop :=
  ∀ {pc pc' : Nat} {σ : S} {L : List (Option Value)}, xd cc pc .return_ 1 pc' → post σ → xW Γ a wf σ pc L []
theorem xD_adr {A : Nat → Prop} {w w' : va_W} (h : w'.map Prod.fst = w.map Prod.fst) (hD : va_D A w) : va_D A w' := by
  have key : ∀ (k : Nat) (q : Nat × va_E), w'[k]? = some q → ∃ q0, w[k]? = some q0 ∧ q0.1 = q.1 := by
    intro k q hk
    have h1 : (w'.map Prod.fst)[k]? = some q.1 := by rw [List.getElem?_map, hk]; rfl
    rw [h, List.getElem?_map] at h1
    cases hq : w[k]? with
    | none => rw [hq] at h1; cases h1
    | some q0 => rw [hq] at h1; exact ⟨q0, rfl, Option.some.inj h1⟩
  refine ⟨fun i j x y hi hj hxy => ?_, fun k q hk => ?_⟩
  · obtain ⟨x0, h1, h2⟩ := key i x hi
    obtain ⟨y0, h3, h4⟩ := key j y hj
    exact hD.1 i j x0 y0 h1 h3 (h2.trans (hxy.trans h4.symm))
  · obtain ⟨q0, h1, h2⟩ := key k q hk
    rw [← h2]
    exact hD.2 k q0 h1
theorem xargs_mem : ∀ (av : List Value) (k i : Nat) (v : Value), (∀ w ∈ av, w.category = 1) → av[i]? = some v → (k + i, v) ∈ lv_args k av
  | [], k, i, v, _, h => by simp at h
  | w :: r, k, i, v, hc, h => by
    have hw : ¬ w.category = 2 := by rw [hc w List.mem_cons_self]; decide
    rw [lv_args, if_neg hw]
    cases i with
    | zero =>
      simp at h
      subst h
      exact List.mem_cons_self
    | succ i =>
      refine List.mem_cons_of_mem _ ?_
      have := xargs_mem r (k + 1) i v (fun w hw => hc w (List.mem_cons_of_mem _ hw)) (by simpa using h)
      rwa [show k + 1 + i = k + (i + 1) by omega] at this
theorem xl_entry {ls : Array Slot} {nL : Nat} {av : List Value} {L0 : List (Option Value)} (hl : lv_has ls nL (lv_args 0 av)) (hav : ∀ w ∈ av, w.category = 1) (hL : av.map some ++ List.replicate (nL - av.length) none = L0) : xl ls nL L0 := by
  have key : ∀ (i : Nat) (v : Value), L0[i]? = some (some v) → av[i]? = some v := by
    intro i v h
    rw [← hL] at h
    by_cases hi : i < (av.map some).length
    · rw [List.getElem?_append_left hi, List.getElem?_map] at h
      cases hq : av[i]? with
      | none => rw [hq] at h; cases h
      | some q => rw [hq] at h; cases h; rfl
    · rw [List.getElem?_append_right (by omega), List.getElem?_replicate] at h
      split at h <;> cases h
  refine ⟨⟨hl.1, hl.2.1, ?_⟩, fun v hv => ?_⟩
  · rintro ⟨j, w⟩ hq
    obtain ⟨k, h1, h2⟩ := (xv_mem _ 0 j w).mp hq
    have hjk : j = k := by omega
    subst hjk
    have h3 := xargs_mem av 0 j w hav (key j w h1)
    rw [Nat.zero_add] at h3
    exact hl.2.2 (j, w) h3
  · obtain ⟨i, hi⟩ := List.getElem?_of_mem hv
    exact hav v (List.mem_of_getElem? (key i v hi))
section XM
variable {a : xA} {S : Type} {wf : S → va_W} {y : MethodName} {b : ByteArray} {nL k : Nat} {av : List Value} {σ : S} {L0 : List (Option Value)}
theorem MI.ofI {post : Int32 → S → Prop} (hy : plainName y.cls = true) (hav : ∀ w ∈ av, w.category = 1) (hlen : (lg_sl av).length ≤ nL) (hL : av.map some ++ List.replicate (nL - av.length) none = L0) (hadr : ∀ u, (wf u).map Prod.fst = (wf σ).map Prod.fst)
    (body : ∀ Γ : xG, xC Γ a wf b nL y.cls k → xRI Γ a wf b post → xW Γ a wf σ 0 L0 []) : MI a wf y b nL (some .int) k av σ post := by
  intro l sz
  refine Met.ofW (cc := b) (maxL := nL) (ret := some .int) hy rfl ?_
  intro p e s m args below meth c s₁ B hml hv
  obtain ⟨rfl, hsz, hP, hK, hD0⟩ := hv
  have hts := atoms_spec (ws := .code y b nL (some .int) :: xw_T) B.pre
  have hown : s.vm.findClass y.cls = some m.cls := findClass_of_methodNamed B.named
  subst hsz
  have hD := hD0.self (sz := s.heap.size)
  have hl := lv_entry av (n := nL) hlen
  rw [lg_entry_eq]
  generalize (lg_sl av ++ List.replicate (nL - (lg_sl av).length) Slot.unset).toArray = ls at hl ⊢
  refine body (p, l, e, _, s, m, _, below, meth, c, 0, 0, _, va_A (wf σ) s.heap.size, nL) ⟨B.exec, B.bytes, hml, rfl, hown, fun w hw => hts w (List.mem_cons_of_mem _ hw), hK, fun u => xD_adr (hadr u) hD, fun q h => Or.inr h, B.notSynchronized, ⟨Nat.le_refl _, Nat.le_refl _, Nat.zero_le _, Nat.zero_le _⟩⟩ ?_ s.heap [] ls hP va_S.rf (xl_entry hl hav hL)
  intro pc pc' v σ' L d hpost H locs ls' hP' hS' hl'
  exact W.iret (v := v) B.exec B.bytes B.returns (fun t ht hW => ⟨⟨v, σ', rfl, hpost, by show va_P _ _ _ t.heap; rw [ht]; exact hP'⟩, hS'.F ht⟩) hS'.2.2 d.1 B.notSynchronized
theorem MI.ofZ {post : Int32 → S → Prop} (hy : plainName y.cls = true) (hav : ∀ w ∈ av, w.category = 1) (hlen : (lg_sl av).length ≤ nL) (hL : av.map some ++ List.replicate (nL - av.length) none = L0) (hadr : ∀ u, (wf u).map Prod.fst = (wf σ).map Prod.fst)
    (body : ∀ Γ : xG, xC Γ a wf b nL y.cls k → xRZ Γ a wf b post → xW Γ a wf σ 0 L0 []) : MI a wf y b nL (some .boolean) k av σ post := by
  intro l sz
  refine Met.ofW (cc := b) (maxL := nL) (ret := some .boolean) hy rfl ?_
  intro p e s m args below meth c s₁ B hml hv
  obtain ⟨rfl, hsz, hP, hK, hD0⟩ := hv
  have hts := atoms_spec (ws := .code y b nL (some .boolean) :: xw_T) B.pre
  have hown : s.vm.findClass y.cls = some m.cls := findClass_of_methodNamed B.named
  subst hsz
  have hD := hD0.self (sz := s.heap.size)
  have hl := lv_entry av (n := nL) hlen
  rw [lg_entry_eq]
  generalize (lg_sl av ++ List.replicate (nL - (lg_sl av).length) Slot.unset).toArray = ls at hl ⊢
  refine body (p, l, e, _, s, m, _, below, meth, c, 0, 0, _, va_A (wf σ) s.heap.size, nL) ⟨B.exec, B.bytes, hml, rfl, hown, fun w hw => hts w (List.mem_cons_of_mem _ hw), hK, fun u => xD_adr (hadr u) hD, fun q h => Or.inr h, B.notSynchronized, ⟨Nat.le_refl _, Nat.le_refl _, Nat.zero_le _, Nat.zero_le _⟩⟩ ?_ s.heap [] ls hP va_S.rf (xl_entry hl hav hL)
  intro pc pc' v σ' L d hpost H locs ls' hP' hS' hl'
  exact W.zret (v := v) B.exec B.bytes B.returns (zb_nr hpost.1) (fun t ht hW => ⟨⟨v, σ', rfl, hpost.2, by show va_P _ _ _ t.heap; rw [ht]; exact hP'⟩, hS'.F ht⟩) hS'.2.2 d.1 B.notSynchronized
theorem MV.of {post : S → Prop} (hy : plainName y.cls = true) (hav : ∀ w ∈ av, w.category = 1) (hlen : (lg_sl av).length ≤ nL) (hL : av.map some ++ List.replicate (nL - av.length) none = L0) (hadr : ∀ u, (wf u).map Prod.fst = (wf σ).map Prod.fst)
    (body : ∀ Γ : xG, xC Γ a wf b nL y.cls k → xRV Γ a wf b post → xW Γ a wf σ 0 L0 []) : MV a wf y b nL none k av σ post := by
  intro l sz
  refine Met.ofW (cc := b) (maxL := nL) (ret := none) hy rfl ?_
  intro p e s m args below meth c s₁ B hml hv
  obtain ⟨rfl, hsz, hP, hK, hD0⟩ := hv
  have hts := atoms_spec (ws := .code y b nL none :: xw_T) B.pre
  have hown : s.vm.findClass y.cls = some m.cls := findClass_of_methodNamed B.named
  subst hsz
  have hD := hD0.self (sz := s.heap.size)
  have hl := lv_entry av (n := nL) hlen
  rw [lg_entry_eq]
  generalize (lg_sl av ++ List.replicate (nL - (lg_sl av).length) Slot.unset).toArray = ls at hl ⊢
  refine body (p, l, e, _, s, m, _, below, meth, c, 0, 0, _, va_A (wf σ) s.heap.size, nL) ⟨B.exec, B.bytes, hml, rfl, hown, fun w hw => hts w (List.mem_cons_of_mem _ hw), hK, fun u => xD_adr (hadr u) hD, fun q h => Or.inr h, B.notSynchronized, ⟨Nat.le_refl _, Nat.le_refl _, Nat.zero_le _, Nat.zero_le _⟩⟩ ?_ s.heap [] ls hP va_S.rf (xl_entry hl hav hL)
  intro pc pc' σ' L d hpost H locs ls' hP' hS' hl'
  exact W.vret B.exec B.bytes B.returns (fun t ht hW => ⟨⟨σ', rfl, hpost, by show va_P _ _ _ t.heap; rw [ht]; exact hP'⟩, hS'.F ht⟩) hS'.2.2 d.1 B.notSynchronized
end XM
theorem x_goodV {own : String} {idx : Nat} {y : MethodName} {b : ByteArray} {nL : Nat} {ret : Option FieldType} {n : Nat} (w : xwV own idx y b nL ret n) : GoodIn xw_T (wsV own idx y.cls y (.code y b nL ret :: xw_T)) := by
  obtain ⟨w1, w2, w3, w4, w5, -⟩ := w
  intro v hv
  have hm : v ∈ xw_T := by
    rcases List.mem_append.mp hv with h | h
    · rcases List.mem_cons.mp h with rfl | h
      · exact w1
      rcases List.mem_cons.mp h with rfl | h
      · exact w2
      rcases List.mem_cons.mp h with rfl | h
      · exact w3
      rcases List.mem_cons.mp h with rfl | h
      · exact w4
      · cases h
    · rcases List.mem_cons.mp h with rfl | h
      · exact w5
      · exact h
  exact ⟨hm, good_of_word (xw_good v hm)⟩
theorem x_goodS {own : String} {idx : Nat} {y : MethodName} {b : ByteArray} {nL : Nat} {ret : Option FieldType} {n : Nat} (hy : y.cls = own) (w : xwS own idx y b nL ret n) : GoodIn xw_T (wsS own idx y (.code y b nL ret :: xw_T)) := by
  obtain ⟨w1, w2, w3, w4, -⟩ := w
  intro v hv
  have hm : v ∈ xw_T := by
    rcases List.mem_append.mp hv with h | h
    · rcases List.mem_cons.mp h with rfl | h
      · exact w1
      rcases List.mem_cons.mp h with rfl | h
      · exact w2
      rcases List.mem_cons.mp h with rfl | h
      · rw [← hy]; exact w3
      · cases h
    · rcases List.mem_cons.mp h with rfl | h
      · exact w4
      · exact h
  exact ⟨hm, good_of_word (xw_good v hm)⟩
theorem x_blind {a : xA} {S : Type} {wf : S → va_W} {σ : S} {sz : Nat} {av : List Value} : FrameBlind (xPr a wf σ sz av) := fun b U g mk q => by
  obtain ⟨q0, q1, qP, qK, qD⟩ := q
  exact ⟨q0, q1, qP, va_K.moved (u := U) (U := U.calling g mk b) (Vm.Alike.refl U.vm) qK, qD⟩
section XK
variable {Γ : xG} {a : xA} {S : Type} {wf : S → va_W} {σ : S} {cc : ByteArray} {nl : Nat} {own : String} {K pc pc' : Nat} {L : List (Option Value)} {st st0 : List Value} {y : MethodName} {bb : ByteArray} {nl' k idx n : Nat} {ret : Option FieldType} {As : List Value} {r0 ci : Nat} {fs : List Value} {q : vw_C}
theorem x_callI {post : Int32 → S → Prop} (C : xC Γ a wf cc nl own K) (w : xwV own idx y bb nl' ret n) (d : xd cc pc (.invokevirtual idx) 3 pc') (hM : MI a wf y bb nl' ret k (.ref r0 :: As) σ post) (he : (wf σ)[0]? = some (r0, .inr (ci, fs))) (hc : classes[ci]? = some q) (hq : q.1 = y.cls) (hn : As.length = n) (hst : st0 = As.reverse ++ .ref r0 :: st) (hk : k + 1 ≤ K ∧ nl' ≤ 9) (hr : (st.map fun v => v.category).sum ≤ 8)
    (kk : ∀ r u, post r u → xW Γ a wf u pc' L (.int r :: st)) : xW Γ a wf σ pc L st0 := by
  obtain ⟨p, l, e, R, s, m, args, below, meth, c, cells, slots, Q, A, nL⟩ := Γ
  obtain ⟨hx, hb, hml, rfl, hown, hts, hK, hD, hA, hlk, hR⟩ := C
  obtain ⟨d, rfl⟩ := d
  intro H locs ls hP hS hl
  have hFc : ∀ q, va_A (wf σ) H.size q → A q := by
    rintro q (⟨k, e, h⟩ | h)
    · exact (hD σ).2 k (q, e) h
    · exact hA q (Nat.le_trans hS.1 h)
  refine va_calli (A1 := va_A (wf σ) H.size) (va_runV (As := As) (rest := st) (C := y.cls) ⟨hx, hb, hml, hown, hts⟩ (hM l H.size) (cwV n hts (x_goodV w) rfl rfl rfl ⟨rfl, w.2.2.2.2.2⟩ ⟨by show k + 1 ≤ R.frames; omega, by show 8 + (nl' + 11) + 28 * k ≤ R.locals; omega⟩) ⟨x_blind, ?_, fun U hU hW => ⟨rfl, by rw [hU], by rw [hU]; exact hP, va_K.moved hW.alike hK, (hD σ).weaken (fun _ _ _ _ => trivial)⟩⟩ rfl hn hl.1.1 hst (lv_room hr) d ⟨hR.2.2.1, hR.2.2.2⟩) hS (fun q _ h => hFc q h) hFc (fun r u t H1 locs1 ht hvm hw hB hz hk1 hS1 => kk r u hw H1 locs1 ls (by rw [← ht]; exact hB) hS1 hl)
  rw [← hq]
  exact va_recv hK hP hc he
theorem x_callV {post : S → Prop} (C : xC Γ a wf cc nl own K) (w : xwV own idx y bb nl' ret n) (d : xd cc pc (.invokevirtual idx) 3 pc') (hM : MV a wf y bb nl' ret k (.ref r0 :: As) σ post) (he : (wf σ)[0]? = some (r0, .inr (ci, fs))) (hc : classes[ci]? = some q) (hq : q.1 = y.cls) (hn : As.length = n) (hst : st0 = As.reverse ++ .ref r0 :: st) (hk : k + 1 ≤ K ∧ nl' ≤ 9) (hr : (st.map fun v => v.category).sum ≤ 8)
    (kk : ∀ u, post u → xW Γ a wf u pc' L st) : xW Γ a wf σ pc L st0 := by
  obtain ⟨p, l, e, R, s, m, args, below, meth, c, cells, slots, Q, A, nL⟩ := Γ
  obtain ⟨hx, hb, hml, rfl, hown, hts, hK, hD, hA, hlk, hR⟩ := C
  obtain ⟨d, rfl⟩ := d
  intro H locs ls hP hS hl
  have hFc : ∀ q, va_A (wf σ) H.size q → A q := by
    rintro q (⟨k, e, h⟩ | h)
    · exact (hD σ).2 k (q, e) h
    · exact hA q (Nat.le_trans hS.1 h)
  refine va_callv (A1 := va_A (wf σ) H.size) (va_runV (As := As) (rest := st) (C := y.cls) ⟨hx, hb, hml, hown, hts⟩ (hM l H.size) (cwV n hts (x_goodV w) rfl rfl rfl ⟨rfl, w.2.2.2.2.2⟩ ⟨by show k + 1 ≤ R.frames; omega, by show 8 + (nl' + 11) + 28 * k ≤ R.locals; omega⟩) ⟨x_blind, ?_, fun U hU hW => ⟨rfl, by rw [hU], by rw [hU]; exact hP, va_K.moved hW.alike hK, (hD σ).weaken (fun _ _ _ _ => trivial)⟩⟩ rfl hn hl.1.1 hst (lv_room hr) d ⟨hR.2.2.1, hR.2.2.2⟩) hS (fun q _ h => hFc q h) hFc (fun u t H1 locs1 ht hvm hw hB hz hk1 hS1 => kk u hw H1 locs1 ls (by rw [← ht]; exact hB) hS1 hl)
  rw [← hq]
  exact va_recv hK hP hc he
theorem x_callS {post : Int32 → S → Prop} (C : xC Γ a wf cc nl own K) (w : xwS own idx y bb nl' ret n) (d : xd cc pc (.invokestatic idx) 3 pc') (hM : MI a wf y bb nl' ret k As σ post) (hq : y.cls = own) (hn : As.length = n) (hst : st0 = As.reverse ++ st) (hk : k + 1 ≤ K ∧ nl' ≤ 9) (hr : (st.map fun v => v.category).sum ≤ 8)
    (kk : ∀ r u, post r u → xW Γ a wf u pc' L (.int r :: st)) : xW Γ a wf σ pc L st0 := by
  obtain ⟨p, l, e, R, s, m, args, below, meth, c, cells, slots, Q, A, nL⟩ := Γ
  obtain ⟨hx, hb, hml, rfl, hown, hts, hK, hD, hA, hlk, hR⟩ := C
  obtain ⟨d, rfl⟩ := d
  intro H locs ls hP hS hl
  have hFc : ∀ q, va_A (wf σ) H.size q → A q := by
    rintro q (⟨k, e, h⟩ | h)
    · exact (hD σ).2 k (q, e) h
    · exact hA q (Nat.le_trans hS.1 h)
  exact va_calli (A1 := va_A (wf σ) H.size) (va_runS (As := As) (rest := st) ⟨hx, hb, hml, hown, hts⟩ (hM l H.size) (cwS n hts (x_goodS hq w) rfl rfl rfl ⟨hq, w.2.2.2.2⟩ ⟨by show k + 1 ≤ R.frames; omega, by show 8 + (nl' + 11) + 28 * k ≤ R.locals; omega⟩) ⟨x_blind, fun U hU hW => ⟨rfl, by rw [hU], by rw [hU]; exact hP, va_K.moved hW.alike hK, (hD σ).weaken (fun _ _ _ _ => trivial)⟩⟩ rfl hn hl.1.1 hst (lv_room hr) d ⟨hR.2.2.1, hR.2.2.2⟩) hS (fun q _ h => hFc q h) hFc (fun r u t H1 locs1 ht hvm hw hB hz hk1 hS1 => kk r u hw H1 locs1 ls (by rw [← ht]; exact hB) hS1 hl)
theorem x_cI0 {τ : xT} {y : MethodName} {bb : ByteArray} {nl' k idx : Nat} {ret : Option FieldType} {post : Int32 → xT → Prop} (C : xC Γ a (xP a) cc nl R_X K) (w : xwV R_X idx y bb nl' ret 0) (d : xd cc pc (.invokevirtual idx) 3 pc') (hM : MI a (xP a) y bb nl' ret k (.ref (a.2.2.2 0) :: []) τ post) (kk : ∀ r u, post r u → xW Γ a (xP a) u pc' L (.int r :: st)) (hq : y.cls = R_X := by rfl) (hk : k + 1 ≤ K ∧ nl' ≤ 9 := by decide) (hr : (st.map fun v => v.category).sum ≤ 8 := by exact Nat.le_of_ble_eq_true rfl) : xW Γ a (xP a) τ pc L (.ref (a.2.2.2 0) :: st) :=
  x_callI C w d hM rfl (ci := 0) (q := (R_X, F_X, 12)) rfl hq.symm rfl rfl hk hr kk
theorem x_cV0 {τ : xT} {y : MethodName} {bb : ByteArray} {nl' k idx : Nat} {ret : Option FieldType} {post : xT → Prop} (C : xC Γ a (xP a) cc nl R_X K) (w : xwV R_X idx y bb nl' ret 0) (d : xd cc pc (.invokevirtual idx) 3 pc') (hM : MV a (xP a) y bb nl' ret k (.ref (a.2.2.2 0) :: []) τ post) (kk : ∀ u, post u → xW Γ a (xP a) u pc' L st) (hq : y.cls = R_X := by rfl) (hk : k + 1 ≤ K ∧ nl' ≤ 9 := by decide) (hr : (st.map fun v => v.category).sum ≤ 8 := by exact Nat.le_of_ble_eq_true rfl) : xW Γ a (xP a) τ pc L (.ref (a.2.2.2 0) :: st) :=
  x_callV C w d hM rfl (ci := 0) (q := (R_X, F_X, 12)) rfl hq.symm rfl rfl hk hr kk
theorem x_cI1 {v1 : Int32} {τ : xT} {y : MethodName} {bb : ByteArray} {nl' k idx : Nat} {ret : Option FieldType} {post : Int32 → xT → Prop} (C : xC Γ a (xP a) cc nl R_X K) (w : xwV R_X idx y bb nl' ret 1) (d : xd cc pc (.invokevirtual idx) 3 pc') (hM : MI a (xP a) y bb nl' ret k (.ref (a.2.2.2 0) :: [.int v1]) τ post) (kk : ∀ r u, post r u → xW Γ a (xP a) u pc' L (.int r :: st)) (hq : y.cls = R_X := by rfl) (hk : k + 1 ≤ K ∧ nl' ≤ 9 := by decide) (hr : (st.map fun v => v.category).sum ≤ 8 := by exact Nat.le_of_ble_eq_true rfl) : xW Γ a (xP a) τ pc L (.int v1 :: .ref (a.2.2.2 0) :: st) :=
  x_callI C w d hM rfl (ci := 0) (q := (R_X, F_X, 12)) rfl hq.symm rfl rfl hk hr kk
theorem x_cV1 {v1 : Int32} {τ : xT} {y : MethodName} {bb : ByteArray} {nl' k idx : Nat} {ret : Option FieldType} {post : xT → Prop} (C : xC Γ a (xP a) cc nl R_X K) (w : xwV R_X idx y bb nl' ret 1) (d : xd cc pc (.invokevirtual idx) 3 pc') (hM : MV a (xP a) y bb nl' ret k (.ref (a.2.2.2 0) :: [.int v1]) τ post) (kk : ∀ u, post u → xW Γ a (xP a) u pc' L st) (hq : y.cls = R_X := by rfl) (hk : k + 1 ≤ K ∧ nl' ≤ 9 := by decide) (hr : (st.map fun v => v.category).sum ≤ 8 := by exact Nat.le_of_ble_eq_true rfl) : xW Γ a (xP a) τ pc L (.int v1 :: .ref (a.2.2.2 0) :: st) :=
  x_callV C w d hM rfl (ci := 0) (q := (R_X, F_X, 12)) rfl hq.symm rfl rfl hk hr kk
theorem x_cI2 {v1 v2 : Int32} {τ : xT} {y : MethodName} {bb : ByteArray} {nl' k idx : Nat} {ret : Option FieldType} {post : Int32 → xT → Prop} (C : xC Γ a (xP a) cc nl R_X K) (w : xwV R_X idx y bb nl' ret 2) (d : xd cc pc (.invokevirtual idx) 3 pc') (hM : MI a (xP a) y bb nl' ret k (.ref (a.2.2.2 0) :: [.int v1, .int v2]) τ post) (kk : ∀ r u, post r u → xW Γ a (xP a) u pc' L (.int r :: st)) (hq : y.cls = R_X := by rfl) (hk : k + 1 ≤ K ∧ nl' ≤ 9 := by decide) (hr : (st.map fun v => v.category).sum ≤ 8 := by exact Nat.le_of_ble_eq_true rfl) : xW Γ a (xP a) τ pc L (.int v2 :: .int v1 :: .ref (a.2.2.2 0) :: st) :=
  x_callI C w d hM rfl (ci := 0) (q := (R_X, F_X, 12)) rfl hq.symm rfl rfl hk hr kk
theorem x_cV2 {v1 v2 : Int32} {τ : xT} {y : MethodName} {bb : ByteArray} {nl' k idx : Nat} {ret : Option FieldType} {post : xT → Prop} (C : xC Γ a (xP a) cc nl R_X K) (w : xwV R_X idx y bb nl' ret 2) (d : xd cc pc (.invokevirtual idx) 3 pc') (hM : MV a (xP a) y bb nl' ret k (.ref (a.2.2.2 0) :: [.int v1, .int v2]) τ post) (kk : ∀ u, post u → xW Γ a (xP a) u pc' L st) (hq : y.cls = R_X := by rfl) (hk : k + 1 ≤ K ∧ nl' ≤ 9 := by decide) (hr : (st.map fun v => v.category).sum ≤ 8 := by exact Nat.le_of_ble_eq_true rfl) : xW Γ a (xP a) τ pc L (.int v2 :: .int v1 :: .ref (a.2.2.2 0) :: st) :=
  x_callV C w d hM rfl (ci := 0) (q := (R_X, F_X, 12)) rfl hq.symm rfl rfl hk hr kk
theorem x_cI3 {v1 v2 v3 : Int32} {τ : xT} {y : MethodName} {bb : ByteArray} {nl' k idx : Nat} {ret : Option FieldType} {post : Int32 → xT → Prop} (C : xC Γ a (xP a) cc nl R_X K) (w : xwV R_X idx y bb nl' ret 3) (d : xd cc pc (.invokevirtual idx) 3 pc') (hM : MI a (xP a) y bb nl' ret k (.ref (a.2.2.2 0) :: [.int v1, .int v2, .int v3]) τ post) (kk : ∀ r u, post r u → xW Γ a (xP a) u pc' L (.int r :: st)) (hq : y.cls = R_X := by rfl) (hk : k + 1 ≤ K ∧ nl' ≤ 9 := by decide) (hr : (st.map fun v => v.category).sum ≤ 8 := by exact Nat.le_of_ble_eq_true rfl) : xW Γ a (xP a) τ pc L (.int v3 :: .int v2 :: .int v1 :: .ref (a.2.2.2 0) :: st) :=
  x_callI C w d hM rfl (ci := 0) (q := (R_X, F_X, 12)) rfl hq.symm rfl rfl hk hr kk
theorem x_cV3 {v1 v2 v3 : Int32} {τ : xT} {y : MethodName} {bb : ByteArray} {nl' k idx : Nat} {ret : Option FieldType} {post : xT → Prop} (C : xC Γ a (xP a) cc nl R_X K) (w : xwV R_X idx y bb nl' ret 3) (d : xd cc pc (.invokevirtual idx) 3 pc') (hM : MV a (xP a) y bb nl' ret k (.ref (a.2.2.2 0) :: [.int v1, .int v2, .int v3]) τ post) (kk : ∀ u, post u → xW Γ a (xP a) u pc' L st) (hq : y.cls = R_X := by rfl) (hk : k + 1 ≤ K ∧ nl' ≤ 9 := by decide) (hr : (st.map fun v => v.category).sum ≤ 8 := by exact Nat.le_of_ble_eq_true rfl) : xW Γ a (xP a) τ pc L (.int v3 :: .int v2 :: .int v1 :: .ref (a.2.2.2 0) :: st) :=
  x_callV C w d hM rfl (ci := 0) (q := (R_X, F_X, 12)) rfl hq.symm rfl rfl hk hr kk
theorem x_cI4 {v1 v2 v3 v4 : Int32} {τ : xT} {y : MethodName} {bb : ByteArray} {nl' k idx : Nat} {ret : Option FieldType} {post : Int32 → xT → Prop} (C : xC Γ a (xP a) cc nl R_X K) (w : xwV R_X idx y bb nl' ret 4) (d : xd cc pc (.invokevirtual idx) 3 pc') (hM : MI a (xP a) y bb nl' ret k (.ref (a.2.2.2 0) :: [.int v1, .int v2, .int v3, .int v4]) τ post) (kk : ∀ r u, post r u → xW Γ a (xP a) u pc' L (.int r :: st)) (hq : y.cls = R_X := by rfl) (hk : k + 1 ≤ K ∧ nl' ≤ 9 := by decide) (hr : (st.map fun v => v.category).sum ≤ 8 := by exact Nat.le_of_ble_eq_true rfl) : xW Γ a (xP a) τ pc L (.int v4 :: .int v3 :: .int v2 :: .int v1 :: .ref (a.2.2.2 0) :: st) :=
  x_callI C w d hM rfl (ci := 0) (q := (R_X, F_X, 12)) rfl hq.symm rfl rfl hk hr kk
theorem x_cV4 {v1 v2 v3 v4 : Int32} {τ : xT} {y : MethodName} {bb : ByteArray} {nl' k idx : Nat} {ret : Option FieldType} {post : xT → Prop} (C : xC Γ a (xP a) cc nl R_X K) (w : xwV R_X idx y bb nl' ret 4) (d : xd cc pc (.invokevirtual idx) 3 pc') (hM : MV a (xP a) y bb nl' ret k (.ref (a.2.2.2 0) :: [.int v1, .int v2, .int v3, .int v4]) τ post) (kk : ∀ u, post u → xW Γ a (xP a) u pc' L st) (hq : y.cls = R_X := by rfl) (hk : k + 1 ≤ K ∧ nl' ≤ 9 := by decide) (hr : (st.map fun v => v.category).sum ≤ 8 := by exact Nat.le_of_ble_eq_true rfl) : xW Γ a (xP a) τ pc L (.int v4 :: .int v3 :: .int v2 :: .int v1 :: .ref (a.2.2.2 0) :: st) :=
  x_callV C w d hM rfl (ci := 0) (q := (R_X, F_X, 12)) rfl hq.symm rfl rfl hk hr kk
theorem m_cI0 {τ : xT} {y : MethodName} {bb : ByteArray} {nl' k idx : Nat} {ret : Option FieldType} {post : Int32 → xT → Prop} (C : xC Γ a (mP a) cc nl R_M K) (w : xwV R_M idx y bb nl' ret 0) (d : xd cc pc (.invokevirtual idx) 3 pc') (hM : MI a (mP a) y bb nl' ret k (.ref (a.2.2.2 0) :: []) τ post) (kk : ∀ r u, post r u → xW Γ a (mP a) u pc' L (.int r :: st)) (hq : y.cls = R_M := by rfl) (hk : k + 1 ≤ K ∧ nl' ≤ 9 := by decide) (hr : (st.map fun v => v.category).sum ≤ 8 := by exact Nat.le_of_ble_eq_true rfl) : xW Γ a (mP a) τ pc L (.ref (a.2.2.2 0) :: st) :=
  x_callI C w d hM rfl (ci := 1) (q := (R_M, F_M, 4)) rfl hq.symm rfl rfl hk hr kk
theorem m_cV0 {τ : xT} {y : MethodName} {bb : ByteArray} {nl' k idx : Nat} {ret : Option FieldType} {post : xT → Prop} (C : xC Γ a (mP a) cc nl R_M K) (w : xwV R_M idx y bb nl' ret 0) (d : xd cc pc (.invokevirtual idx) 3 pc') (hM : MV a (mP a) y bb nl' ret k (.ref (a.2.2.2 0) :: []) τ post) (kk : ∀ u, post u → xW Γ a (mP a) u pc' L st) (hq : y.cls = R_M := by rfl) (hk : k + 1 ≤ K ∧ nl' ≤ 9 := by decide) (hr : (st.map fun v => v.category).sum ≤ 8 := by exact Nat.le_of_ble_eq_true rfl) : xW Γ a (mP a) τ pc L (.ref (a.2.2.2 0) :: st) :=
  x_callV C w d hM rfl (ci := 1) (q := (R_M, F_M, 4)) rfl hq.symm rfl rfl hk hr kk
theorem m_cI1 {v1 : Int32} {τ : xT} {y : MethodName} {bb : ByteArray} {nl' k idx : Nat} {ret : Option FieldType} {post : Int32 → xT → Prop} (C : xC Γ a (mP a) cc nl R_M K) (w : xwV R_M idx y bb nl' ret 1) (d : xd cc pc (.invokevirtual idx) 3 pc') (hM : MI a (mP a) y bb nl' ret k (.ref (a.2.2.2 0) :: [.int v1]) τ post) (kk : ∀ r u, post r u → xW Γ a (mP a) u pc' L (.int r :: st)) (hq : y.cls = R_M := by rfl) (hk : k + 1 ≤ K ∧ nl' ≤ 9 := by decide) (hr : (st.map fun v => v.category).sum ≤ 8 := by exact Nat.le_of_ble_eq_true rfl) : xW Γ a (mP a) τ pc L (.int v1 :: .ref (a.2.2.2 0) :: st) :=
  x_callI C w d hM rfl (ci := 1) (q := (R_M, F_M, 4)) rfl hq.symm rfl rfl hk hr kk
theorem m_cV1 {v1 : Int32} {τ : xT} {y : MethodName} {bb : ByteArray} {nl' k idx : Nat} {ret : Option FieldType} {post : xT → Prop} (C : xC Γ a (mP a) cc nl R_M K) (w : xwV R_M idx y bb nl' ret 1) (d : xd cc pc (.invokevirtual idx) 3 pc') (hM : MV a (mP a) y bb nl' ret k (.ref (a.2.2.2 0) :: [.int v1]) τ post) (kk : ∀ u, post u → xW Γ a (mP a) u pc' L st) (hq : y.cls = R_M := by rfl) (hk : k + 1 ≤ K ∧ nl' ≤ 9 := by decide) (hr : (st.map fun v => v.category).sum ≤ 8 := by exact Nat.le_of_ble_eq_true rfl) : xW Γ a (mP a) τ pc L (.int v1 :: .ref (a.2.2.2 0) :: st) :=
  x_callV C w d hM rfl (ci := 1) (q := (R_M, F_M, 4)) rfl hq.symm rfl rfl hk hr kk
theorem m_cI2 {v1 v2 : Int32} {τ : xT} {y : MethodName} {bb : ByteArray} {nl' k idx : Nat} {ret : Option FieldType} {post : Int32 → xT → Prop} (C : xC Γ a (mP a) cc nl R_M K) (w : xwV R_M idx y bb nl' ret 2) (d : xd cc pc (.invokevirtual idx) 3 pc') (hM : MI a (mP a) y bb nl' ret k (.ref (a.2.2.2 0) :: [.int v1, .int v2]) τ post) (kk : ∀ r u, post r u → xW Γ a (mP a) u pc' L (.int r :: st)) (hq : y.cls = R_M := by rfl) (hk : k + 1 ≤ K ∧ nl' ≤ 9 := by decide) (hr : (st.map fun v => v.category).sum ≤ 8 := by exact Nat.le_of_ble_eq_true rfl) : xW Γ a (mP a) τ pc L (.int v2 :: .int v1 :: .ref (a.2.2.2 0) :: st) :=
  x_callI C w d hM rfl (ci := 1) (q := (R_M, F_M, 4)) rfl hq.symm rfl rfl hk hr kk
theorem m_cV2 {v1 v2 : Int32} {τ : xT} {y : MethodName} {bb : ByteArray} {nl' k idx : Nat} {ret : Option FieldType} {post : xT → Prop} (C : xC Γ a (mP a) cc nl R_M K) (w : xwV R_M idx y bb nl' ret 2) (d : xd cc pc (.invokevirtual idx) 3 pc') (hM : MV a (mP a) y bb nl' ret k (.ref (a.2.2.2 0) :: [.int v1, .int v2]) τ post) (kk : ∀ u, post u → xW Γ a (mP a) u pc' L st) (hq : y.cls = R_M := by rfl) (hk : k + 1 ≤ K ∧ nl' ≤ 9 := by decide) (hr : (st.map fun v => v.category).sum ≤ 8 := by exact Nat.le_of_ble_eq_true rfl) : xW Γ a (mP a) τ pc L (.int v2 :: .int v1 :: .ref (a.2.2.2 0) :: st) :=
  x_callV C w d hM rfl (ci := 1) (q := (R_M, F_M, 4)) rfl hq.symm rfl rfl hk hr kk
theorem m_cI3 {v1 v2 v3 : Int32} {τ : xT} {y : MethodName} {bb : ByteArray} {nl' k idx : Nat} {ret : Option FieldType} {post : Int32 → xT → Prop} (C : xC Γ a (mP a) cc nl R_M K) (w : xwV R_M idx y bb nl' ret 3) (d : xd cc pc (.invokevirtual idx) 3 pc') (hM : MI a (mP a) y bb nl' ret k (.ref (a.2.2.2 0) :: [.int v1, .int v2, .int v3]) τ post) (kk : ∀ r u, post r u → xW Γ a (mP a) u pc' L (.int r :: st)) (hq : y.cls = R_M := by rfl) (hk : k + 1 ≤ K ∧ nl' ≤ 9 := by decide) (hr : (st.map fun v => v.category).sum ≤ 8 := by exact Nat.le_of_ble_eq_true rfl) : xW Γ a (mP a) τ pc L (.int v3 :: .int v2 :: .int v1 :: .ref (a.2.2.2 0) :: st) :=
  x_callI C w d hM rfl (ci := 1) (q := (R_M, F_M, 4)) rfl hq.symm rfl rfl hk hr kk
theorem m_cV3 {v1 v2 v3 : Int32} {τ : xT} {y : MethodName} {bb : ByteArray} {nl' k idx : Nat} {ret : Option FieldType} {post : xT → Prop} (C : xC Γ a (mP a) cc nl R_M K) (w : xwV R_M idx y bb nl' ret 3) (d : xd cc pc (.invokevirtual idx) 3 pc') (hM : MV a (mP a) y bb nl' ret k (.ref (a.2.2.2 0) :: [.int v1, .int v2, .int v3]) τ post) (kk : ∀ u, post u → xW Γ a (mP a) u pc' L st) (hq : y.cls = R_M := by rfl) (hk : k + 1 ≤ K ∧ nl' ≤ 9 := by decide) (hr : (st.map fun v => v.category).sum ≤ 8 := by exact Nat.le_of_ble_eq_true rfl) : xW Γ a (mP a) τ pc L (.int v3 :: .int v2 :: .int v1 :: .ref (a.2.2.2 0) :: st) :=
  x_callV C w d hM rfl (ci := 1) (q := (R_M, F_M, 4)) rfl hq.symm rfl rfl hk hr kk
theorem m_cI4 {v1 v2 v3 v4 : Int32} {τ : xT} {y : MethodName} {bb : ByteArray} {nl' k idx : Nat} {ret : Option FieldType} {post : Int32 → xT → Prop} (C : xC Γ a (mP a) cc nl R_M K) (w : xwV R_M idx y bb nl' ret 4) (d : xd cc pc (.invokevirtual idx) 3 pc') (hM : MI a (mP a) y bb nl' ret k (.ref (a.2.2.2 0) :: [.int v1, .int v2, .int v3, .int v4]) τ post) (kk : ∀ r u, post r u → xW Γ a (mP a) u pc' L (.int r :: st)) (hq : y.cls = R_M := by rfl) (hk : k + 1 ≤ K ∧ nl' ≤ 9 := by decide) (hr : (st.map fun v => v.category).sum ≤ 8 := by exact Nat.le_of_ble_eq_true rfl) : xW Γ a (mP a) τ pc L (.int v4 :: .int v3 :: .int v2 :: .int v1 :: .ref (a.2.2.2 0) :: st) :=
  x_callI C w d hM rfl (ci := 1) (q := (R_M, F_M, 4)) rfl hq.symm rfl rfl hk hr kk
theorem m_cV4 {v1 v2 v3 v4 : Int32} {τ : xT} {y : MethodName} {bb : ByteArray} {nl' k idx : Nat} {ret : Option FieldType} {post : xT → Prop} (C : xC Γ a (mP a) cc nl R_M K) (w : xwV R_M idx y bb nl' ret 4) (d : xd cc pc (.invokevirtual idx) 3 pc') (hM : MV a (mP a) y bb nl' ret k (.ref (a.2.2.2 0) :: [.int v1, .int v2, .int v3, .int v4]) τ post) (kk : ∀ u, post u → xW Γ a (mP a) u pc' L st) (hq : y.cls = R_M := by rfl) (hk : k + 1 ≤ K ∧ nl' ≤ 9 := by decide) (hr : (st.map fun v => v.category).sum ≤ 8 := by exact Nat.le_of_ble_eq_true rfl) : xW Γ a (mP a) τ pc L (.int v4 :: .int v3 :: .int v2 :: .int v1 :: .ref (a.2.2.2 0) :: st) :=
  x_callV C w d hM rfl (ci := 1) (q := (R_M, F_M, 4)) rfl hq.symm rfl rfl hk hr kk
theorem x_sI0 {y : MethodName} {bb : ByteArray} {nl' k idx : Nat} {ret : Option FieldType} {post : Int32 → S → Prop} (C : xC Γ a wf cc nl own K) (w : xwS own idx y bb nl' ret 0) (d : xd cc pc (.invokestatic idx) 3 pc') (hM : MI a wf y bb nl' ret k [] σ post) (kk : ∀ r u, post r u → xW Γ a wf u pc' L (.int r :: st)) (hq : y.cls = own := by rfl) (hk : k + 1 ≤ K ∧ nl' ≤ 9 := by decide) (hr : (st.map fun v => v.category).sum ≤ 8 := by exact Nat.le_of_ble_eq_true rfl) : xW Γ a wf σ pc L (st) :=
  x_callS C w d hM hq rfl rfl hk hr kk
theorem x_sI1 {v1 : Int32} {y : MethodName} {bb : ByteArray} {nl' k idx : Nat} {ret : Option FieldType} {post : Int32 → S → Prop} (C : xC Γ a wf cc nl own K) (w : xwS own idx y bb nl' ret 1) (d : xd cc pc (.invokestatic idx) 3 pc') (hM : MI a wf y bb nl' ret k [.int v1] σ post) (kk : ∀ r u, post r u → xW Γ a wf u pc' L (.int r :: st)) (hq : y.cls = own := by rfl) (hk : k + 1 ≤ K ∧ nl' ≤ 9 := by decide) (hr : (st.map fun v => v.category).sum ≤ 8 := by exact Nat.le_of_ble_eq_true rfl) : xW Γ a wf σ pc L (.int v1 :: st) :=
  x_callS C w d hM hq rfl rfl hk hr kk
theorem x_sI2 {v1 v2 : Int32} {y : MethodName} {bb : ByteArray} {nl' k idx : Nat} {ret : Option FieldType} {post : Int32 → S → Prop} (C : xC Γ a wf cc nl own K) (w : xwS own idx y bb nl' ret 2) (d : xd cc pc (.invokestatic idx) 3 pc') (hM : MI a wf y bb nl' ret k [.int v1, .int v2] σ post) (kk : ∀ r u, post r u → xW Γ a wf u pc' L (.int r :: st)) (hq : y.cls = own := by rfl) (hk : k + 1 ≤ K ∧ nl' ≤ 9 := by decide) (hr : (st.map fun v => v.category).sum ≤ 8 := by exact Nat.le_of_ble_eq_true rfl) : xW Γ a wf σ pc L (.int v2 :: .int v1 :: st) :=
  x_callS C w d hM hq rfl rfl hk hr kk
end XK
end
section
/-! decode rows of PageRangeStore (printed by gen.py) -/
theorem d_X_init_0 : xd b_X_init 0 (.aload_n 0) 1 1 := ⟨by decide +kernel, rfl⟩
theorem d_X_init_1 : xd b_X_init 1 (.invokespecial 1) 3 4 := ⟨by decide +kernel, rfl⟩
theorem d_X_init_4 : xd b_X_init 4 (.aload_n 0) 1 5 := ⟨by decide +kernel, rfl⟩
theorem d_X_init_5 : xd b_X_init 5 (.bipush 48) 2 7 := ⟨by decide +kernel, rfl⟩
theorem d_X_init_7 : xd b_X_init 7 (.newarray .int) 2 9 := ⟨by decide +kernel, rfl⟩
theorem d_X_init_9 : xd b_X_init 9 (.putfield 7) 3 12 := ⟨by decide +kernel, rfl⟩
theorem d_X_init_12 : xd b_X_init 12 (.aload_n 0) 1 13 := ⟨by decide +kernel, rfl⟩
theorem d_X_init_13 : xd b_X_init 13 (.sipush 192) 3 16 := ⟨by decide +kernel, rfl⟩
theorem d_X_init_16 : xd b_X_init 16 (.newarray .boolean) 2 18 := ⟨by decide +kernel, rfl⟩
theorem d_X_init_18 : xd b_X_init 18 (.putfield 13) 3 21 := ⟨by decide +kernel, rfl⟩
theorem d_X_init_21 : xd b_X_init 21 (.aload_n 0) 1 22 := ⟨by decide +kernel, rfl⟩
theorem d_X_init_22 : xd b_X_init 22 (.bipush 64) 2 24 := ⟨by decide +kernel, rfl⟩
theorem d_X_init_24 : xd b_X_init 24 (.newarray .int) 2 26 := ⟨by decide +kernel, rfl⟩
theorem d_X_init_26 : xd b_X_init 26 (.putfield 17) 3 29 := ⟨by decide +kernel, rfl⟩
theorem d_X_init_29 : xd b_X_init 29 (.aload_n 0) 1 30 := ⟨by decide +kernel, rfl⟩
theorem d_X_init_30 : xd b_X_init 30 (.bipush 64) 2 32 := ⟨by decide +kernel, rfl⟩
theorem d_X_init_32 : xd b_X_init 32 (.newarray .boolean) 2 34 := ⟨by decide +kernel, rfl⟩
theorem d_X_init_34 : xd b_X_init 34 (.putfield 20) 3 37 := ⟨by decide +kernel, rfl⟩
theorem d_X_init_37 : xd b_X_init 37 (.aload_n 0) 1 38 := ⟨by decide +kernel, rfl⟩
theorem d_X_init_38 : xd b_X_init 38 (.bipush 16) 2 40 := ⟨by decide +kernel, rfl⟩
theorem d_X_init_40 : xd b_X_init 40 (.newarray .int) 2 42 := ⟨by decide +kernel, rfl⟩
theorem d_X_init_42 : xd b_X_init 42 (.putfield 23) 3 45 := ⟨by decide +kernel, rfl⟩
theorem d_X_init_45 : xd b_X_init 45 (.aload_n 0) 1 46 := ⟨by decide +kernel, rfl⟩
theorem d_X_init_46 : xd b_X_init 46 (.bipush 16) 2 48 := ⟨by decide +kernel, rfl⟩
theorem d_X_init_48 : xd b_X_init 48 (.newarray .int) 2 50 := ⟨by decide +kernel, rfl⟩
theorem d_X_init_50 : xd b_X_init 50 (.putfield 26) 3 53 := ⟨by decide +kernel, rfl⟩
theorem d_X_init_53 : xd b_X_init 53 (.aload_n 0) 1 54 := ⟨by decide +kernel, rfl⟩
theorem d_X_init_54 : xd b_X_init 54 (.bipush 16) 2 56 := ⟨by decide +kernel, rfl⟩
theorem d_X_init_56 : xd b_X_init 56 (.newarray .boolean) 2 58 := ⟨by decide +kernel, rfl⟩
theorem d_X_init_58 : xd b_X_init 58 (.putfield 29) 3 61 := ⟨by decide +kernel, rfl⟩
theorem d_X_init_61 : xd b_X_init 61 (.aload_n 0) 1 62 := ⟨by decide +kernel, rfl⟩
theorem d_X_init_62 : xd b_X_init 62 (.bipush 16) 2 64 := ⟨by decide +kernel, rfl⟩
theorem d_X_init_64 : xd b_X_init 64 (.newarray .boolean) 2 66 := ⟨by decide +kernel, rfl⟩
theorem d_X_init_66 : xd b_X_init 66 (.putfield 32) 3 69 := ⟨by decide +kernel, rfl⟩
theorem d_X_init_69 : xd b_X_init 69 (.aload_n 0) 1 70 := ⟨by decide +kernel, rfl⟩
theorem d_X_init_70 : xd b_X_init 70 (.bipush 16) 2 72 := ⟨by decide +kernel, rfl⟩
theorem d_X_init_72 : xd b_X_init 72 (.newarray .int) 2 74 := ⟨by decide +kernel, rfl⟩
theorem d_X_init_74 : xd b_X_init 74 (.putfield 35) 3 77 := ⟨by decide +kernel, rfl⟩
theorem d_X_init_77 : xd b_X_init 77 (.iload_n 1) 1 78 := ⟨by decide +kernel, rfl⟩
theorem d_X_init_78 : xd b_X_init 78 (.bipush 8) 2 80 := ⟨by decide +kernel, rfl⟩
theorem d_X_init_80 : xb b_X_init 80 (.if_icmp .ge 8) 8 83 88 := ⟨by decide +kernel, rfl, by decide⟩
theorem d_X_init_83 : xd b_X_init 83 (.bipush 8) 2 85 := ⟨by decide +kernel, rfl⟩
theorem d_X_init_85 : xb b_X_init 85 (.goto 4) 4 88 89 := ⟨by decide +kernel, rfl, by decide⟩
theorem d_X_init_88 : xd b_X_init 88 (.iload_n 1) 1 89 := ⟨by decide +kernel, rfl⟩
theorem d_X_init_89 : xd b_X_init 89 (.istore_n 2) 1 90 := ⟨by decide +kernel, rfl⟩
theorem d_X_init_90 : xd b_X_init 90 (.iload_n 2) 1 91 := ⟨by decide +kernel, rfl⟩
theorem d_X_init_91 : xd b_X_init 91 (.bipush 48) 2 93 := ⟨by decide +kernel, rfl⟩
theorem d_X_init_93 : xb b_X_init 93 (.if_icmp .le 6) 6 96 99 := ⟨by decide +kernel, rfl, by decide⟩
theorem d_X_init_96 : xd b_X_init 96 (.bipush 48) 2 98 := ⟨by decide +kernel, rfl⟩
theorem d_X_init_98 : xd b_X_init 98 (.istore_n 2) 1 99 := ⟨by decide +kernel, rfl⟩
theorem d_X_init_99 : xd b_X_init 99 (.aload_n 0) 1 100 := ⟨by decide +kernel, rfl⟩
theorem d_X_init_100 : xd b_X_init 100 (.iload_n 2) 1 101 := ⟨by decide +kernel, rfl⟩
theorem d_X_init_101 : xd b_X_init 101 (.iload_n 2) 1 102 := ⟨by decide +kernel, rfl⟩
theorem d_X_init_102 : xd b_X_init 102 (.bipush 8) 2 104 := ⟨by decide +kernel, rfl⟩
theorem d_X_init_104 : xd b_X_init 104 (.irem) 1 105 := ⟨by decide +kernel, rfl⟩
theorem d_X_init_105 : xd b_X_init 105 (.isub) 1 106 := ⟨by decide +kernel, rfl⟩
theorem d_X_init_106 : xd b_X_init 106 (.putfield 38) 3 109 := ⟨by decide +kernel, rfl⟩
theorem d_X_init_109 : xd b_X_init 109 (.iconst 0) 1 110 := ⟨by decide +kernel, rfl⟩
theorem d_X_init_110 : xd b_X_init 110 (.istore_n 3) 1 111 := ⟨by decide +kernel, rfl⟩
theorem d_X_init_111 : xd b_X_init 111 (.iload_n 3) 1 112 := ⟨by decide +kernel, rfl⟩
theorem d_X_init_112 : xd b_X_init 112 (.aload_n 0) 1 113 := ⟨by decide +kernel, rfl⟩
theorem d_X_init_113 : xd b_X_init 113 (.getfield 38) 3 116 := ⟨by decide +kernel, rfl⟩
theorem d_X_init_116 : xb b_X_init 116 (.if_icmp .ge 20) 20 119 136 := ⟨by decide +kernel, rfl, by decide⟩
theorem d_X_init_119 : xd b_X_init 119 (.aload_n 0) 1 120 := ⟨by decide +kernel, rfl⟩
theorem d_X_init_120 : xd b_X_init 120 (.getfield 13) 3 123 := ⟨by decide +kernel, rfl⟩
theorem d_X_init_123 : xd b_X_init 123 (.sipush 144) 3 126 := ⟨by decide +kernel, rfl⟩
theorem d_X_init_126 : xd b_X_init 126 (.iload_n 3) 1 127 := ⟨by decide +kernel, rfl⟩
theorem d_X_init_127 : xd b_X_init 127 (.iadd) 1 128 := ⟨by decide +kernel, rfl⟩
theorem d_X_init_128 : xd b_X_init 128 (.iconst 1) 1 129 := ⟨by decide +kernel, rfl⟩
theorem d_X_init_129 : xd b_X_init 129 (.bastore) 1 130 := ⟨by decide +kernel, rfl⟩
theorem d_X_init_130 : xd b_X_init 130 (.iinc 3 8) 3 133 := ⟨by decide +kernel, rfl⟩
theorem d_X_init_133 : xb b_X_init 133 (.goto (-22)) (-22) 136 111 := ⟨by decide +kernel, rfl, by decide⟩
theorem d_X_init_136 : xd b_X_init 136 (.iconst 0) 1 137 := ⟨by decide +kernel, rfl⟩
theorem d_X_init_137 : xd b_X_init 137 (.istore_n 3) 1 138 := ⟨by decide +kernel, rfl⟩
theorem d_X_init_138 : xd b_X_init 138 (.iload_n 3) 1 139 := ⟨by decide +kernel, rfl⟩
theorem d_X_init_139 : xd b_X_init 139 (.bipush 64) 2 141 := ⟨by decide +kernel, rfl⟩
theorem d_X_init_141 : xb b_X_init 141 (.if_icmp .ge 16) 16 144 157 := ⟨by decide +kernel, rfl, by decide⟩
theorem d_X_init_144 : xd b_X_init 144 (.aload_n 0) 1 145 := ⟨by decide +kernel, rfl⟩
theorem d_X_init_145 : xd b_X_init 145 (.getfield 17) 3 148 := ⟨by decide +kernel, rfl⟩
theorem d_X_init_148 : xd b_X_init 148 (.iload_n 3) 1 149 := ⟨by decide +kernel, rfl⟩
theorem d_X_init_149 : xd b_X_init 149 (.iconst (-1)) 1 150 := ⟨by decide +kernel, rfl⟩
theorem d_X_init_150 : xd b_X_init 150 (.iastore) 1 151 := ⟨by decide +kernel, rfl⟩
theorem d_X_init_151 : xd b_X_init 151 (.iinc 3 1) 3 154 := ⟨by decide +kernel, rfl⟩
theorem d_X_init_154 : xb b_X_init 154 (.goto (-16)) (-16) 157 138 := ⟨by decide +kernel, rfl, by decide⟩
theorem d_X_init_157 : xd b_X_init 157 (.iconst 0) 1 158 := ⟨by decide +kernel, rfl⟩
theorem d_X_init_158 : xd b_X_init 158 (.istore_n 3) 1 159 := ⟨by decide +kernel, rfl⟩
theorem d_X_init_159 : xd b_X_init 159 (.iload_n 3) 1 160 := ⟨by decide +kernel, rfl⟩
theorem d_X_init_160 : xd b_X_init 160 (.bipush 16) 2 162 := ⟨by decide +kernel, rfl⟩
theorem d_X_init_162 : xb b_X_init 162 (.if_icmp .ge 16) 16 165 178 := ⟨by decide +kernel, rfl, by decide⟩
theorem d_X_init_165 : xd b_X_init 165 (.aload_n 0) 1 166 := ⟨by decide +kernel, rfl⟩
theorem d_X_init_166 : xd b_X_init 166 (.getfield 23) 3 169 := ⟨by decide +kernel, rfl⟩
theorem d_X_init_169 : xd b_X_init 169 (.iload_n 3) 1 170 := ⟨by decide +kernel, rfl⟩
theorem d_X_init_170 : xd b_X_init 170 (.iconst (-1)) 1 171 := ⟨by decide +kernel, rfl⟩
theorem d_X_init_171 : xd b_X_init 171 (.iastore) 1 172 := ⟨by decide +kernel, rfl⟩
theorem d_X_init_172 : xd b_X_init 172 (.iinc 3 1) 3 175 := ⟨by decide +kernel, rfl⟩
theorem d_X_init_175 : xb b_X_init 175 (.goto (-16)) (-16) 178 159 := ⟨by decide +kernel, rfl, by decide⟩
theorem d_X_init_178 : xd b_X_init 178 (.return_) 1 179 := ⟨by decide +kernel, rfl⟩
theorem d_X_frames_0 : xd b_X_frames 0 (.aload_n 0) 1 1 := ⟨by decide +kernel, rfl⟩
theorem d_X_frames_1 : xd b_X_frames 1 (.getfield 38) 3 4 := ⟨by decide +kernel, rfl⟩
theorem d_X_frames_4 : xd b_X_frames 4 (.ireturn) 1 5 := ⟨by decide +kernel, rfl⟩
theorem d_X_used_0 : xd b_X_used 0 (.aload_n 0) 1 1 := ⟨by decide +kernel, rfl⟩
theorem d_X_used_1 : xd b_X_used 1 (.getfield 42) 3 4 := ⟨by decide +kernel, rfl⟩
theorem d_X_used_4 : xd b_X_used 4 (.ireturn) 1 5 := ⟨by decide +kernel, rfl⟩
theorem d_X_mappedIn_0 : xd b_X_mappedIn 0 (.iload_n 1) 1 1 := ⟨by decide +kernel, rfl⟩
theorem d_X_mappedIn_1 : xd b_X_mappedIn 1 (.invokestatic 45) 3 4 := ⟨by decide +kernel, rfl⟩
theorem d_X_mappedIn_4 : xb b_X_mappedIn 4 (.ifCond .ne 5) 5 7 9 := ⟨by decide +kernel, rfl, by decide⟩
theorem d_X_mappedIn_7 : xd b_X_mappedIn 7 (.iconst (-1)) 1 8 := ⟨by decide +kernel, rfl⟩
theorem d_X_mappedIn_8 : xd b_X_mappedIn 8 (.ireturn) 1 9 := ⟨by decide +kernel, rfl⟩
theorem d_X_mappedIn_9 : xd b_X_mappedIn 9 (.iconst 0) 1 10 := ⟨by decide +kernel, rfl⟩
theorem d_X_mappedIn_10 : xd b_X_mappedIn 10 (.istore_n 2) 1 11 := ⟨by decide +kernel, rfl⟩
theorem d_X_mappedIn_11 : xd b_X_mappedIn 11 (.bipush 8) 2 13 := ⟨by decide +kernel, rfl⟩
theorem d_X_mappedIn_13 : xd b_X_mappedIn 13 (.iload_n 1) 1 14 := ⟨by decide +kernel, rfl⟩
theorem d_X_mappedIn_14 : xd b_X_mappedIn 14 (.imul) 1 15 := ⟨by decide +kernel, rfl⟩
theorem d_X_mappedIn_15 : xd b_X_mappedIn 15 (.istore_n 3) 1 16 := ⟨by decide +kernel, rfl⟩
theorem d_X_mappedIn_16 : xd b_X_mappedIn 16 (.iload_n 3) 1 17 := ⟨by decide +kernel, rfl⟩
theorem d_X_mappedIn_17 : xd b_X_mappedIn 17 (.bipush 8) 2 19 := ⟨by decide +kernel, rfl⟩
theorem d_X_mappedIn_19 : xd b_X_mappedIn 19 (.iload_n 1) 1 20 := ⟨by decide +kernel, rfl⟩
theorem d_X_mappedIn_20 : xd b_X_mappedIn 20 (.imul) 1 21 := ⟨by decide +kernel, rfl⟩
theorem d_X_mappedIn_21 : xd b_X_mappedIn 21 (.bipush 8) 2 23 := ⟨by decide +kernel, rfl⟩
theorem d_X_mappedIn_23 : xd b_X_mappedIn 23 (.iadd) 1 24 := ⟨by decide +kernel, rfl⟩
theorem d_X_mappedIn_24 : xb b_X_mappedIn 24 (.if_icmp .ge 21) 21 27 45 := ⟨by decide +kernel, rfl, by decide⟩
theorem d_X_mappedIn_27 : xd b_X_mappedIn 27 (.iload_n 2) 1 28 := ⟨by decide +kernel, rfl⟩
theorem d_X_mappedIn_28 : xd b_X_mappedIn 28 (.aload_n 0) 1 29 := ⟨by decide +kernel, rfl⟩
theorem d_X_mappedIn_29 : xd b_X_mappedIn 29 (.getfield 26) 3 32 := ⟨by decide +kernel, rfl⟩
theorem d_X_mappedIn_32 : xd b_X_mappedIn 32 (.iload_n 3) 1 33 := ⟨by decide +kernel, rfl⟩
theorem d_X_mappedIn_33 : xd b_X_mappedIn 33 (.iaload) 1 34 := ⟨by decide +kernel, rfl⟩
theorem d_X_mappedIn_34 : xd b_X_mappedIn 34 (.invokestatic 49) 3 37 := ⟨by decide +kernel, rfl⟩
theorem d_X_mappedIn_37 : xd b_X_mappedIn 37 (.iadd) 1 38 := ⟨by decide +kernel, rfl⟩
theorem d_X_mappedIn_38 : xd b_X_mappedIn 38 (.istore_n 2) 1 39 := ⟨by decide +kernel, rfl⟩
theorem d_X_mappedIn_39 : xd b_X_mappedIn 39 (.iinc 3 1) 3 42 := ⟨by decide +kernel, rfl⟩
theorem d_X_mappedIn_42 : xb b_X_mappedIn 42 (.goto (-26)) (-26) 45 16 := ⟨by decide +kernel, rfl, by decide⟩
theorem d_X_mappedIn_45 : xd b_X_mappedIn 45 (.iload_n 2) 1 46 := ⟨by decide +kernel, rfl⟩
theorem d_X_mappedIn_46 : xd b_X_mappedIn 46 (.ireturn) 1 47 := ⟨by decide +kernel, rfl⟩
theorem d_X_map_0 : xd b_X_map 0 (.iload_n 1) 1 1 := ⟨by decide +kernel, rfl⟩
theorem d_X_map_1 : xd b_X_map 1 (.invokestatic 45) 3 4 := ⟨by decide +kernel, rfl⟩
theorem d_X_map_4 : xb b_X_map 4 (.ifCond .ne 5) 5 7 9 := ⟨by decide +kernel, rfl, by decide⟩
theorem d_X_map_7 : xd b_X_map 7 (.iconst (-1)) 1 8 := ⟨by decide +kernel, rfl⟩
theorem d_X_map_8 : xd b_X_map 8 (.ireturn) 1 9 := ⟨by decide +kernel, rfl⟩
theorem d_X_map_9 : xd b_X_map 9 (.iload_n 2) 1 10 := ⟨by decide +kernel, rfl⟩
theorem d_X_map_10 : xd b_X_map 10 (.iload_n 3) 1 11 := ⟨by decide +kernel, rfl⟩
theorem d_X_map_11 : xd b_X_map 11 (.invokestatic 53) 3 14 := ⟨by decide +kernel, rfl⟩
theorem d_X_map_14 : xb b_X_map 14 (.ifCond .ne 6) 6 17 20 := ⟨by decide +kernel, rfl, by decide⟩
theorem d_X_map_17 : xd b_X_map 17 (.bipush (-2)) 2 19 := ⟨by decide +kernel, rfl⟩
theorem d_X_map_19 : xd b_X_map 19 (.ireturn) 1 20 := ⟨by decide +kernel, rfl⟩
theorem d_X_map_20 : xd b_X_map 20 (.bipush 32) 2 22 := ⟨by decide +kernel, rfl⟩
theorem d_X_map_22 : xd b_X_map 22 (.iload_n 1) 1 23 := ⟨by decide +kernel, rfl⟩
theorem d_X_map_23 : xd b_X_map 23 (.imul) 1 24 := ⟨by decide +kernel, rfl⟩
theorem d_X_map_24 : xd b_X_map 24 (.iload_n 2) 1 25 := ⟨by decide +kernel, rfl⟩
theorem d_X_map_25 : xd b_X_map 25 (.iadd) 1 26 := ⟨by decide +kernel, rfl⟩
theorem d_X_map_26 : xd b_X_map 26 (.istore 4) 2 28 := ⟨by decide +kernel, rfl⟩
theorem d_X_map_28 : xd b_X_map 28 (.iconst 0) 1 29 := ⟨by decide +kernel, rfl⟩
theorem d_X_map_29 : xd b_X_map 29 (.istore 5) 2 31 := ⟨by decide +kernel, rfl⟩
theorem d_X_map_31 : xd b_X_map 31 (.iload 4) 2 33 := ⟨by decide +kernel, rfl⟩
theorem d_X_map_33 : xd b_X_map 33 (.istore 6) 2 35 := ⟨by decide +kernel, rfl⟩
theorem d_X_map_35 : xd b_X_map 35 (.iload 6) 2 37 := ⟨by decide +kernel, rfl⟩
theorem d_X_map_37 : xd b_X_map 37 (.iload 4) 2 39 := ⟨by decide +kernel, rfl⟩
theorem d_X_map_39 : xd b_X_map 39 (.iload_n 3) 1 40 := ⟨by decide +kernel, rfl⟩
theorem d_X_map_40 : xd b_X_map 40 (.iadd) 1 41 := ⟨by decide +kernel, rfl⟩
theorem d_X_map_41 : xb b_X_map 41 (.if_icmp .ge 21) 21 44 62 := ⟨by decide +kernel, rfl, by decide⟩
theorem d_X_map_44 : xd b_X_map 44 (.aload_n 0) 1 45 := ⟨by decide +kernel, rfl⟩
theorem d_X_map_45 : xd b_X_map 45 (.iload 6) 2 47 := ⟨by decide +kernel, rfl⟩
theorem d_X_map_47 : xd b_X_map 47 (.invokevirtual 57) 3 50 := ⟨by decide +kernel, rfl⟩
theorem d_X_map_50 : xb b_X_map 50 (.ifCond .ne 6) 6 53 56 := ⟨by decide +kernel, rfl, by decide⟩
theorem d_X_map_53 : xd b_X_map 53 (.iinc 5 1) 3 56 := ⟨by decide +kernel, rfl⟩
theorem d_X_map_56 : xd b_X_map 56 (.iinc 6 1) 3 59 := ⟨by decide +kernel, rfl⟩
theorem d_X_map_59 : xb b_X_map 59 (.goto (-24)) (-24) 62 35 := ⟨by decide +kernel, rfl, by decide⟩
theorem d_X_map_62 : xd b_X_map 62 (.aload_n 0) 1 63 := ⟨by decide +kernel, rfl⟩
theorem d_X_map_63 : xd b_X_map 63 (.getfield 42) 3 66 := ⟨by decide +kernel, rfl⟩
theorem d_X_map_66 : xd b_X_map 66 (.iload 5) 2 68 := ⟨by decide +kernel, rfl⟩
theorem d_X_map_68 : xd b_X_map 68 (.iadd) 1 69 := ⟨by decide +kernel, rfl⟩
theorem d_X_map_69 : xd b_X_map 69 (.aload_n 0) 1 70 := ⟨by decide +kernel, rfl⟩
theorem d_X_map_70 : xd b_X_map 70 (.getfield 38) 3 73 := ⟨by decide +kernel, rfl⟩
theorem d_X_map_73 : xb b_X_map 73 (.if_icmp .le 6) 6 76 79 := ⟨by decide +kernel, rfl, by decide⟩
theorem d_X_map_76 : xd b_X_map 76 (.bipush (-3)) 2 78 := ⟨by decide +kernel, rfl⟩
theorem d_X_map_78 : xd b_X_map 78 (.ireturn) 1 79 := ⟨by decide +kernel, rfl⟩
theorem d_X_map_79 : xd b_X_map 79 (.iload 4) 2 81 := ⟨by decide +kernel, rfl⟩
theorem d_X_map_81 : xd b_X_map 81 (.istore 6) 2 83 := ⟨by decide +kernel, rfl⟩
theorem d_X_map_83 : xd b_X_map 83 (.iload 6) 2 85 := ⟨by decide +kernel, rfl⟩
theorem d_X_map_85 : xd b_X_map 85 (.iload 4) 2 87 := ⟨by decide +kernel, rfl⟩
theorem d_X_map_87 : xd b_X_map 87 (.iload_n 3) 1 88 := ⟨by decide +kernel, rfl⟩
theorem d_X_map_88 : xd b_X_map 88 (.iadd) 1 89 := ⟨by decide +kernel, rfl⟩
theorem d_X_map_89 : xb b_X_map 89 (.if_icmp .ge 26) 26 92 115 := ⟨by decide +kernel, rfl, by decide⟩
theorem d_X_map_92 : xd b_X_map 92 (.aload_n 0) 1 93 := ⟨by decide +kernel, rfl⟩
theorem d_X_map_93 : xd b_X_map 93 (.iload 6) 2 95 := ⟨by decide +kernel, rfl⟩
theorem d_X_map_95 : xd b_X_map 95 (.invokevirtual 57) 3 98 := ⟨by decide +kernel, rfl⟩
theorem d_X_map_98 : xb b_X_map 98 (.ifCond .ne 11) 11 101 109 := ⟨by decide +kernel, rfl, by decide⟩
theorem d_X_map_101 : xd b_X_map 101 (.aload_n 0) 1 102 := ⟨by decide +kernel, rfl⟩
theorem d_X_map_102 : xd b_X_map 102 (.iload 6) 2 104 := ⟨by decide +kernel, rfl⟩
theorem d_X_map_104 : xd b_X_map 104 (.iconst 1) 1 105 := ⟨by decide +kernel, rfl⟩
theorem d_X_map_105 : xd b_X_map 105 (.iconst 0) 1 106 := ⟨by decide +kernel, rfl⟩
theorem d_X_map_106 : xd b_X_map 106 (.invokevirtual 60) 3 109 := ⟨by decide +kernel, rfl⟩
theorem d_X_map_109 : xd b_X_map 109 (.iinc 6 1) 3 112 := ⟨by decide +kernel, rfl⟩
theorem d_X_map_112 : xb b_X_map 112 (.goto (-29)) (-29) 115 83 := ⟨by decide +kernel, rfl, by decide⟩
theorem d_X_map_115 : xd b_X_map 115 (.iload 5) 2 117 := ⟨by decide +kernel, rfl⟩
theorem d_X_map_117 : xd b_X_map 117 (.ireturn) 1 118 := ⟨by decide +kernel, rfl⟩
theorem d_X_unmap_0 : xd b_X_unmap 0 (.iload_n 1) 1 1 := ⟨by decide +kernel, rfl⟩
theorem d_X_unmap_1 : xd b_X_unmap 1 (.invokestatic 45) 3 4 := ⟨by decide +kernel, rfl⟩
theorem d_X_unmap_4 : xb b_X_unmap 4 (.ifCond .ne 5) 5 7 9 := ⟨by decide +kernel, rfl, by decide⟩
theorem d_X_unmap_7 : xd b_X_unmap 7 (.iconst (-1)) 1 8 := ⟨by decide +kernel, rfl⟩
theorem d_X_unmap_8 : xd b_X_unmap 8 (.ireturn) 1 9 := ⟨by decide +kernel, rfl⟩
theorem d_X_unmap_9 : xd b_X_unmap 9 (.iload_n 2) 1 10 := ⟨by decide +kernel, rfl⟩
theorem d_X_unmap_10 : xd b_X_unmap 10 (.iload_n 3) 1 11 := ⟨by decide +kernel, rfl⟩
theorem d_X_unmap_11 : xd b_X_unmap 11 (.invokestatic 53) 3 14 := ⟨by decide +kernel, rfl⟩
theorem d_X_unmap_14 : xb b_X_unmap 14 (.ifCond .ne 6) 6 17 20 := ⟨by decide +kernel, rfl, by decide⟩
theorem d_X_unmap_17 : xd b_X_unmap 17 (.bipush (-2)) 2 19 := ⟨by decide +kernel, rfl⟩
theorem d_X_unmap_19 : xd b_X_unmap 19 (.ireturn) 1 20 := ⟨by decide +kernel, rfl⟩
theorem d_X_unmap_20 : xd b_X_unmap 20 (.bipush 32) 2 22 := ⟨by decide +kernel, rfl⟩
theorem d_X_unmap_22 : xd b_X_unmap 22 (.iload_n 1) 1 23 := ⟨by decide +kernel, rfl⟩
theorem d_X_unmap_23 : xd b_X_unmap 23 (.imul) 1 24 := ⟨by decide +kernel, rfl⟩
theorem d_X_unmap_24 : xd b_X_unmap 24 (.iload_n 2) 1 25 := ⟨by decide +kernel, rfl⟩
theorem d_X_unmap_25 : xd b_X_unmap 25 (.iadd) 1 26 := ⟨by decide +kernel, rfl⟩
theorem d_X_unmap_26 : xd b_X_unmap 26 (.istore 4) 2 28 := ⟨by decide +kernel, rfl⟩
theorem d_X_unmap_28 : xd b_X_unmap 28 (.iconst 0) 1 29 := ⟨by decide +kernel, rfl⟩
theorem d_X_unmap_29 : xd b_X_unmap 29 (.istore 5) 2 31 := ⟨by decide +kernel, rfl⟩
theorem d_X_unmap_31 : xd b_X_unmap 31 (.iload 4) 2 33 := ⟨by decide +kernel, rfl⟩
theorem d_X_unmap_33 : xd b_X_unmap 33 (.istore 6) 2 35 := ⟨by decide +kernel, rfl⟩
theorem d_X_unmap_35 : xd b_X_unmap 35 (.iload 6) 2 37 := ⟨by decide +kernel, rfl⟩
theorem d_X_unmap_37 : xd b_X_unmap 37 (.iload 4) 2 39 := ⟨by decide +kernel, rfl⟩
theorem d_X_unmap_39 : xd b_X_unmap 39 (.iload_n 3) 1 40 := ⟨by decide +kernel, rfl⟩
theorem d_X_unmap_40 : xd b_X_unmap 40 (.iadd) 1 41 := ⟨by decide +kernel, rfl⟩
theorem d_X_unmap_41 : xb b_X_unmap 41 (.if_icmp .ge 27) 27 44 68 := ⟨by decide +kernel, rfl, by decide⟩
theorem d_X_unmap_44 : xd b_X_unmap 44 (.aload_n 0) 1 45 := ⟨by decide +kernel, rfl⟩
theorem d_X_unmap_45 : xd b_X_unmap 45 (.iload 6) 2 47 := ⟨by decide +kernel, rfl⟩
theorem d_X_unmap_47 : xd b_X_unmap 47 (.invokevirtual 57) 3 50 := ⟨by decide +kernel, rfl⟩
theorem d_X_unmap_50 : xb b_X_unmap 50 (.ifCond .eq 12) 12 53 62 := ⟨by decide +kernel, rfl, by decide⟩
theorem d_X_unmap_53 : xd b_X_unmap 53 (.aload_n 0) 1 54 := ⟨by decide +kernel, rfl⟩
theorem d_X_unmap_54 : xd b_X_unmap 54 (.iload 6) 2 56 := ⟨by decide +kernel, rfl⟩
theorem d_X_unmap_56 : xd b_X_unmap 56 (.invokevirtual 64) 3 59 := ⟨by decide +kernel, rfl⟩
theorem d_X_unmap_59 : xd b_X_unmap 59 (.iinc 5 1) 3 62 := ⟨by decide +kernel, rfl⟩
theorem d_X_unmap_62 : xd b_X_unmap 62 (.iinc 6 1) 3 65 := ⟨by decide +kernel, rfl⟩
theorem d_X_unmap_65 : xb b_X_unmap 65 (.goto (-30)) (-30) 68 35 := ⟨by decide +kernel, rfl, by decide⟩
theorem d_X_unmap_68 : xd b_X_unmap 68 (.iload 5) 2 70 := ⟨by decide +kernel, rfl⟩
theorem d_X_unmap_70 : xd b_X_unmap 70 (.ireturn) 1 71 := ⟨by decide +kernel, rfl⟩
theorem d_X_protect_0 : xd b_X_protect 0 (.iload_n 1) 1 1 := ⟨by decide +kernel, rfl⟩
theorem d_X_protect_1 : xd b_X_protect 1 (.invokestatic 45) 3 4 := ⟨by decide +kernel, rfl⟩
theorem d_X_protect_4 : xb b_X_protect 4 (.ifCond .ne 5) 5 7 9 := ⟨by decide +kernel, rfl, by decide⟩
theorem d_X_protect_7 : xd b_X_protect 7 (.iconst (-1)) 1 8 := ⟨by decide +kernel, rfl⟩
theorem d_X_protect_8 : xd b_X_protect 8 (.ireturn) 1 9 := ⟨by decide +kernel, rfl⟩
theorem d_X_protect_9 : xd b_X_protect 9 (.iload_n 2) 1 10 := ⟨by decide +kernel, rfl⟩
theorem d_X_protect_10 : xd b_X_protect 10 (.iload_n 3) 1 11 := ⟨by decide +kernel, rfl⟩
theorem d_X_protect_11 : xd b_X_protect 11 (.invokestatic 53) 3 14 := ⟨by decide +kernel, rfl⟩
theorem d_X_protect_14 : xb b_X_protect 14 (.ifCond .ne 6) 6 17 20 := ⟨by decide +kernel, rfl, by decide⟩
theorem d_X_protect_17 : xd b_X_protect 17 (.bipush (-2)) 2 19 := ⟨by decide +kernel, rfl⟩
theorem d_X_protect_19 : xd b_X_protect 19 (.ireturn) 1 20 := ⟨by decide +kernel, rfl⟩
theorem d_X_protect_20 : xd b_X_protect 20 (.bipush 32) 2 22 := ⟨by decide +kernel, rfl⟩
theorem d_X_protect_22 : xd b_X_protect 22 (.iload_n 1) 1 23 := ⟨by decide +kernel, rfl⟩
theorem d_X_protect_23 : xd b_X_protect 23 (.imul) 1 24 := ⟨by decide +kernel, rfl⟩
theorem d_X_protect_24 : xd b_X_protect 24 (.iload_n 2) 1 25 := ⟨by decide +kernel, rfl⟩
theorem d_X_protect_25 : xd b_X_protect 25 (.iadd) 1 26 := ⟨by decide +kernel, rfl⟩
theorem d_X_protect_26 : xd b_X_protect 26 (.istore 5) 2 28 := ⟨by decide +kernel, rfl⟩
theorem d_X_protect_28 : xd b_X_protect 28 (.iconst 0) 1 29 := ⟨by decide +kernel, rfl⟩
theorem d_X_protect_29 : xd b_X_protect 29 (.istore 6) 2 31 := ⟨by decide +kernel, rfl⟩
theorem d_X_protect_31 : xd b_X_protect 31 (.iload 5) 2 33 := ⟨by decide +kernel, rfl⟩
theorem d_X_protect_33 : xd b_X_protect 33 (.istore 7) 2 35 := ⟨by decide +kernel, rfl⟩
theorem d_X_protect_35 : xd b_X_protect 35 (.iload 7) 2 37 := ⟨by decide +kernel, rfl⟩
theorem d_X_protect_37 : xd b_X_protect 37 (.iload 5) 2 39 := ⟨by decide +kernel, rfl⟩
theorem d_X_protect_39 : xd b_X_protect 39 (.iload_n 3) 1 40 := ⟨by decide +kernel, rfl⟩
theorem d_X_protect_40 : xd b_X_protect 40 (.iadd) 1 41 := ⟨by decide +kernel, rfl⟩
theorem d_X_protect_41 : xb b_X_protect 41 (.if_icmp .ge 60) 60 44 101 := ⟨by decide +kernel, rfl, by decide⟩
theorem d_X_protect_44 : xd b_X_protect 44 (.aload_n 0) 1 45 := ⟨by decide +kernel, rfl⟩
theorem d_X_protect_45 : xd b_X_protect 45 (.iload 7) 2 47 := ⟨by decide +kernel, rfl⟩
theorem d_X_protect_47 : xd b_X_protect 47 (.invokevirtual 57) 3 50 := ⟨by decide +kernel, rfl⟩
theorem d_X_protect_50 : xb b_X_protect 50 (.ifCond .eq 45) 45 53 95 := ⟨by decide +kernel, rfl, by decide⟩
theorem d_X_protect_53 : xd b_X_protect 53 (.aload_n 0) 1 54 := ⟨by decide +kernel, rfl⟩
theorem d_X_protect_54 : xd b_X_protect 54 (.iload 7) 2 56 := ⟨by decide +kernel, rfl⟩
theorem d_X_protect_56 : xd b_X_protect 56 (.invokevirtual 68) 3 59 := ⟨by decide +kernel, rfl⟩
theorem d_X_protect_59 : xd b_X_protect 59 (.istore 8) 2 61 := ⟨by decide +kernel, rfl⟩
theorem d_X_protect_61 : xd b_X_protect 61 (.iload 8) 2 63 := ⟨by decide +kernel, rfl⟩
theorem d_X_protect_63 : xd b_X_protect 63 (.iload 4) 2 65 := ⟨by decide +kernel, rfl⟩
theorem d_X_protect_65 : xb b_X_protect 65 (.ifCond .eq 7) 7 68 72 := ⟨by decide +kernel, rfl, by decide⟩
theorem d_X_protect_68 : xd b_X_protect 68 (.iconst 1) 1 69 := ⟨by decide +kernel, rfl⟩
theorem d_X_protect_69 : xb b_X_protect 69 (.goto 4) 4 72 73 := ⟨by decide +kernel, rfl, by decide⟩
theorem d_X_protect_72 : xd b_X_protect 72 (.iconst 0) 1 73 := ⟨by decide +kernel, rfl⟩
theorem d_X_protect_73 : xb b_X_protect 73 (.if_icmp .eq 22) 22 76 95 := ⟨by decide +kernel, rfl, by decide⟩
theorem d_X_protect_76 : xd b_X_protect 76 (.aload_n 0) 1 77 := ⟨by decide +kernel, rfl⟩
theorem d_X_protect_77 : xd b_X_protect 77 (.iload 7) 2 79 := ⟨by decide +kernel, rfl⟩
theorem d_X_protect_79 : xd b_X_protect 79 (.iload 4) 2 81 := ⟨by decide +kernel, rfl⟩
theorem d_X_protect_81 : xb b_X_protect 81 (.ifCond .eq 7) 7 84 88 := ⟨by decide +kernel, rfl, by decide⟩
theorem d_X_protect_84 : xd b_X_protect 84 (.iconst 1) 1 85 := ⟨by decide +kernel, rfl⟩
theorem d_X_protect_85 : xb b_X_protect 85 (.goto 4) 4 88 89 := ⟨by decide +kernel, rfl, by decide⟩
theorem d_X_protect_88 : xd b_X_protect 88 (.iconst 0) 1 89 := ⟨by decide +kernel, rfl⟩
theorem d_X_protect_89 : xd b_X_protect 89 (.invokevirtual 71) 3 92 := ⟨by decide +kernel, rfl⟩
theorem d_X_protect_92 : xd b_X_protect 92 (.iinc 6 1) 3 95 := ⟨by decide +kernel, rfl⟩
theorem d_X_protect_95 : xd b_X_protect 95 (.iinc 7 1) 3 98 := ⟨by decide +kernel, rfl⟩
theorem d_X_protect_98 : xb b_X_protect 98 (.goto (-63)) (-63) 101 35 := ⟨by decide +kernel, rfl, by decide⟩
theorem d_X_protect_101 : xd b_X_protect 101 (.iload 6) 2 103 := ⟨by decide +kernel, rfl⟩
theorem d_X_protect_103 : xd b_X_protect 103 (.ireturn) 1 104 := ⟨by decide +kernel, rfl⟩
theorem d_X_mapped_0 : xd b_X_mapped 0 (.iload_n 1) 1 1 := ⟨by decide +kernel, rfl⟩
theorem d_X_mapped_1 : xd b_X_mapped 1 (.invokestatic 45) 3 4 := ⟨by decide +kernel, rfl⟩
theorem d_X_mapped_4 : xb b_X_mapped 4 (.ifCond .ne 5) 5 7 9 := ⟨by decide +kernel, rfl, by decide⟩
theorem d_X_mapped_7 : xd b_X_mapped 7 (.iconst (-1)) 1 8 := ⟨by decide +kernel, rfl⟩
theorem d_X_mapped_8 : xd b_X_mapped 8 (.ireturn) 1 9 := ⟨by decide +kernel, rfl⟩
theorem d_X_mapped_9 : xd b_X_mapped 9 (.iload_n 2) 1 10 := ⟨by decide +kernel, rfl⟩
theorem d_X_mapped_10 : xd b_X_mapped 10 (.invokestatic 75) 3 13 := ⟨by decide +kernel, rfl⟩
theorem d_X_mapped_13 : xb b_X_mapped 13 (.ifCond .ne 6) 6 16 19 := ⟨by decide +kernel, rfl, by decide⟩
theorem d_X_mapped_16 : xd b_X_mapped 16 (.bipush (-2)) 2 18 := ⟨by decide +kernel, rfl⟩
theorem d_X_mapped_18 : xd b_X_mapped 18 (.ireturn) 1 19 := ⟨by decide +kernel, rfl⟩
theorem d_X_mapped_19 : xd b_X_mapped 19 (.aload_n 0) 1 20 := ⟨by decide +kernel, rfl⟩
theorem d_X_mapped_20 : xd b_X_mapped 20 (.bipush 32) 2 22 := ⟨by decide +kernel, rfl⟩
theorem d_X_mapped_22 : xd b_X_mapped 22 (.iload_n 1) 1 23 := ⟨by decide +kernel, rfl⟩
theorem d_X_mapped_23 : xd b_X_mapped 23 (.imul) 1 24 := ⟨by decide +kernel, rfl⟩
theorem d_X_mapped_24 : xd b_X_mapped 24 (.iload_n 2) 1 25 := ⟨by decide +kernel, rfl⟩
theorem d_X_mapped_25 : xd b_X_mapped 25 (.iadd) 1 26 := ⟨by decide +kernel, rfl⟩
theorem d_X_mapped_26 : xd b_X_mapped 26 (.invokevirtual 57) 3 29 := ⟨by decide +kernel, rfl⟩
theorem d_X_mapped_29 : xb b_X_mapped 29 (.ifCond .eq 7) 7 32 36 := ⟨by decide +kernel, rfl, by decide⟩
theorem d_X_mapped_32 : xd b_X_mapped 32 (.iconst 1) 1 33 := ⟨by decide +kernel, rfl⟩
theorem d_X_mapped_33 : xb b_X_mapped 33 (.goto 4) 4 36 37 := ⟨by decide +kernel, rfl, by decide⟩
theorem d_X_mapped_36 : xd b_X_mapped 36 (.iconst 0) 1 37 := ⟨by decide +kernel, rfl⟩
theorem d_X_mapped_37 : xd b_X_mapped 37 (.ireturn) 1 38 := ⟨by decide +kernel, rfl⟩
theorem d_X_writable_0 : xd b_X_writable 0 (.iload_n 1) 1 1 := ⟨by decide +kernel, rfl⟩
theorem d_X_writable_1 : xd b_X_writable 1 (.invokestatic 45) 3 4 := ⟨by decide +kernel, rfl⟩
theorem d_X_writable_4 : xb b_X_writable 4 (.ifCond .ne 5) 5 7 9 := ⟨by decide +kernel, rfl, by decide⟩
theorem d_X_writable_7 : xd b_X_writable 7 (.iconst (-1)) 1 8 := ⟨by decide +kernel, rfl⟩
theorem d_X_writable_8 : xd b_X_writable 8 (.ireturn) 1 9 := ⟨by decide +kernel, rfl⟩
theorem d_X_writable_9 : xd b_X_writable 9 (.iload_n 2) 1 10 := ⟨by decide +kernel, rfl⟩
theorem d_X_writable_10 : xd b_X_writable 10 (.invokestatic 75) 3 13 := ⟨by decide +kernel, rfl⟩
theorem d_X_writable_13 : xb b_X_writable 13 (.ifCond .ne 6) 6 16 19 := ⟨by decide +kernel, rfl, by decide⟩
theorem d_X_writable_16 : xd b_X_writable 16 (.bipush (-2)) 2 18 := ⟨by decide +kernel, rfl⟩
theorem d_X_writable_18 : xd b_X_writable 18 (.ireturn) 1 19 := ⟨by decide +kernel, rfl⟩
theorem d_X_writable_19 : xd b_X_writable 19 (.bipush 32) 2 21 := ⟨by decide +kernel, rfl⟩
theorem d_X_writable_21 : xd b_X_writable 21 (.iload_n 1) 1 22 := ⟨by decide +kernel, rfl⟩
theorem d_X_writable_22 : xd b_X_writable 22 (.imul) 1 23 := ⟨by decide +kernel, rfl⟩
theorem d_X_writable_23 : xd b_X_writable 23 (.iload_n 2) 1 24 := ⟨by decide +kernel, rfl⟩
theorem d_X_writable_24 : xd b_X_writable 24 (.iadd) 1 25 := ⟨by decide +kernel, rfl⟩
theorem d_X_writable_25 : xd b_X_writable 25 (.istore_n 3) 1 26 := ⟨by decide +kernel, rfl⟩
theorem d_X_writable_26 : xd b_X_writable 26 (.aload_n 0) 1 27 := ⟨by decide +kernel, rfl⟩
theorem d_X_writable_27 : xd b_X_writable 27 (.iload_n 3) 1 28 := ⟨by decide +kernel, rfl⟩
theorem d_X_writable_28 : xd b_X_writable 28 (.invokevirtual 57) 3 31 := ⟨by decide +kernel, rfl⟩
theorem d_X_writable_31 : xb b_X_writable 31 (.ifCond .eq 15) 15 34 46 := ⟨by decide +kernel, rfl, by decide⟩
theorem d_X_writable_34 : xd b_X_writable 34 (.aload_n 0) 1 35 := ⟨by decide +kernel, rfl⟩
theorem d_X_writable_35 : xd b_X_writable 35 (.iload_n 3) 1 36 := ⟨by decide +kernel, rfl⟩
theorem d_X_writable_36 : xd b_X_writable 36 (.invokevirtual 68) 3 39 := ⟨by decide +kernel, rfl⟩
theorem d_X_writable_39 : xb b_X_writable 39 (.ifCond .eq 7) 7 42 46 := ⟨by decide +kernel, rfl, by decide⟩
theorem d_X_writable_42 : xd b_X_writable 42 (.iconst 1) 1 43 := ⟨by decide +kernel, rfl⟩
theorem d_X_writable_43 : xb b_X_writable 43 (.goto 4) 4 46 47 := ⟨by decide +kernel, rfl, by decide⟩
theorem d_X_writable_46 : xd b_X_writable 46 (.iconst 0) 1 47 := ⟨by decide +kernel, rfl⟩
theorem d_X_writable_47 : xd b_X_writable 47 (.ireturn) 1 48 := ⟨by decide +kernel, rfl⟩
theorem d_X_read_0 : xd b_X_read 0 (.iload_n 1) 1 1 := ⟨by decide +kernel, rfl⟩
theorem d_X_read_1 : xd b_X_read 1 (.invokestatic 45) 3 4 := ⟨by decide +kernel, rfl⟩
theorem d_X_read_4 : xb b_X_read 4 (.ifCond .eq 10) 10 7 14 := ⟨by decide +kernel, rfl, by decide⟩
theorem d_X_read_7 : xd b_X_read 7 (.iload_n 2) 1 8 := ⟨by decide +kernel, rfl⟩
theorem d_X_read_8 : xd b_X_read 8 (.invokestatic 75) 3 11 := ⟨by decide +kernel, rfl⟩
theorem d_X_read_11 : xb b_X_read 11 (.ifCond .ne 5) 5 14 16 := ⟨by decide +kernel, rfl, by decide⟩
theorem d_X_read_14 : xd b_X_read 14 (.iconst 0) 1 15 := ⟨by decide +kernel, rfl⟩
theorem d_X_read_15 : xd b_X_read 15 (.ireturn) 1 16 := ⟨by decide +kernel, rfl⟩
theorem d_X_read_16 : xd b_X_read 16 (.bipush 32) 2 18 := ⟨by decide +kernel, rfl⟩
theorem d_X_read_18 : xd b_X_read 18 (.iload_n 1) 1 19 := ⟨by decide +kernel, rfl⟩
theorem d_X_read_19 : xd b_X_read 19 (.imul) 1 20 := ⟨by decide +kernel, rfl⟩
theorem d_X_read_20 : xd b_X_read 20 (.iload_n 2) 1 21 := ⟨by decide +kernel, rfl⟩
theorem d_X_read_21 : xd b_X_read 21 (.iadd) 1 22 := ⟨by decide +kernel, rfl⟩
theorem d_X_read_22 : xd b_X_read 22 (.istore_n 3) 1 23 := ⟨by decide +kernel, rfl⟩
theorem d_X_read_23 : xd b_X_read 23 (.aload_n 0) 1 24 := ⟨by decide +kernel, rfl⟩
theorem d_X_read_24 : xd b_X_read 24 (.iload_n 3) 1 25 := ⟨by decide +kernel, rfl⟩
theorem d_X_read_25 : xd b_X_read 25 (.invokevirtual 57) 3 28 := ⟨by decide +kernel, rfl⟩
theorem d_X_read_28 : xb b_X_read 28 (.ifCond .eq 11) 11 31 39 := ⟨by decide +kernel, rfl, by decide⟩
theorem d_X_read_31 : xd b_X_read 31 (.aload_n 0) 1 32 := ⟨by decide +kernel, rfl⟩
theorem d_X_read_32 : xd b_X_read 32 (.iload_n 3) 1 33 := ⟨by decide +kernel, rfl⟩
theorem d_X_read_33 : xd b_X_read 33 (.invokevirtual 78) 3 36 := ⟨by decide +kernel, rfl⟩
theorem d_X_read_36 : xb b_X_read 36 (.goto 4) 4 39 40 := ⟨by decide +kernel, rfl, by decide⟩
theorem d_X_read_39 : xd b_X_read 39 (.iconst 0) 1 40 := ⟨by decide +kernel, rfl⟩
theorem d_X_read_40 : xd b_X_read 40 (.ireturn) 1 41 := ⟨by decide +kernel, rfl⟩
theorem d_X_write_0 : xd b_X_write 0 (.iload_n 1) 1 1 := ⟨by decide +kernel, rfl⟩
theorem d_X_write_1 : xd b_X_write 1 (.invokestatic 45) 3 4 := ⟨by decide +kernel, rfl⟩
theorem d_X_write_4 : xb b_X_write 4 (.ifCond .ne 5) 5 7 9 := ⟨by decide +kernel, rfl, by decide⟩
theorem d_X_write_7 : xd b_X_write 7 (.iconst (-1)) 1 8 := ⟨by decide +kernel, rfl⟩
theorem d_X_write_8 : xd b_X_write 8 (.ireturn) 1 9 := ⟨by decide +kernel, rfl⟩
theorem d_X_write_9 : xd b_X_write 9 (.iload_n 2) 1 10 := ⟨by decide +kernel, rfl⟩
theorem d_X_write_10 : xd b_X_write 10 (.invokestatic 75) 3 13 := ⟨by decide +kernel, rfl⟩
theorem d_X_write_13 : xb b_X_write 13 (.ifCond .ne 6) 6 16 19 := ⟨by decide +kernel, rfl, by decide⟩
theorem d_X_write_16 : xd b_X_write 16 (.bipush (-2)) 2 18 := ⟨by decide +kernel, rfl⟩
theorem d_X_write_18 : xd b_X_write 18 (.ireturn) 1 19 := ⟨by decide +kernel, rfl⟩
theorem d_X_write_19 : xd b_X_write 19 (.bipush 32) 2 21 := ⟨by decide +kernel, rfl⟩
theorem d_X_write_21 : xd b_X_write 21 (.iload_n 1) 1 22 := ⟨by decide +kernel, rfl⟩
theorem d_X_write_22 : xd b_X_write 22 (.imul) 1 23 := ⟨by decide +kernel, rfl⟩
theorem d_X_write_23 : xd b_X_write 23 (.iload_n 2) 1 24 := ⟨by decide +kernel, rfl⟩
theorem d_X_write_24 : xd b_X_write 24 (.iadd) 1 25 := ⟨by decide +kernel, rfl⟩
theorem d_X_write_25 : xd b_X_write 25 (.istore 4) 2 27 := ⟨by decide +kernel, rfl⟩
theorem d_X_write_27 : xd b_X_write 27 (.aload_n 0) 1 28 := ⟨by decide +kernel, rfl⟩
theorem d_X_write_28 : xd b_X_write 28 (.iload 4) 2 30 := ⟨by decide +kernel, rfl⟩
theorem d_X_write_30 : xd b_X_write 30 (.invokevirtual 57) 3 33 := ⟨by decide +kernel, rfl⟩
theorem d_X_write_33 : xb b_X_write 33 (.ifCond .ne 6) 6 36 39 := ⟨by decide +kernel, rfl, by decide⟩
theorem d_X_write_36 : xd b_X_write 36 (.bipush (-3)) 2 38 := ⟨by decide +kernel, rfl⟩
theorem d_X_write_38 : xd b_X_write 38 (.ireturn) 1 39 := ⟨by decide +kernel, rfl⟩
theorem d_X_write_39 : xd b_X_write 39 (.aload_n 0) 1 40 := ⟨by decide +kernel, rfl⟩
theorem d_X_write_40 : xd b_X_write 40 (.iload 4) 2 42 := ⟨by decide +kernel, rfl⟩
theorem d_X_write_42 : xd b_X_write 42 (.invokevirtual 68) 3 45 := ⟨by decide +kernel, rfl⟩
theorem d_X_write_45 : xb b_X_write 45 (.ifCond .ne 6) 6 48 51 := ⟨by decide +kernel, rfl, by decide⟩
theorem d_X_write_48 : xd b_X_write 48 (.bipush (-4)) 2 50 := ⟨by decide +kernel, rfl⟩
theorem d_X_write_50 : xd b_X_write 50 (.ireturn) 1 51 := ⟨by decide +kernel, rfl⟩
theorem d_X_write_51 : xd b_X_write 51 (.aload_n 0) 1 52 := ⟨by decide +kernel, rfl⟩
theorem d_X_write_52 : xd b_X_write 52 (.iload 4) 2 54 := ⟨by decide +kernel, rfl⟩
theorem d_X_write_54 : xd b_X_write 54 (.iload_n 3) 1 55 := ⟨by decide +kernel, rfl⟩
theorem d_X_write_55 : xd b_X_write 55 (.invokevirtual 81) 3 58 := ⟨by decide +kernel, rfl⟩
theorem d_X_write_58 : xd b_X_write 58 (.iconst 0) 1 59 := ⟨by decide +kernel, rfl⟩
theorem d_X_write_59 : xd b_X_write 59 (.ireturn) 1 60 := ⟨by decide +kernel, rfl⟩
theorem d_X_touch_0 : xd b_X_touch 0 (.iload_n 1) 1 1 := ⟨by decide +kernel, rfl⟩
theorem d_X_touch_1 : xd b_X_touch 1 (.invokestatic 45) 3 4 := ⟨by decide +kernel, rfl⟩
theorem d_X_touch_4 : xb b_X_touch 4 (.ifCond .ne 5) 5 7 9 := ⟨by decide +kernel, rfl, by decide⟩
theorem d_X_touch_7 : xd b_X_touch 7 (.iconst (-1)) 1 8 := ⟨by decide +kernel, rfl⟩
theorem d_X_touch_8 : xd b_X_touch 8 (.ireturn) 1 9 := ⟨by decide +kernel, rfl⟩
theorem d_X_touch_9 : xd b_X_touch 9 (.iload_n 2) 1 10 := ⟨by decide +kernel, rfl⟩
theorem d_X_touch_10 : xd b_X_touch 10 (.invokestatic 75) 3 13 := ⟨by decide +kernel, rfl⟩
theorem d_X_touch_13 : xb b_X_touch 13 (.ifCond .ne 6) 6 16 19 := ⟨by decide +kernel, rfl, by decide⟩
theorem d_X_touch_16 : xd b_X_touch 16 (.bipush (-2)) 2 18 := ⟨by decide +kernel, rfl⟩
theorem d_X_touch_18 : xd b_X_touch 18 (.ireturn) 1 19 := ⟨by decide +kernel, rfl⟩
theorem d_X_touch_19 : xd b_X_touch 19 (.bipush 32) 2 21 := ⟨by decide +kernel, rfl⟩
theorem d_X_touch_21 : xd b_X_touch 21 (.iload_n 1) 1 22 := ⟨by decide +kernel, rfl⟩
theorem d_X_touch_22 : xd b_X_touch 22 (.imul) 1 23 := ⟨by decide +kernel, rfl⟩
theorem d_X_touch_23 : xd b_X_touch 23 (.iload_n 2) 1 24 := ⟨by decide +kernel, rfl⟩
theorem d_X_touch_24 : xd b_X_touch 24 (.iadd) 1 25 := ⟨by decide +kernel, rfl⟩
theorem d_X_touch_25 : xd b_X_touch 25 (.istore 4) 2 27 := ⟨by decide +kernel, rfl⟩
theorem d_X_touch_27 : xd b_X_touch 27 (.aload_n 0) 1 28 := ⟨by decide +kernel, rfl⟩
theorem d_X_touch_28 : xd b_X_touch 28 (.iload 4) 2 30 := ⟨by decide +kernel, rfl⟩
theorem d_X_touch_30 : xd b_X_touch 30 (.invokevirtual 57) 3 33 := ⟨by decide +kernel, rfl⟩
theorem d_X_touch_33 : xb b_X_touch 33 (.ifCond .ne 27) 27 36 60 := ⟨by decide +kernel, rfl, by decide⟩
theorem d_X_touch_36 : xd b_X_touch 36 (.aload_n 0) 1 37 := ⟨by decide +kernel, rfl⟩
theorem d_X_touch_37 : xd b_X_touch 37 (.getfield 42) 3 40 := ⟨by decide +kernel, rfl⟩
theorem d_X_touch_40 : xd b_X_touch 40 (.aload_n 0) 1 41 := ⟨by decide +kernel, rfl⟩
theorem d_X_touch_41 : xd b_X_touch 41 (.getfield 38) 3 44 := ⟨by decide +kernel, rfl⟩
theorem d_X_touch_44 : xb b_X_touch 44 (.if_icmp .ne 6) 6 47 50 := ⟨by decide +kernel, rfl, by decide⟩
theorem d_X_touch_47 : xd b_X_touch 47 (.bipush (-3)) 2 49 := ⟨by decide +kernel, rfl⟩
theorem d_X_touch_49 : xd b_X_touch 49 (.ireturn) 1 50 := ⟨by decide +kernel, rfl⟩
theorem d_X_touch_50 : xd b_X_touch 50 (.aload_n 0) 1 51 := ⟨by decide +kernel, rfl⟩
theorem d_X_touch_51 : xd b_X_touch 51 (.iload 4) 2 53 := ⟨by decide +kernel, rfl⟩
theorem d_X_touch_53 : xd b_X_touch 53 (.iconst 1) 1 54 := ⟨by decide +kernel, rfl⟩
theorem d_X_touch_54 : xd b_X_touch 54 (.iload_n 3) 1 55 := ⟨by decide +kernel, rfl⟩
theorem d_X_touch_55 : xd b_X_touch 55 (.invokevirtual 60) 3 58 := ⟨by decide +kernel, rfl⟩
theorem d_X_touch_58 : xd b_X_touch 58 (.iconst 1) 1 59 := ⟨by decide +kernel, rfl⟩
theorem d_X_touch_59 : xd b_X_touch 59 (.ireturn) 1 60 := ⟨by decide +kernel, rfl⟩
theorem d_X_touch_60 : xd b_X_touch 60 (.aload_n 0) 1 61 := ⟨by decide +kernel, rfl⟩
theorem d_X_touch_61 : xd b_X_touch 61 (.iload 4) 2 63 := ⟨by decide +kernel, rfl⟩
theorem d_X_touch_63 : xd b_X_touch 63 (.invokevirtual 68) 3 66 := ⟨by decide +kernel, rfl⟩
theorem d_X_touch_66 : xb b_X_touch 66 (.ifCond .ne 6) 6 69 72 := ⟨by decide +kernel, rfl, by decide⟩
theorem d_X_touch_69 : xd b_X_touch 69 (.bipush (-4)) 2 71 := ⟨by decide +kernel, rfl⟩
theorem d_X_touch_71 : xd b_X_touch 71 (.ireturn) 1 72 := ⟨by decide +kernel, rfl⟩
theorem d_X_touch_72 : xd b_X_touch 72 (.aload_n 0) 1 73 := ⟨by decide +kernel, rfl⟩
theorem d_X_touch_73 : xd b_X_touch 73 (.iload 4) 2 75 := ⟨by decide +kernel, rfl⟩
theorem d_X_touch_75 : xd b_X_touch 75 (.iload_n 3) 1 76 := ⟨by decide +kernel, rfl⟩
theorem d_X_touch_76 : xd b_X_touch 76 (.invokevirtual 81) 3 79 := ⟨by decide +kernel, rfl⟩
theorem d_X_touch_79 : xd b_X_touch 79 (.iconst 0) 1 80 := ⟨by decide +kernel, rfl⟩
theorem d_X_touch_80 : xd b_X_touch 80 (.ireturn) 1 81 := ⟨by decide +kernel, rfl⟩
theorem d_X_stamp_0 : xd b_X_stamp 0 (.iload_n 1) 1 1 := ⟨by decide +kernel, rfl⟩
theorem d_X_stamp_1 : xd b_X_stamp 1 (.invokestatic 45) 3 4 := ⟨by decide +kernel, rfl⟩
theorem d_X_stamp_4 : xb b_X_stamp 4 (.ifCond .ne 5) 5 7 9 := ⟨by decide +kernel, rfl, by decide⟩
theorem d_X_stamp_7 : xd b_X_stamp 7 (.iconst (-1)) 1 8 := ⟨by decide +kernel, rfl⟩
theorem d_X_stamp_8 : xd b_X_stamp 8 (.ireturn) 1 9 := ⟨by decide +kernel, rfl⟩
theorem d_X_stamp_9 : xd b_X_stamp 9 (.iload_n 2) 1 10 := ⟨by decide +kernel, rfl⟩
theorem d_X_stamp_10 : xb b_X_stamp 10 (.ifCond .lt 17) 17 13 27 := ⟨by decide +kernel, rfl, by decide⟩
theorem d_X_stamp_13 : xd b_X_stamp 13 (.iload_n 2) 1 14 := ⟨by decide +kernel, rfl⟩
theorem d_X_stamp_14 : xd b_X_stamp 14 (.bipush 6) 2 16 := ⟨by decide +kernel, rfl⟩
theorem d_X_stamp_16 : xd b_X_stamp 16 (.ishr) 1 17 := ⟨by decide +kernel, rfl⟩
theorem d_X_stamp_17 : xd b_X_stamp 17 (.iload_n 2) 1 18 := ⟨by decide +kernel, rfl⟩
theorem d_X_stamp_18 : xd b_X_stamp 18 (.bipush 63) 2 20 := ⟨by decide +kernel, rfl⟩
theorem d_X_stamp_20 : xd b_X_stamp 20 (.iand) 1 21 := ⟨by decide +kernel, rfl⟩
theorem d_X_stamp_21 : xd b_X_stamp 21 (.invokestatic 53) 3 24 := ⟨by decide +kernel, rfl⟩
theorem d_X_stamp_24 : xb b_X_stamp 24 (.ifCond .ne 6) 6 27 30 := ⟨by decide +kernel, rfl, by decide⟩
theorem d_X_stamp_27 : xd b_X_stamp 27 (.bipush (-2)) 2 29 := ⟨by decide +kernel, rfl⟩
theorem d_X_stamp_29 : xd b_X_stamp 29 (.ireturn) 1 30 := ⟨by decide +kernel, rfl⟩
theorem d_X_stamp_30 : xd b_X_stamp 30 (.bipush 32) 2 32 := ⟨by decide +kernel, rfl⟩
theorem d_X_stamp_32 : xd b_X_stamp 32 (.iload_n 1) 1 33 := ⟨by decide +kernel, rfl⟩
theorem d_X_stamp_33 : xd b_X_stamp 33 (.imul) 1 34 := ⟨by decide +kernel, rfl⟩
theorem d_X_stamp_34 : xd b_X_stamp 34 (.iload_n 2) 1 35 := ⟨by decide +kernel, rfl⟩
theorem d_X_stamp_35 : xd b_X_stamp 35 (.bipush 6) 2 37 := ⟨by decide +kernel, rfl⟩
theorem d_X_stamp_37 : xd b_X_stamp 37 (.ishr) 1 38 := ⟨by decide +kernel, rfl⟩
theorem d_X_stamp_38 : xd b_X_stamp 38 (.iadd) 1 39 := ⟨by decide +kernel, rfl⟩
theorem d_X_stamp_39 : xd b_X_stamp 39 (.istore 4) 2 41 := ⟨by decide +kernel, rfl⟩
theorem d_X_stamp_41 : xd b_X_stamp 41 (.iconst 0) 1 42 := ⟨by decide +kernel, rfl⟩
theorem d_X_stamp_42 : xd b_X_stamp 42 (.istore 5) 2 44 := ⟨by decide +kernel, rfl⟩
theorem d_X_stamp_44 : xd b_X_stamp 44 (.iload 4) 2 46 := ⟨by decide +kernel, rfl⟩
theorem d_X_stamp_46 : xd b_X_stamp 46 (.istore 6) 2 48 := ⟨by decide +kernel, rfl⟩
theorem d_X_stamp_48 : xd b_X_stamp 48 (.iload 6) 2 50 := ⟨by decide +kernel, rfl⟩
theorem d_X_stamp_50 : xd b_X_stamp 50 (.iload 4) 2 52 := ⟨by decide +kernel, rfl⟩
theorem d_X_stamp_52 : xd b_X_stamp 52 (.iload_n 2) 1 53 := ⟨by decide +kernel, rfl⟩
theorem d_X_stamp_53 : xd b_X_stamp 53 (.bipush 63) 2 55 := ⟨by decide +kernel, rfl⟩
theorem d_X_stamp_55 : xd b_X_stamp 55 (.iand) 1 56 := ⟨by decide +kernel, rfl⟩
theorem d_X_stamp_56 : xd b_X_stamp 56 (.iadd) 1 57 := ⟨by decide +kernel, rfl⟩
theorem d_X_stamp_57 : xb b_X_stamp 57 (.if_icmp .ge 31) 31 60 88 := ⟨by decide +kernel, rfl, by decide⟩
theorem d_X_stamp_60 : xd b_X_stamp 60 (.aload_n 0) 1 61 := ⟨by decide +kernel, rfl⟩
theorem d_X_stamp_61 : xd b_X_stamp 61 (.iload 6) 2 63 := ⟨by decide +kernel, rfl⟩
theorem d_X_stamp_63 : xd b_X_stamp 63 (.invokevirtual 57) 3 66 := ⟨by decide +kernel, rfl⟩
theorem d_X_stamp_66 : xb b_X_stamp 66 (.ifCond .eq 16) 16 69 82 := ⟨by decide +kernel, rfl, by decide⟩
theorem d_X_stamp_69 : xd b_X_stamp 69 (.aload_n 0) 1 70 := ⟨by decide +kernel, rfl⟩
theorem d_X_stamp_70 : xd b_X_stamp 70 (.iload 6) 2 72 := ⟨by decide +kernel, rfl⟩
theorem d_X_stamp_72 : xd b_X_stamp 72 (.iload_n 3) 1 73 := ⟨by decide +kernel, rfl⟩
theorem d_X_stamp_73 : xd b_X_stamp 73 (.iload 5) 2 75 := ⟨by decide +kernel, rfl⟩
theorem d_X_stamp_75 : xd b_X_stamp 75 (.iadd) 1 76 := ⟨by decide +kernel, rfl⟩
theorem d_X_stamp_76 : xd b_X_stamp 76 (.invokevirtual 81) 3 79 := ⟨by decide +kernel, rfl⟩
theorem d_X_stamp_79 : xd b_X_stamp 79 (.iinc 5 1) 3 82 := ⟨by decide +kernel, rfl⟩
theorem d_X_stamp_82 : xd b_X_stamp 82 (.iinc 6 1) 3 85 := ⟨by decide +kernel, rfl⟩
theorem d_X_stamp_85 : xb b_X_stamp 85 (.goto (-37)) (-37) 88 48 := ⟨by decide +kernel, rfl, by decide⟩
theorem d_X_stamp_88 : xd b_X_stamp 88 (.iload 5) 2 90 := ⟨by decide +kernel, rfl⟩
theorem d_X_stamp_90 : xd b_X_stamp 90 (.ireturn) 1 91 := ⟨by decide +kernel, rfl⟩
theorem d_X_remap_0 : xd b_X_remap 0 (.iload_n 1) 1 1 := ⟨by decide +kernel, rfl⟩
theorem d_X_remap_1 : xd b_X_remap 1 (.invokestatic 45) 3 4 := ⟨by decide +kernel, rfl⟩
theorem d_X_remap_4 : xb b_X_remap 4 (.ifCond .ne 5) 5 7 9 := ⟨by decide +kernel, rfl, by decide⟩
theorem d_X_remap_7 : xd b_X_remap 7 (.iconst (-1)) 1 8 := ⟨by decide +kernel, rfl⟩
theorem d_X_remap_8 : xd b_X_remap 8 (.ireturn) 1 9 := ⟨by decide +kernel, rfl⟩
theorem d_X_remap_9 : xd b_X_remap 9 (.iload_n 2) 1 10 := ⟨by decide +kernel, rfl⟩
theorem d_X_remap_10 : xd b_X_remap 10 (.invokestatic 75) 3 13 := ⟨by decide +kernel, rfl⟩
theorem d_X_remap_13 : xb b_X_remap 13 (.ifCond .eq 10) 10 16 23 := ⟨by decide +kernel, rfl, by decide⟩
theorem d_X_remap_16 : xd b_X_remap 16 (.iload_n 3) 1 17 := ⟨by decide +kernel, rfl⟩
theorem d_X_remap_17 : xd b_X_remap 17 (.invokestatic 75) 3 20 := ⟨by decide +kernel, rfl⟩
theorem d_X_remap_20 : xb b_X_remap 20 (.ifCond .ne 6) 6 23 26 := ⟨by decide +kernel, rfl, by decide⟩
theorem d_X_remap_23 : xd b_X_remap 23 (.bipush (-2)) 2 25 := ⟨by decide +kernel, rfl⟩
theorem d_X_remap_25 : xd b_X_remap 25 (.ireturn) 1 26 := ⟨by decide +kernel, rfl⟩
theorem d_X_remap_26 : xd b_X_remap 26 (.bipush 32) 2 28 := ⟨by decide +kernel, rfl⟩
theorem d_X_remap_28 : xd b_X_remap 28 (.iload_n 1) 1 29 := ⟨by decide +kernel, rfl⟩
theorem d_X_remap_29 : xd b_X_remap 29 (.imul) 1 30 := ⟨by decide +kernel, rfl⟩
theorem d_X_remap_30 : xd b_X_remap 30 (.iload_n 2) 1 31 := ⟨by decide +kernel, rfl⟩
theorem d_X_remap_31 : xd b_X_remap 31 (.iadd) 1 32 := ⟨by decide +kernel, rfl⟩
theorem d_X_remap_32 : xd b_X_remap 32 (.istore 4) 2 34 := ⟨by decide +kernel, rfl⟩
theorem d_X_remap_34 : xd b_X_remap 34 (.bipush 32) 2 36 := ⟨by decide +kernel, rfl⟩
theorem d_X_remap_36 : xd b_X_remap 36 (.iload_n 1) 1 37 := ⟨by decide +kernel, rfl⟩
theorem d_X_remap_37 : xd b_X_remap 37 (.imul) 1 38 := ⟨by decide +kernel, rfl⟩
theorem d_X_remap_38 : xd b_X_remap 38 (.iload_n 3) 1 39 := ⟨by decide +kernel, rfl⟩
theorem d_X_remap_39 : xd b_X_remap 39 (.iadd) 1 40 := ⟨by decide +kernel, rfl⟩
theorem d_X_remap_40 : xd b_X_remap 40 (.istore 5) 2 42 := ⟨by decide +kernel, rfl⟩
theorem d_X_remap_42 : xd b_X_remap 42 (.aload_n 0) 1 43 := ⟨by decide +kernel, rfl⟩
theorem d_X_remap_43 : xd b_X_remap 43 (.iload 4) 2 45 := ⟨by decide +kernel, rfl⟩
theorem d_X_remap_45 : xd b_X_remap 45 (.invokevirtual 57) 3 48 := ⟨by decide +kernel, rfl⟩
theorem d_X_remap_48 : xb b_X_remap 48 (.ifCond .ne 6) 6 51 54 := ⟨by decide +kernel, rfl, by decide⟩
theorem d_X_remap_51 : xd b_X_remap 51 (.bipush (-3)) 2 53 := ⟨by decide +kernel, rfl⟩
theorem d_X_remap_53 : xd b_X_remap 53 (.ireturn) 1 54 := ⟨by decide +kernel, rfl⟩
theorem d_X_remap_54 : xd b_X_remap 54 (.aload_n 0) 1 55 := ⟨by decide +kernel, rfl⟩
theorem d_X_remap_55 : xd b_X_remap 55 (.iload 5) 2 57 := ⟨by decide +kernel, rfl⟩
theorem d_X_remap_57 : xd b_X_remap 57 (.invokevirtual 57) 3 60 := ⟨by decide +kernel, rfl⟩
theorem d_X_remap_60 : xb b_X_remap 60 (.ifCond .eq 6) 6 63 66 := ⟨by decide +kernel, rfl, by decide⟩
theorem d_X_remap_63 : xd b_X_remap 63 (.bipush (-4)) 2 65 := ⟨by decide +kernel, rfl⟩
theorem d_X_remap_65 : xd b_X_remap 65 (.ireturn) 1 66 := ⟨by decide +kernel, rfl⟩
theorem d_X_remap_66 : xd b_X_remap 66 (.aload_n 0) 1 67 := ⟨by decide +kernel, rfl⟩
theorem d_X_remap_67 : xd b_X_remap 67 (.iload 4) 2 69 := ⟨by decide +kernel, rfl⟩
theorem d_X_remap_69 : xd b_X_remap 69 (.iload 5) 2 71 := ⟨by decide +kernel, rfl⟩
theorem d_X_remap_71 : xd b_X_remap 71 (.invokevirtual 85) 3 74 := ⟨by decide +kernel, rfl⟩
theorem d_X_remap_74 : xd b_X_remap 74 (.iconst 0) 1 75 := ⟨by decide +kernel, rfl⟩
theorem d_X_remap_75 : xd b_X_remap 75 (.ireturn) 1 76 := ⟨by decide +kernel, rfl⟩
theorem d_X_duplicate_0 : xd b_X_duplicate 0 (.iload_n 1) 1 1 := ⟨by decide +kernel, rfl⟩
theorem d_X_duplicate_1 : xd b_X_duplicate 1 (.invokestatic 45) 3 4 := ⟨by decide +kernel, rfl⟩
theorem d_X_duplicate_4 : xb b_X_duplicate 4 (.ifCond .ne 5) 5 7 9 := ⟨by decide +kernel, rfl, by decide⟩
theorem d_X_duplicate_7 : xd b_X_duplicate 7 (.iconst (-1)) 1 8 := ⟨by decide +kernel, rfl⟩
theorem d_X_duplicate_8 : xd b_X_duplicate 8 (.ireturn) 1 9 := ⟨by decide +kernel, rfl⟩
theorem d_X_duplicate_9 : xd b_X_duplicate 9 (.iload_n 2) 1 10 := ⟨by decide +kernel, rfl⟩
theorem d_X_duplicate_10 : xd b_X_duplicate 10 (.invokestatic 75) 3 13 := ⟨by decide +kernel, rfl⟩
theorem d_X_duplicate_13 : xb b_X_duplicate 13 (.ifCond .ne 6) 6 16 19 := ⟨by decide +kernel, rfl, by decide⟩
theorem d_X_duplicate_16 : xd b_X_duplicate 16 (.bipush (-2)) 2 18 := ⟨by decide +kernel, rfl⟩
theorem d_X_duplicate_18 : xd b_X_duplicate 18 (.ireturn) 1 19 := ⟨by decide +kernel, rfl⟩
theorem d_X_duplicate_19 : xd b_X_duplicate 19 (.bipush 32) 2 21 := ⟨by decide +kernel, rfl⟩
theorem d_X_duplicate_21 : xd b_X_duplicate 21 (.iload_n 1) 1 22 := ⟨by decide +kernel, rfl⟩
theorem d_X_duplicate_22 : xd b_X_duplicate 22 (.imul) 1 23 := ⟨by decide +kernel, rfl⟩
theorem d_X_duplicate_23 : xd b_X_duplicate 23 (.iload_n 2) 1 24 := ⟨by decide +kernel, rfl⟩
theorem d_X_duplicate_24 : xd b_X_duplicate 24 (.iadd) 1 25 := ⟨by decide +kernel, rfl⟩
theorem d_X_duplicate_25 : xd b_X_duplicate 25 (.istore_n 3) 1 26 := ⟨by decide +kernel, rfl⟩
theorem d_X_duplicate_26 : xd b_X_duplicate 26 (.bipush 32) 2 28 := ⟨by decide +kernel, rfl⟩
theorem d_X_duplicate_28 : xd b_X_duplicate 28 (.iconst 1) 1 29 := ⟨by decide +kernel, rfl⟩
theorem d_X_duplicate_29 : xd b_X_duplicate 29 (.iload_n 1) 1 30 := ⟨by decide +kernel, rfl⟩
theorem d_X_duplicate_30 : xd b_X_duplicate 30 (.isub) 1 31 := ⟨by decide +kernel, rfl⟩
theorem d_X_duplicate_31 : xd b_X_duplicate 31 (.imul) 1 32 := ⟨by decide +kernel, rfl⟩
theorem d_X_duplicate_32 : xd b_X_duplicate 32 (.iload_n 2) 1 33 := ⟨by decide +kernel, rfl⟩
theorem d_X_duplicate_33 : xd b_X_duplicate 33 (.iadd) 1 34 := ⟨by decide +kernel, rfl⟩
theorem d_X_duplicate_34 : xd b_X_duplicate 34 (.istore 4) 2 36 := ⟨by decide +kernel, rfl⟩
theorem d_X_duplicate_36 : xd b_X_duplicate 36 (.aload_n 0) 1 37 := ⟨by decide +kernel, rfl⟩
theorem d_X_duplicate_37 : xd b_X_duplicate 37 (.iload_n 3) 1 38 := ⟨by decide +kernel, rfl⟩
theorem d_X_duplicate_38 : xd b_X_duplicate 38 (.invokevirtual 57) 3 41 := ⟨by decide +kernel, rfl⟩
theorem d_X_duplicate_41 : xb b_X_duplicate 41 (.ifCond .ne 6) 6 44 47 := ⟨by decide +kernel, rfl, by decide⟩
theorem d_X_duplicate_44 : xd b_X_duplicate 44 (.bipush (-3)) 2 46 := ⟨by decide +kernel, rfl⟩
theorem d_X_duplicate_46 : xd b_X_duplicate 46 (.ireturn) 1 47 := ⟨by decide +kernel, rfl⟩
theorem d_X_duplicate_47 : xd b_X_duplicate 47 (.aload_n 0) 1 48 := ⟨by decide +kernel, rfl⟩
theorem d_X_duplicate_48 : xd b_X_duplicate 48 (.iload 4) 2 50 := ⟨by decide +kernel, rfl⟩
theorem d_X_duplicate_50 : xd b_X_duplicate 50 (.invokevirtual 57) 3 53 := ⟨by decide +kernel, rfl⟩
theorem d_X_duplicate_53 : xb b_X_duplicate 53 (.ifCond .eq 6) 6 56 59 := ⟨by decide +kernel, rfl, by decide⟩
theorem d_X_duplicate_56 : xd b_X_duplicate 56 (.bipush (-4)) 2 58 := ⟨by decide +kernel, rfl⟩
theorem d_X_duplicate_58 : xd b_X_duplicate 58 (.ireturn) 1 59 := ⟨by decide +kernel, rfl⟩
theorem d_X_duplicate_59 : xd b_X_duplicate 59 (.aload_n 0) 1 60 := ⟨by decide +kernel, rfl⟩
theorem d_X_duplicate_60 : xd b_X_duplicate 60 (.getfield 42) 3 63 := ⟨by decide +kernel, rfl⟩
theorem d_X_duplicate_63 : xd b_X_duplicate 63 (.aload_n 0) 1 64 := ⟨by decide +kernel, rfl⟩
theorem d_X_duplicate_64 : xd b_X_duplicate 64 (.getfield 38) 3 67 := ⟨by decide +kernel, rfl⟩
theorem d_X_duplicate_67 : xb b_X_duplicate 67 (.if_icmp .ne 6) 6 70 73 := ⟨by decide +kernel, rfl, by decide⟩
theorem d_X_duplicate_70 : xd b_X_duplicate 70 (.bipush (-5)) 2 72 := ⟨by decide +kernel, rfl⟩
theorem d_X_duplicate_72 : xd b_X_duplicate 72 (.ireturn) 1 73 := ⟨by decide +kernel, rfl⟩
theorem d_X_duplicate_73 : xd b_X_duplicate 73 (.aload_n 0) 1 74 := ⟨by decide +kernel, rfl⟩
theorem d_X_duplicate_74 : xd b_X_duplicate 74 (.iload_n 3) 1 75 := ⟨by decide +kernel, rfl⟩
theorem d_X_duplicate_75 : xd b_X_duplicate 75 (.invokevirtual 68) 3 78 := ⟨by decide +kernel, rfl⟩
theorem d_X_duplicate_78 : xd b_X_duplicate 78 (.istore 5) 2 80 := ⟨by decide +kernel, rfl⟩
theorem d_X_duplicate_80 : xd b_X_duplicate 80 (.aload_n 0) 1 81 := ⟨by decide +kernel, rfl⟩
theorem d_X_duplicate_81 : xd b_X_duplicate 81 (.iload_n 3) 1 82 := ⟨by decide +kernel, rfl⟩
theorem d_X_duplicate_82 : xd b_X_duplicate 82 (.invokevirtual 78) 3 85 := ⟨by decide +kernel, rfl⟩
theorem d_X_duplicate_85 : xd b_X_duplicate 85 (.istore 6) 2 87 := ⟨by decide +kernel, rfl⟩
theorem d_X_duplicate_87 : xd b_X_duplicate 87 (.aload_n 0) 1 88 := ⟨by decide +kernel, rfl⟩
theorem d_X_duplicate_88 : xd b_X_duplicate 88 (.iload 4) 2 90 := ⟨by decide +kernel, rfl⟩
theorem d_X_duplicate_90 : xd b_X_duplicate 90 (.iload 5) 2 92 := ⟨by decide +kernel, rfl⟩
theorem d_X_duplicate_92 : xd b_X_duplicate 92 (.iload 6) 2 94 := ⟨by decide +kernel, rfl⟩
theorem d_X_duplicate_94 : xd b_X_duplicate 94 (.invokevirtual 60) 3 97 := ⟨by decide +kernel, rfl⟩
theorem d_X_duplicate_97 : xd b_X_duplicate 97 (.iconst 0) 1 98 := ⟨by decide +kernel, rfl⟩
theorem d_X_duplicate_98 : xd b_X_duplicate 98 (.ireturn) 1 99 := ⟨by decide +kernel, rfl⟩
theorem d_X_exchange_0 : xd b_X_exchange 0 (.iload_n 1) 1 1 := ⟨by decide +kernel, rfl⟩
theorem d_X_exchange_1 : xd b_X_exchange 1 (.invokestatic 75) 3 4 := ⟨by decide +kernel, rfl⟩
theorem d_X_exchange_4 : xb b_X_exchange 4 (.ifCond .ne 5) 5 7 9 := ⟨by decide +kernel, rfl, by decide⟩
theorem d_X_exchange_7 : xd b_X_exchange 7 (.iconst (-1)) 1 8 := ⟨by decide +kernel, rfl⟩
theorem d_X_exchange_8 : xd b_X_exchange 8 (.ireturn) 1 9 := ⟨by decide +kernel, rfl⟩
theorem d_X_exchange_9 : xd b_X_exchange 9 (.iload_n 1) 1 10 := ⟨by decide +kernel, rfl⟩
theorem d_X_exchange_10 : xd b_X_exchange 10 (.istore_n 2) 1 11 := ⟨by decide +kernel, rfl⟩
theorem d_X_exchange_11 : xd b_X_exchange 11 (.bipush 32) 2 13 := ⟨by decide +kernel, rfl⟩
theorem d_X_exchange_13 : xd b_X_exchange 13 (.iload_n 1) 1 14 := ⟨by decide +kernel, rfl⟩
theorem d_X_exchange_14 : xd b_X_exchange 14 (.iadd) 1 15 := ⟨by decide +kernel, rfl⟩
theorem d_X_exchange_15 : xd b_X_exchange 15 (.istore_n 3) 1 16 := ⟨by decide +kernel, rfl⟩
theorem d_X_exchange_16 : xd b_X_exchange 16 (.aload_n 0) 1 17 := ⟨by decide +kernel, rfl⟩
theorem d_X_exchange_17 : xd b_X_exchange 17 (.iload_n 2) 1 18 := ⟨by decide +kernel, rfl⟩
theorem d_X_exchange_18 : xd b_X_exchange 18 (.invokevirtual 57) 3 21 := ⟨by decide +kernel, rfl⟩
theorem d_X_exchange_21 : xb b_X_exchange 21 (.ifCond .eq 71) 71 24 92 := ⟨by decide +kernel, rfl, by decide⟩
theorem d_X_exchange_24 : xd b_X_exchange 24 (.aload_n 0) 1 25 := ⟨by decide +kernel, rfl⟩
theorem d_X_exchange_25 : xd b_X_exchange 25 (.iload_n 3) 1 26 := ⟨by decide +kernel, rfl⟩
theorem d_X_exchange_26 : xd b_X_exchange 26 (.invokevirtual 57) 3 29 := ⟨by decide +kernel, rfl⟩
theorem d_X_exchange_29 : xb b_X_exchange 29 (.ifCond .eq 63) 63 32 92 := ⟨by decide +kernel, rfl, by decide⟩
theorem d_X_exchange_32 : xd b_X_exchange 32 (.aload_n 0) 1 33 := ⟨by decide +kernel, rfl⟩
theorem d_X_exchange_33 : xd b_X_exchange 33 (.iload_n 2) 1 34 := ⟨by decide +kernel, rfl⟩
theorem d_X_exchange_34 : xd b_X_exchange 34 (.invokevirtual 78) 3 37 := ⟨by decide +kernel, rfl⟩
theorem d_X_exchange_37 : xd b_X_exchange 37 (.istore 4) 2 39 := ⟨by decide +kernel, rfl⟩
theorem d_X_exchange_39 : xd b_X_exchange 39 (.aload_n 0) 1 40 := ⟨by decide +kernel, rfl⟩
theorem d_X_exchange_40 : xd b_X_exchange 40 (.iload_n 2) 1 41 := ⟨by decide +kernel, rfl⟩
theorem d_X_exchange_41 : xd b_X_exchange 41 (.invokevirtual 68) 3 44 := ⟨by decide +kernel, rfl⟩
theorem d_X_exchange_44 : xd b_X_exchange 44 (.istore 5) 2 46 := ⟨by decide +kernel, rfl⟩
theorem d_X_exchange_46 : xd b_X_exchange 46 (.aload_n 0) 1 47 := ⟨by decide +kernel, rfl⟩
theorem d_X_exchange_47 : xd b_X_exchange 47 (.iload_n 3) 1 48 := ⟨by decide +kernel, rfl⟩
theorem d_X_exchange_48 : xd b_X_exchange 48 (.invokevirtual 68) 3 51 := ⟨by decide +kernel, rfl⟩
theorem d_X_exchange_51 : xd b_X_exchange 51 (.istore 6) 2 53 := ⟨by decide +kernel, rfl⟩
theorem d_X_exchange_53 : xd b_X_exchange 53 (.aload_n 0) 1 54 := ⟨by decide +kernel, rfl⟩
theorem d_X_exchange_54 : xd b_X_exchange 54 (.getfield 7) 3 57 := ⟨by decide +kernel, rfl⟩
theorem d_X_exchange_57 : xd b_X_exchange 57 (.aload_n 0) 1 58 := ⟨by decide +kernel, rfl⟩
theorem d_X_exchange_58 : xd b_X_exchange 58 (.iload_n 2) 1 59 := ⟨by decide +kernel, rfl⟩
theorem d_X_exchange_59 : xd b_X_exchange 59 (.invokevirtual 88) 3 62 := ⟨by decide +kernel, rfl⟩
theorem d_X_exchange_62 : xd b_X_exchange 62 (.aload_n 0) 1 63 := ⟨by decide +kernel, rfl⟩
theorem d_X_exchange_63 : xd b_X_exchange 63 (.iload_n 3) 1 64 := ⟨by decide +kernel, rfl⟩
theorem d_X_exchange_64 : xd b_X_exchange 64 (.invokevirtual 78) 3 67 := ⟨by decide +kernel, rfl⟩
theorem d_X_exchange_67 : xd b_X_exchange 67 (.iastore) 1 68 := ⟨by decide +kernel, rfl⟩
theorem d_X_exchange_68 : xd b_X_exchange 68 (.aload_n 0) 1 69 := ⟨by decide +kernel, rfl⟩
theorem d_X_exchange_69 : xd b_X_exchange 69 (.iload_n 3) 1 70 := ⟨by decide +kernel, rfl⟩
theorem d_X_exchange_70 : xd b_X_exchange 70 (.iload 4) 2 72 := ⟨by decide +kernel, rfl⟩
theorem d_X_exchange_72 : xd b_X_exchange 72 (.invokevirtual 81) 3 75 := ⟨by decide +kernel, rfl⟩
theorem d_X_exchange_75 : xd b_X_exchange 75 (.aload_n 0) 1 76 := ⟨by decide +kernel, rfl⟩
theorem d_X_exchange_76 : xd b_X_exchange 76 (.iload_n 2) 1 77 := ⟨by decide +kernel, rfl⟩
theorem d_X_exchange_77 : xd b_X_exchange 77 (.iload 6) 2 79 := ⟨by decide +kernel, rfl⟩
theorem d_X_exchange_79 : xd b_X_exchange 79 (.invokevirtual 71) 3 82 := ⟨by decide +kernel, rfl⟩
theorem d_X_exchange_82 : xd b_X_exchange 82 (.aload_n 0) 1 83 := ⟨by decide +kernel, rfl⟩
theorem d_X_exchange_83 : xd b_X_exchange 83 (.iload_n 3) 1 84 := ⟨by decide +kernel, rfl⟩
theorem d_X_exchange_84 : xd b_X_exchange 84 (.iload 5) 2 86 := ⟨by decide +kernel, rfl⟩
theorem d_X_exchange_86 : xd b_X_exchange 86 (.invokevirtual 71) 3 89 := ⟨by decide +kernel, rfl⟩
theorem d_X_exchange_89 : xb b_X_exchange 89 (.goto 34) 34 92 123 := ⟨by decide +kernel, rfl, by decide⟩
theorem d_X_exchange_92 : xd b_X_exchange 92 (.aload_n 0) 1 93 := ⟨by decide +kernel, rfl⟩
theorem d_X_exchange_93 : xd b_X_exchange 93 (.iload_n 2) 1 94 := ⟨by decide +kernel, rfl⟩
theorem d_X_exchange_94 : xd b_X_exchange 94 (.invokevirtual 57) 3 97 := ⟨by decide +kernel, rfl⟩
theorem d_X_exchange_97 : xb b_X_exchange 97 (.ifCond .eq 12) 12 100 109 := ⟨by decide +kernel, rfl, by decide⟩
theorem d_X_exchange_100 : xd b_X_exchange 100 (.aload_n 0) 1 101 := ⟨by decide +kernel, rfl⟩
theorem d_X_exchange_101 : xd b_X_exchange 101 (.iload_n 2) 1 102 := ⟨by decide +kernel, rfl⟩
theorem d_X_exchange_102 : xd b_X_exchange 102 (.iload_n 3) 1 103 := ⟨by decide +kernel, rfl⟩
theorem d_X_exchange_103 : xd b_X_exchange 103 (.invokevirtual 85) 3 106 := ⟨by decide +kernel, rfl⟩
theorem d_X_exchange_106 : xb b_X_exchange 106 (.goto 17) 17 109 123 := ⟨by decide +kernel, rfl, by decide⟩
theorem d_X_exchange_109 : xd b_X_exchange 109 (.aload_n 0) 1 110 := ⟨by decide +kernel, rfl⟩
theorem d_X_exchange_110 : xd b_X_exchange 110 (.iload_n 3) 1 111 := ⟨by decide +kernel, rfl⟩
theorem d_X_exchange_111 : xd b_X_exchange 111 (.invokevirtual 57) 3 114 := ⟨by decide +kernel, rfl⟩
theorem d_X_exchange_114 : xb b_X_exchange 114 (.ifCond .eq 9) 9 117 123 := ⟨by decide +kernel, rfl, by decide⟩
theorem d_X_exchange_117 : xd b_X_exchange 117 (.aload_n 0) 1 118 := ⟨by decide +kernel, rfl⟩
theorem d_X_exchange_118 : xd b_X_exchange 118 (.iload_n 3) 1 119 := ⟨by decide +kernel, rfl⟩
theorem d_X_exchange_119 : xd b_X_exchange 119 (.iload_n 2) 1 120 := ⟨by decide +kernel, rfl⟩
theorem d_X_exchange_120 : xd b_X_exchange 120 (.invokevirtual 85) 3 123 := ⟨by decide +kernel, rfl⟩
theorem d_X_exchange_123 : xd b_X_exchange 123 (.iconst 0) 1 124 := ⟨by decide +kernel, rfl⟩
theorem d_X_exchange_124 : xd b_X_exchange 124 (.ireturn) 1 125 := ⟨by decide +kernel, rfl⟩
theorem d_X_sum_0 : xd b_X_sum 0 (.iload_n 1) 1 1 := ⟨by decide +kernel, rfl⟩
theorem d_X_sum_1 : xd b_X_sum 1 (.invokestatic 45) 3 4 := ⟨by decide +kernel, rfl⟩
theorem d_X_sum_4 : xb b_X_sum 4 (.ifCond .ne 5) 5 7 9 := ⟨by decide +kernel, rfl, by decide⟩
theorem d_X_sum_7 : xd b_X_sum 7 (.iconst 0) 1 8 := ⟨by decide +kernel, rfl⟩
theorem d_X_sum_8 : xd b_X_sum 8 (.ireturn) 1 9 := ⟨by decide +kernel, rfl⟩
theorem d_X_sum_9 : xd b_X_sum 9 (.iconst 0) 1 10 := ⟨by decide +kernel, rfl⟩
theorem d_X_sum_10 : xd b_X_sum 10 (.istore_n 2) 1 11 := ⟨by decide +kernel, rfl⟩
theorem d_X_sum_11 : xd b_X_sum 11 (.bipush 32) 2 13 := ⟨by decide +kernel, rfl⟩
theorem d_X_sum_13 : xd b_X_sum 13 (.iload_n 1) 1 14 := ⟨by decide +kernel, rfl⟩
theorem d_X_sum_14 : xd b_X_sum 14 (.imul) 1 15 := ⟨by decide +kernel, rfl⟩
theorem d_X_sum_15 : xd b_X_sum 15 (.istore_n 3) 1 16 := ⟨by decide +kernel, rfl⟩
theorem d_X_sum_16 : xd b_X_sum 16 (.iload_n 3) 1 17 := ⟨by decide +kernel, rfl⟩
theorem d_X_sum_17 : xd b_X_sum 17 (.bipush 32) 2 19 := ⟨by decide +kernel, rfl⟩
theorem d_X_sum_19 : xd b_X_sum 19 (.iload_n 1) 1 20 := ⟨by decide +kernel, rfl⟩
theorem d_X_sum_20 : xd b_X_sum 20 (.imul) 1 21 := ⟨by decide +kernel, rfl⟩
theorem d_X_sum_21 : xd b_X_sum 21 (.bipush 32) 2 23 := ⟨by decide +kernel, rfl⟩
theorem d_X_sum_23 : xd b_X_sum 23 (.iadd) 1 24 := ⟨by decide +kernel, rfl⟩
theorem d_X_sum_24 : xb b_X_sum 24 (.if_icmp .ge 25) 25 27 49 := ⟨by decide +kernel, rfl, by decide⟩
theorem d_X_sum_27 : xd b_X_sum 27 (.aload_n 0) 1 28 := ⟨by decide +kernel, rfl⟩
theorem d_X_sum_28 : xd b_X_sum 28 (.iload_n 3) 1 29 := ⟨by decide +kernel, rfl⟩
theorem d_X_sum_29 : xd b_X_sum 29 (.invokevirtual 57) 3 32 := ⟨by decide +kernel, rfl⟩
theorem d_X_sum_32 : xb b_X_sum 32 (.ifCond .eq 11) 11 35 43 := ⟨by decide +kernel, rfl, by decide⟩
theorem d_X_sum_35 : xd b_X_sum 35 (.iload_n 2) 1 36 := ⟨by decide +kernel, rfl⟩
theorem d_X_sum_36 : xd b_X_sum 36 (.aload_n 0) 1 37 := ⟨by decide +kernel, rfl⟩
theorem d_X_sum_37 : xd b_X_sum 37 (.iload_n 3) 1 38 := ⟨by decide +kernel, rfl⟩
theorem d_X_sum_38 : xd b_X_sum 38 (.invokevirtual 78) 3 41 := ⟨by decide +kernel, rfl⟩
theorem d_X_sum_41 : xd b_X_sum 41 (.iadd) 1 42 := ⟨by decide +kernel, rfl⟩
theorem d_X_sum_42 : xd b_X_sum 42 (.istore_n 2) 1 43 := ⟨by decide +kernel, rfl⟩
theorem d_X_sum_43 : xd b_X_sum 43 (.iinc 3 1) 3 46 := ⟨by decide +kernel, rfl⟩
theorem d_X_sum_46 : xb b_X_sum 46 (.goto (-30)) (-30) 49 16 := ⟨by decide +kernel, rfl, by decide⟩
theorem d_X_sum_49 : xd b_X_sum 49 (.iload_n 2) 1 50 := ⟨by decide +kernel, rfl⟩
theorem d_X_sum_50 : xd b_X_sum 50 (.ireturn) 1 51 := ⟨by decide +kernel, rfl⟩
theorem d_X_nextMapped_0 : xd b_X_nextMapped 0 (.iload_n 1) 1 1 := ⟨by decide +kernel, rfl⟩
theorem d_X_nextMapped_1 : xd b_X_nextMapped 1 (.invokestatic 45) 3 4 := ⟨by decide +kernel, rfl⟩
theorem d_X_nextMapped_4 : xb b_X_nextMapped 4 (.ifCond .ne 5) 5 7 9 := ⟨by decide +kernel, rfl, by decide⟩
theorem d_X_nextMapped_7 : xd b_X_nextMapped 7 (.iconst (-1)) 1 8 := ⟨by decide +kernel, rfl⟩
theorem d_X_nextMapped_8 : xd b_X_nextMapped 8 (.ireturn) 1 9 := ⟨by decide +kernel, rfl⟩
theorem d_X_nextMapped_9 : xd b_X_nextMapped 9 (.iload_n 2) 1 10 := ⟨by decide +kernel, rfl⟩
theorem d_X_nextMapped_10 : xd b_X_nextMapped 10 (.invokestatic 75) 3 13 := ⟨by decide +kernel, rfl⟩
theorem d_X_nextMapped_13 : xb b_X_nextMapped 13 (.ifCond .ne 6) 6 16 19 := ⟨by decide +kernel, rfl, by decide⟩
theorem d_X_nextMapped_16 : xd b_X_nextMapped 16 (.bipush (-2)) 2 18 := ⟨by decide +kernel, rfl⟩
theorem d_X_nextMapped_18 : xd b_X_nextMapped 18 (.ireturn) 1 19 := ⟨by decide +kernel, rfl⟩
theorem d_X_nextMapped_19 : xd b_X_nextMapped 19 (.iload_n 2) 1 20 := ⟨by decide +kernel, rfl⟩
theorem d_X_nextMapped_20 : xd b_X_nextMapped 20 (.istore_n 3) 1 21 := ⟨by decide +kernel, rfl⟩
theorem d_X_nextMapped_21 : xd b_X_nextMapped 21 (.iload_n 3) 1 22 := ⟨by decide +kernel, rfl⟩
theorem d_X_nextMapped_22 : xd b_X_nextMapped 22 (.bipush 32) 2 24 := ⟨by decide +kernel, rfl⟩
theorem d_X_nextMapped_24 : xb b_X_nextMapped 24 (.if_icmp .ge 24) 24 27 48 := ⟨by decide +kernel, rfl, by decide⟩
theorem d_X_nextMapped_27 : xd b_X_nextMapped 27 (.aload_n 0) 1 28 := ⟨by decide +kernel, rfl⟩
theorem d_X_nextMapped_28 : xd b_X_nextMapped 28 (.bipush 32) 2 30 := ⟨by decide +kernel, rfl⟩
theorem d_X_nextMapped_30 : xd b_X_nextMapped 30 (.iload_n 1) 1 31 := ⟨by decide +kernel, rfl⟩
theorem d_X_nextMapped_31 : xd b_X_nextMapped 31 (.imul) 1 32 := ⟨by decide +kernel, rfl⟩
theorem d_X_nextMapped_32 : xd b_X_nextMapped 32 (.iload_n 3) 1 33 := ⟨by decide +kernel, rfl⟩
theorem d_X_nextMapped_33 : xd b_X_nextMapped 33 (.iadd) 1 34 := ⟨by decide +kernel, rfl⟩
theorem d_X_nextMapped_34 : xd b_X_nextMapped 34 (.invokevirtual 57) 3 37 := ⟨by decide +kernel, rfl⟩
theorem d_X_nextMapped_37 : xb b_X_nextMapped 37 (.ifCond .eq 5) 5 40 42 := ⟨by decide +kernel, rfl, by decide⟩
theorem d_X_nextMapped_40 : xd b_X_nextMapped 40 (.iload_n 3) 1 41 := ⟨by decide +kernel, rfl⟩
theorem d_X_nextMapped_41 : xd b_X_nextMapped 41 (.ireturn) 1 42 := ⟨by decide +kernel, rfl⟩
theorem d_X_nextMapped_42 : xd b_X_nextMapped 42 (.iinc 3 1) 3 45 := ⟨by decide +kernel, rfl⟩
theorem d_X_nextMapped_45 : xb b_X_nextMapped 45 (.goto (-24)) (-24) 48 21 := ⟨by decide +kernel, rfl, by decide⟩
theorem d_X_nextMapped_48 : xd b_X_nextMapped 48 (.bipush (-3)) 2 50 := ⟨by decide +kernel, rfl⟩
theorem d_X_nextMapped_50 : xd b_X_nextMapped 50 (.ireturn) 1 51 := ⟨by decide +kernel, rfl⟩
theorem d_X_isSpace_0 : xd b_X_isSpace 0 (.iload_n 0) 1 1 := ⟨by decide +kernel, rfl⟩
theorem d_X_isSpace_1 : xb b_X_isSpace 1 (.ifCond .eq 8) 8 4 9 := ⟨by decide +kernel, rfl, by decide⟩
theorem d_X_isSpace_4 : xd b_X_isSpace 4 (.iload_n 0) 1 5 := ⟨by decide +kernel, rfl⟩
theorem d_X_isSpace_5 : xd b_X_isSpace 5 (.iconst 1) 1 6 := ⟨by decide +kernel, rfl⟩
theorem d_X_isSpace_6 : xb b_X_isSpace 6 (.if_icmp .ne 7) 7 9 13 := ⟨by decide +kernel, rfl, by decide⟩
theorem d_X_isSpace_9 : xd b_X_isSpace 9 (.iconst 1) 1 10 := ⟨by decide +kernel, rfl⟩
theorem d_X_isSpace_10 : xb b_X_isSpace 10 (.goto 4) 4 13 14 := ⟨by decide +kernel, rfl, by decide⟩
theorem d_X_isSpace_13 : xd b_X_isSpace 13 (.iconst 0) 1 14 := ⟨by decide +kernel, rfl⟩
theorem d_X_isSpace_14 : xd b_X_isSpace 14 (.ireturn) 1 15 := ⟨by decide +kernel, rfl⟩
theorem d_X_isPage_0 : xd b_X_isPage 0 (.iload_n 0) 1 1 := ⟨by decide +kernel, rfl⟩
theorem d_X_isPage_1 : xb b_X_isPage 1 (.ifCond .lt 13) 13 4 14 := ⟨by decide +kernel, rfl, by decide⟩
theorem d_X_isPage_4 : xd b_X_isPage 4 (.iload_n 0) 1 5 := ⟨by decide +kernel, rfl⟩
theorem d_X_isPage_5 : xd b_X_isPage 5 (.bipush 32) 2 7 := ⟨by decide +kernel, rfl⟩
theorem d_X_isPage_7 : xb b_X_isPage 7 (.if_icmp .ge 7) 7 10 14 := ⟨by decide +kernel, rfl, by decide⟩
theorem d_X_isPage_10 : xd b_X_isPage 10 (.iconst 1) 1 11 := ⟨by decide +kernel, rfl⟩
theorem d_X_isPage_11 : xb b_X_isPage 11 (.goto 4) 4 14 15 := ⟨by decide +kernel, rfl, by decide⟩
theorem d_X_isPage_14 : xd b_X_isPage 14 (.iconst 0) 1 15 := ⟨by decide +kernel, rfl⟩
theorem d_X_isPage_15 : xd b_X_isPage 15 (.ireturn) 1 16 := ⟨by decide +kernel, rfl⟩
theorem d_X_isRange_0 : xd b_X_isRange 0 (.iload_n 1) 1 1 := ⟨by decide +kernel, rfl⟩
theorem d_X_isRange_1 : xd b_X_isRange 1 (.iconst 1) 1 2 := ⟨by decide +kernel, rfl⟩
theorem d_X_isRange_2 : xb b_X_isRange 2 (.if_icmp .lt 25) 25 5 27 := ⟨by decide +kernel, rfl, by decide⟩
theorem d_X_isRange_5 : xd b_X_isRange 5 (.iload_n 1) 1 6 := ⟨by decide +kernel, rfl⟩
theorem d_X_isRange_6 : xd b_X_isRange 6 (.bipush 32) 2 8 := ⟨by decide +kernel, rfl⟩
theorem d_X_isRange_8 : xb b_X_isRange 8 (.if_icmp .gt 19) 19 11 27 := ⟨by decide +kernel, rfl, by decide⟩
theorem d_X_isRange_11 : xd b_X_isRange 11 (.iload_n 0) 1 12 := ⟨by decide +kernel, rfl⟩
theorem d_X_isRange_12 : xb b_X_isRange 12 (.ifCond .lt 15) 15 15 27 := ⟨by decide +kernel, rfl, by decide⟩
theorem d_X_isRange_15 : xd b_X_isRange 15 (.iload_n 0) 1 16 := ⟨by decide +kernel, rfl⟩
theorem d_X_isRange_16 : xd b_X_isRange 16 (.bipush 32) 2 18 := ⟨by decide +kernel, rfl⟩
theorem d_X_isRange_18 : xd b_X_isRange 18 (.iload_n 1) 1 19 := ⟨by decide +kernel, rfl⟩
theorem d_X_isRange_19 : xd b_X_isRange 19 (.isub) 1 20 := ⟨by decide +kernel, rfl⟩
theorem d_X_isRange_20 : xb b_X_isRange 20 (.if_icmp .gt 7) 7 23 27 := ⟨by decide +kernel, rfl, by decide⟩
theorem d_X_isRange_23 : xd b_X_isRange 23 (.iconst 1) 1 24 := ⟨by decide +kernel, rfl⟩
theorem d_X_isRange_24 : xb b_X_isRange 24 (.goto 4) 4 27 28 := ⟨by decide +kernel, rfl, by decide⟩
theorem d_X_isRange_27 : xd b_X_isRange 27 (.iconst 0) 1 28 := ⟨by decide +kernel, rfl⟩
theorem d_X_isRange_28 : xd b_X_isRange 28 (.ireturn) 1 29 := ⟨by decide +kernel, rfl⟩
theorem d_X_bits_0 : xd b_X_bits 0 (.iconst 0) 1 1 := ⟨by decide +kernel, rfl⟩
theorem d_X_bits_1 : xd b_X_bits 1 (.istore_n 1) 1 2 := ⟨by decide +kernel, rfl⟩
theorem d_X_bits_2 : xd b_X_bits 2 (.iconst 0) 1 3 := ⟨by decide +kernel, rfl⟩
theorem d_X_bits_3 : xd b_X_bits 3 (.istore_n 2) 1 4 := ⟨by decide +kernel, rfl⟩
theorem d_X_bits_4 : xd b_X_bits 4 (.iload_n 2) 1 5 := ⟨by decide +kernel, rfl⟩
theorem d_X_bits_5 : xd b_X_bits 5 (.iconst 4) 1 6 := ⟨by decide +kernel, rfl⟩
theorem d_X_bits_6 : xb b_X_bits 6 (.if_icmp .ge 17) 17 9 23 := ⟨by decide +kernel, rfl, by decide⟩
theorem d_X_bits_9 : xd b_X_bits 9 (.iload_n 1) 1 10 := ⟨by decide +kernel, rfl⟩
theorem d_X_bits_10 : xd b_X_bits 10 (.iload_n 0) 1 11 := ⟨by decide +kernel, rfl⟩
theorem d_X_bits_11 : xd b_X_bits 11 (.iload_n 2) 1 12 := ⟨by decide +kernel, rfl⟩
theorem d_X_bits_12 : xd b_X_bits 12 (.ishr) 1 13 := ⟨by decide +kernel, rfl⟩
theorem d_X_bits_13 : xd b_X_bits 13 (.iconst 1) 1 14 := ⟨by decide +kernel, rfl⟩
theorem d_X_bits_14 : xd b_X_bits 14 (.iand) 1 15 := ⟨by decide +kernel, rfl⟩
theorem d_X_bits_15 : xd b_X_bits 15 (.iadd) 1 16 := ⟨by decide +kernel, rfl⟩
theorem d_X_bits_16 : xd b_X_bits 16 (.istore_n 1) 1 17 := ⟨by decide +kernel, rfl⟩
theorem d_X_bits_17 : xd b_X_bits 17 (.iinc 2 1) 3 20 := ⟨by decide +kernel, rfl⟩
theorem d_X_bits_20 : xb b_X_bits 20 (.goto (-16)) (-16) 23 4 := ⟨by decide +kernel, rfl, by decide⟩
theorem d_X_bits_23 : xd b_X_bits 23 (.iload_n 1) 1 24 := ⟨by decide +kernel, rfl⟩
theorem d_X_bits_24 : xd b_X_bits 24 (.ireturn) 1 25 := ⟨by decide +kernel, rfl⟩
theorem d_X_has_0 : xd b_X_has 0 (.aload_n 0) 1 1 := ⟨by decide +kernel, rfl⟩
theorem d_X_has_1 : xd b_X_has 1 (.getfield 26) 3 4 := ⟨by decide +kernel, rfl⟩
theorem d_X_has_4 : xd b_X_has 4 (.iload_n 1) 1 5 := ⟨by decide +kernel, rfl⟩
theorem d_X_has_5 : xd b_X_has 5 (.iconst 2) 1 6 := ⟨by decide +kernel, rfl⟩
theorem d_X_has_6 : xd b_X_has 6 (.ishr) 1 7 := ⟨by decide +kernel, rfl⟩
theorem d_X_has_7 : xd b_X_has 7 (.iaload) 1 8 := ⟨by decide +kernel, rfl⟩
theorem d_X_has_8 : xd b_X_has 8 (.iload_n 1) 1 9 := ⟨by decide +kernel, rfl⟩
theorem d_X_has_9 : xd b_X_has 9 (.iconst 3) 1 10 := ⟨by decide +kernel, rfl⟩
theorem d_X_has_10 : xd b_X_has 10 (.iand) 1 11 := ⟨by decide +kernel, rfl⟩
theorem d_X_has_11 : xd b_X_has 11 (.ishr) 1 12 := ⟨by decide +kernel, rfl⟩
theorem d_X_has_12 : xd b_X_has 12 (.iconst 1) 1 13 := ⟨by decide +kernel, rfl⟩
theorem d_X_has_13 : xd b_X_has 13 (.iand) 1 14 := ⟨by decide +kernel, rfl⟩
theorem d_X_has_14 : xd b_X_has 14 (.iconst 1) 1 15 := ⟨by decide +kernel, rfl⟩
theorem d_X_has_15 : xb b_X_has 15 (.if_icmp .ne 7) 7 18 22 := ⟨by decide +kernel, rfl, by decide⟩
theorem d_X_has_18 : xd b_X_has 18 (.iconst 1) 1 19 := ⟨by decide +kernel, rfl⟩
theorem d_X_has_19 : xb b_X_has 19 (.goto 4) 4 22 23 := ⟨by decide +kernel, rfl, by decide⟩
theorem d_X_has_22 : xd b_X_has 22 (.iconst 0) 1 23 := ⟨by decide +kernel, rfl⟩
theorem d_X_has_23 : xd b_X_has 23 (.ireturn) 1 24 := ⟨by decide +kernel, rfl⟩
theorem d_X_translate_0 : xd b_X_translate 0 (.iload_n 1) 1 1 := ⟨by decide +kernel, rfl⟩
theorem d_X_translate_1 : xd b_X_translate 1 (.iconst 2) 1 2 := ⟨by decide +kernel, rfl⟩
theorem d_X_translate_2 : xd b_X_translate 2 (.ishr) 1 3 := ⟨by decide +kernel, rfl⟩
theorem d_X_translate_3 : xd b_X_translate 3 (.istore_n 2) 1 4 := ⟨by decide +kernel, rfl⟩
theorem d_X_translate_4 : xd b_X_translate 4 (.aload_n 0) 1 5 := ⟨by decide +kernel, rfl⟩
theorem d_X_translate_5 : xd b_X_translate 5 (.getfield 29) 3 8 := ⟨by decide +kernel, rfl⟩
theorem d_X_translate_8 : xd b_X_translate 8 (.iload_n 2) 1 9 := ⟨by decide +kernel, rfl⟩
theorem d_X_translate_9 : xd b_X_translate 9 (.baload) 1 10 := ⟨by decide +kernel, rfl⟩
theorem d_X_translate_10 : xb b_X_translate 10 (.ifCond .eq 16) 16 13 26 := ⟨by decide +kernel, rfl, by decide⟩
theorem d_X_translate_13 : xd b_X_translate 13 (.aload_n 0) 1 14 := ⟨by decide +kernel, rfl⟩
theorem d_X_translate_14 : xd b_X_translate 14 (.getfield 23) 3 17 := ⟨by decide +kernel, rfl⟩
theorem d_X_translate_17 : xd b_X_translate 17 (.iload_n 2) 1 18 := ⟨by decide +kernel, rfl⟩
theorem d_X_translate_18 : xd b_X_translate 18 (.iaload) 1 19 := ⟨by decide +kernel, rfl⟩
theorem d_X_translate_19 : xd b_X_translate 19 (.iload_n 1) 1 20 := ⟨by decide +kernel, rfl⟩
theorem d_X_translate_20 : xd b_X_translate 20 (.iconst 3) 1 21 := ⟨by decide +kernel, rfl⟩
theorem d_X_translate_21 : xd b_X_translate 21 (.iand) 1 22 := ⟨by decide +kernel, rfl⟩
theorem d_X_translate_22 : xd b_X_translate 22 (.iadd) 1 23 := ⟨by decide +kernel, rfl⟩
theorem d_X_translate_23 : xb b_X_translate 23 (.goto 9) 9 26 32 := ⟨by decide +kernel, rfl, by decide⟩
theorem d_X_translate_26 : xd b_X_translate 26 (.aload_n 0) 1 27 := ⟨by decide +kernel, rfl⟩
theorem d_X_translate_27 : xd b_X_translate 27 (.getfield 17) 3 30 := ⟨by decide +kernel, rfl⟩
theorem d_X_translate_30 : xd b_X_translate 30 (.iload_n 1) 1 31 := ⟨by decide +kernel, rfl⟩
theorem d_X_translate_31 : xd b_X_translate 31 (.iaload) 1 32 := ⟨by decide +kernel, rfl⟩
theorem d_X_translate_32 : xd b_X_translate 32 (.ireturn) 1 33 := ⟨by decide +kernel, rfl⟩
theorem d_X_mayWrite_0 : xd b_X_mayWrite 0 (.aload_n 0) 1 1 := ⟨by decide +kernel, rfl⟩
theorem d_X_mayWrite_1 : xd b_X_mayWrite 1 (.getfield 29) 3 4 := ⟨by decide +kernel, rfl⟩
theorem d_X_mayWrite_4 : xd b_X_mayWrite 4 (.iload_n 1) 1 5 := ⟨by decide +kernel, rfl⟩
theorem d_X_mayWrite_5 : xd b_X_mayWrite 5 (.iconst 2) 1 6 := ⟨by decide +kernel, rfl⟩
theorem d_X_mayWrite_6 : xd b_X_mayWrite 6 (.ishr) 1 7 := ⟨by decide +kernel, rfl⟩
theorem d_X_mayWrite_7 : xd b_X_mayWrite 7 (.baload) 1 8 := ⟨by decide +kernel, rfl⟩
theorem d_X_mayWrite_8 : xb b_X_mayWrite 8 (.ifCond .eq 14) 14 11 22 := ⟨by decide +kernel, rfl, by decide⟩
theorem d_X_mayWrite_11 : xd b_X_mayWrite 11 (.aload_n 0) 1 12 := ⟨by decide +kernel, rfl⟩
theorem d_X_mayWrite_12 : xd b_X_mayWrite 12 (.getfield 32) 3 15 := ⟨by decide +kernel, rfl⟩
theorem d_X_mayWrite_15 : xd b_X_mayWrite 15 (.iload_n 1) 1 16 := ⟨by decide +kernel, rfl⟩
theorem d_X_mayWrite_16 : xd b_X_mayWrite 16 (.iconst 2) 1 17 := ⟨by decide +kernel, rfl⟩
theorem d_X_mayWrite_17 : xd b_X_mayWrite 17 (.ishr) 1 18 := ⟨by decide +kernel, rfl⟩
theorem d_X_mayWrite_18 : xd b_X_mayWrite 18 (.baload) 1 19 := ⟨by decide +kernel, rfl⟩
theorem d_X_mayWrite_19 : xb b_X_mayWrite 19 (.goto 9) 9 22 28 := ⟨by decide +kernel, rfl, by decide⟩
theorem d_X_mayWrite_22 : xd b_X_mayWrite 22 (.aload_n 0) 1 23 := ⟨by decide +kernel, rfl⟩
theorem d_X_mayWrite_23 : xd b_X_mayWrite 23 (.getfield 20) 3 26 := ⟨by decide +kernel, rfl⟩
theorem d_X_mayWrite_26 : xd b_X_mayWrite 26 (.iload_n 1) 1 27 := ⟨by decide +kernel, rfl⟩
theorem d_X_mayWrite_27 : xd b_X_mayWrite 27 (.baload) 1 28 := ⟨by decide +kernel, rfl⟩
theorem d_X_mayWrite_28 : xd b_X_mayWrite 28 (.ireturn) 1 29 := ⟨by decide +kernel, rfl⟩
theorem d_X_content_0 : xd b_X_content 0 (.aload_n 0) 1 1 := ⟨by decide +kernel, rfl⟩
theorem d_X_content_1 : xd b_X_content 1 (.iload_n 1) 1 2 := ⟨by decide +kernel, rfl⟩
theorem d_X_content_2 : xd b_X_content 2 (.invokevirtual 88) 3 5 := ⟨by decide +kernel, rfl⟩
theorem d_X_content_5 : xd b_X_content 5 (.istore_n 2) 1 6 := ⟨by decide +kernel, rfl⟩
theorem d_X_content_6 : xd b_X_content 6 (.aload_n 0) 1 7 := ⟨by decide +kernel, rfl⟩
theorem d_X_content_7 : xd b_X_content 7 (.getfield 7) 3 10 := ⟨by decide +kernel, rfl⟩
theorem d_X_content_10 : xd b_X_content 10 (.iload_n 2) 1 11 := ⟨by decide +kernel, rfl⟩
theorem d_X_content_11 : xd b_X_content 11 (.iaload) 1 12 := ⟨by decide +kernel, rfl⟩
theorem d_X_content_12 : xd b_X_content 12 (.ireturn) 1 13 := ⟨by decide +kernel, rfl⟩
theorem d_X_setContent_0 : xd b_X_setContent 0 (.aload_n 0) 1 1 := ⟨by decide +kernel, rfl⟩
theorem d_X_setContent_1 : xd b_X_setContent 1 (.iload_n 1) 1 2 := ⟨by decide +kernel, rfl⟩
theorem d_X_setContent_2 : xd b_X_setContent 2 (.invokevirtual 88) 3 5 := ⟨by decide +kernel, rfl⟩
theorem d_X_setContent_5 : xd b_X_setContent 5 (.istore_n 3) 1 6 := ⟨by decide +kernel, rfl⟩
theorem d_X_setContent_6 : xd b_X_setContent 6 (.aload_n 0) 1 7 := ⟨by decide +kernel, rfl⟩
theorem d_X_setContent_7 : xd b_X_setContent 7 (.getfield 7) 3 10 := ⟨by decide +kernel, rfl⟩
theorem d_X_setContent_10 : xd b_X_setContent 10 (.iload_n 3) 1 11 := ⟨by decide +kernel, rfl⟩
theorem d_X_setContent_11 : xd b_X_setContent 11 (.iload_n 2) 1 12 := ⟨by decide +kernel, rfl⟩
theorem d_X_setContent_12 : xd b_X_setContent 12 (.iastore) 1 13 := ⟨by decide +kernel, rfl⟩
theorem d_X_setContent_13 : xd b_X_setContent 13 (.aload_n 0) 1 14 := ⟨by decide +kernel, rfl⟩
theorem d_X_setContent_14 : xd b_X_setContent 14 (.iload_n 1) 1 15 := ⟨by decide +kernel, rfl⟩
theorem d_X_setContent_15 : xd b_X_setContent 15 (.iconst 2) 1 16 := ⟨by decide +kernel, rfl⟩
theorem d_X_setContent_16 : xd b_X_setContent 16 (.ishr) 1 17 := ⟨by decide +kernel, rfl⟩
theorem d_X_setContent_17 : xd b_X_setContent 17 (.invokevirtual 91) 3 20 := ⟨by decide +kernel, rfl⟩
theorem d_X_setContent_20 : xd b_X_setContent 20 (.return_) 1 21 := ⟨by decide +kernel, rfl⟩
theorem d_X_use_0 : xd b_X_use 0 (.aload_n 0) 1 1 := ⟨by decide +kernel, rfl⟩
theorem d_X_use_1 : xd b_X_use 1 (.dup) 1 2 := ⟨by decide +kernel, rfl⟩
theorem d_X_use_2 : xd b_X_use 2 (.getfield 94) 3 5 := ⟨by decide +kernel, rfl⟩
theorem d_X_use_5 : xd b_X_use 5 (.iconst 1) 1 6 := ⟨by decide +kernel, rfl⟩
theorem d_X_use_6 : xd b_X_use 6 (.iadd) 1 7 := ⟨by decide +kernel, rfl⟩
theorem d_X_use_7 : xd b_X_use 7 (.putfield 94) 3 10 := ⟨by decide +kernel, rfl⟩
theorem d_X_use_10 : xd b_X_use 10 (.aload_n 0) 1 11 := ⟨by decide +kernel, rfl⟩
theorem d_X_use_11 : xd b_X_use 11 (.getfield 35) 3 14 := ⟨by decide +kernel, rfl⟩
theorem d_X_use_14 : xd b_X_use 14 (.iload_n 1) 1 15 := ⟨by decide +kernel, rfl⟩
theorem d_X_use_15 : xd b_X_use 15 (.aload_n 0) 1 16 := ⟨by decide +kernel, rfl⟩
theorem d_X_use_16 : xd b_X_use 16 (.getfield 94) 3 19 := ⟨by decide +kernel, rfl⟩
theorem d_X_use_19 : xd b_X_use 19 (.iastore) 1 20 := ⟨by decide +kernel, rfl⟩
theorem d_X_use_20 : xd b_X_use 20 (.return_) 1 21 := ⟨by decide +kernel, rfl⟩
theorem d_X_setWrite_0 : xd b_X_setWrite 0 (.iload_n 1) 1 1 := ⟨by decide +kernel, rfl⟩
theorem d_X_setWrite_1 : xd b_X_setWrite 1 (.iconst 2) 1 2 := ⟨by decide +kernel, rfl⟩
theorem d_X_setWrite_2 : xd b_X_setWrite 2 (.ishr) 1 3 := ⟨by decide +kernel, rfl⟩
theorem d_X_setWrite_3 : xd b_X_setWrite 3 (.istore_n 3) 1 4 := ⟨by decide +kernel, rfl⟩
theorem d_X_setWrite_4 : xd b_X_setWrite 4 (.aload_n 0) 1 5 := ⟨by decide +kernel, rfl⟩
theorem d_X_setWrite_5 : xd b_X_setWrite 5 (.getfield 29) 3 8 := ⟨by decide +kernel, rfl⟩
theorem d_X_setWrite_8 : xd b_X_setWrite 8 (.iload_n 3) 1 9 := ⟨by decide +kernel, rfl⟩
theorem d_X_setWrite_9 : xd b_X_setWrite 9 (.baload) 1 10 := ⟨by decide +kernel, rfl⟩
theorem d_X_setWrite_10 : xb b_X_setWrite 10 (.ifCond .eq 19) 19 13 29 := ⟨by decide +kernel, rfl, by decide⟩
theorem d_X_setWrite_13 : xd b_X_setWrite 13 (.aload_n 0) 1 14 := ⟨by decide +kernel, rfl⟩
theorem d_X_setWrite_14 : xd b_X_setWrite 14 (.getfield 32) 3 17 := ⟨by decide +kernel, rfl⟩
theorem d_X_setWrite_17 : xd b_X_setWrite 17 (.iload_n 3) 1 18 := ⟨by decide +kernel, rfl⟩
theorem d_X_setWrite_18 : xd b_X_setWrite 18 (.baload) 1 19 := ⟨by decide +kernel, rfl⟩
theorem d_X_setWrite_19 : xd b_X_setWrite 19 (.iload_n 2) 1 20 := ⟨by decide +kernel, rfl⟩
theorem d_X_setWrite_20 : xb b_X_setWrite 20 (.if_icmp .ne 4) 4 23 24 := ⟨by decide +kernel, rfl, by decide⟩
theorem d_X_setWrite_23 : xd b_X_setWrite 23 (.return_) 1 24 := ⟨by decide +kernel, rfl⟩
theorem d_X_setWrite_24 : xd b_X_setWrite 24 (.aload_n 0) 1 25 := ⟨by decide +kernel, rfl⟩
theorem d_X_setWrite_25 : xd b_X_setWrite 25 (.iload_n 3) 1 26 := ⟨by decide +kernel, rfl⟩
theorem d_X_setWrite_26 : xd b_X_setWrite 26 (.invokevirtual 97) 3 29 := ⟨by decide +kernel, rfl⟩
theorem d_X_setWrite_29 : xd b_X_setWrite 29 (.aload_n 0) 1 30 := ⟨by decide +kernel, rfl⟩
theorem d_X_setWrite_30 : xd b_X_setWrite 30 (.getfield 20) 3 33 := ⟨by decide +kernel, rfl⟩
theorem d_X_setWrite_33 : xd b_X_setWrite 33 (.iload_n 1) 1 34 := ⟨by decide +kernel, rfl⟩
theorem d_X_setWrite_34 : xd b_X_setWrite 34 (.iload_n 2) 1 35 := ⟨by decide +kernel, rfl⟩
theorem d_X_setWrite_35 : xd b_X_setWrite 35 (.bastore) 1 36 := ⟨by decide +kernel, rfl⟩
theorem d_X_setWrite_36 : xd b_X_setWrite 36 (.aload_n 0) 1 37 := ⟨by decide +kernel, rfl⟩
theorem d_X_setWrite_37 : xd b_X_setWrite 37 (.iload_n 3) 1 38 := ⟨by decide +kernel, rfl⟩
theorem d_X_setWrite_38 : xd b_X_setWrite 38 (.invokevirtual 100) 3 41 := ⟨by decide +kernel, rfl⟩
theorem d_X_setWrite_41 : xd b_X_setWrite 41 (.return_) 1 42 := ⟨by decide +kernel, rfl⟩
theorem d_X_breakUp_0 : xd b_X_breakUp 0 (.aload_n 0) 1 1 := ⟨by decide +kernel, rfl⟩
theorem d_X_breakUp_1 : xd b_X_breakUp 1 (.getfield 29) 3 4 := ⟨by decide +kernel, rfl⟩
theorem d_X_breakUp_4 : xd b_X_breakUp 4 (.iload_n 1) 1 5 := ⟨by decide +kernel, rfl⟩
theorem d_X_breakUp_5 : xd b_X_breakUp 5 (.baload) 1 6 := ⟨by decide +kernel, rfl⟩
theorem d_X_breakUp_6 : xb b_X_breakUp 6 (.ifCond .ne 4) 4 9 10 := ⟨by decide +kernel, rfl, by decide⟩
theorem d_X_breakUp_9 : xd b_X_breakUp 9 (.return_) 1 10 := ⟨by decide +kernel, rfl⟩
theorem d_X_breakUp_10 : xd b_X_breakUp 10 (.iconst 0) 1 11 := ⟨by decide +kernel, rfl⟩
theorem d_X_breakUp_11 : xd b_X_breakUp 11 (.istore_n 2) 1 12 := ⟨by decide +kernel, rfl⟩
theorem d_X_breakUp_12 : xd b_X_breakUp 12 (.iload_n 2) 1 13 := ⟨by decide +kernel, rfl⟩
theorem d_X_breakUp_13 : xd b_X_breakUp 13 (.iconst 4) 1 14 := ⟨by decide +kernel, rfl⟩
theorem d_X_breakUp_14 : xb b_X_breakUp 14 (.if_icmp .ge 43) 43 17 57 := ⟨by decide +kernel, rfl, by decide⟩
theorem d_X_breakUp_17 : xd b_X_breakUp 17 (.aload_n 0) 1 18 := ⟨by decide +kernel, rfl⟩
theorem d_X_breakUp_18 : xd b_X_breakUp 18 (.getfield 17) 3 21 := ⟨by decide +kernel, rfl⟩
theorem d_X_breakUp_21 : xd b_X_breakUp 21 (.iconst 4) 1 22 := ⟨by decide +kernel, rfl⟩
theorem d_X_breakUp_22 : xd b_X_breakUp 22 (.iload_n 1) 1 23 := ⟨by decide +kernel, rfl⟩
theorem d_X_breakUp_23 : xd b_X_breakUp 23 (.imul) 1 24 := ⟨by decide +kernel, rfl⟩
theorem d_X_breakUp_24 : xd b_X_breakUp 24 (.iload_n 2) 1 25 := ⟨by decide +kernel, rfl⟩
theorem d_X_breakUp_25 : xd b_X_breakUp 25 (.iadd) 1 26 := ⟨by decide +kernel, rfl⟩
theorem d_X_breakUp_26 : xd b_X_breakUp 26 (.aload_n 0) 1 27 := ⟨by decide +kernel, rfl⟩
theorem d_X_breakUp_27 : xd b_X_breakUp 27 (.getfield 23) 3 30 := ⟨by decide +kernel, rfl⟩
theorem d_X_breakUp_30 : xd b_X_breakUp 30 (.iload_n 1) 1 31 := ⟨by decide +kernel, rfl⟩
theorem d_X_breakUp_31 : xd b_X_breakUp 31 (.iaload) 1 32 := ⟨by decide +kernel, rfl⟩
theorem d_X_breakUp_32 : xd b_X_breakUp 32 (.iload_n 2) 1 33 := ⟨by decide +kernel, rfl⟩
theorem d_X_breakUp_33 : xd b_X_breakUp 33 (.iadd) 1 34 := ⟨by decide +kernel, rfl⟩
theorem d_X_breakUp_34 : xd b_X_breakUp 34 (.iastore) 1 35 := ⟨by decide +kernel, rfl⟩
theorem d_X_breakUp_35 : xd b_X_breakUp 35 (.aload_n 0) 1 36 := ⟨by decide +kernel, rfl⟩
theorem d_X_breakUp_36 : xd b_X_breakUp 36 (.getfield 20) 3 39 := ⟨by decide +kernel, rfl⟩
theorem d_X_breakUp_39 : xd b_X_breakUp 39 (.iconst 4) 1 40 := ⟨by decide +kernel, rfl⟩
theorem d_X_breakUp_40 : xd b_X_breakUp 40 (.iload_n 1) 1 41 := ⟨by decide +kernel, rfl⟩
theorem d_X_breakUp_41 : xd b_X_breakUp 41 (.imul) 1 42 := ⟨by decide +kernel, rfl⟩
theorem d_X_breakUp_42 : xd b_X_breakUp 42 (.iload_n 2) 1 43 := ⟨by decide +kernel, rfl⟩
theorem d_X_breakUp_43 : xd b_X_breakUp 43 (.iadd) 1 44 := ⟨by decide +kernel, rfl⟩
theorem d_X_breakUp_44 : xd b_X_breakUp 44 (.aload_n 0) 1 45 := ⟨by decide +kernel, rfl⟩
theorem d_X_breakUp_45 : xd b_X_breakUp 45 (.getfield 32) 3 48 := ⟨by decide +kernel, rfl⟩
theorem d_X_breakUp_48 : xd b_X_breakUp 48 (.iload_n 1) 1 49 := ⟨by decide +kernel, rfl⟩
theorem d_X_breakUp_49 : xd b_X_breakUp 49 (.baload) 1 50 := ⟨by decide +kernel, rfl⟩
theorem d_X_breakUp_50 : xd b_X_breakUp 50 (.bastore) 1 51 := ⟨by decide +kernel, rfl⟩
theorem d_X_breakUp_51 : xd b_X_breakUp 51 (.iinc 2 1) 3 54 := ⟨by decide +kernel, rfl⟩
theorem d_X_breakUp_54 : xb b_X_breakUp 54 (.goto (-42)) (-42) 57 12 := ⟨by decide +kernel, rfl, by decide⟩
theorem d_X_breakUp_57 : xd b_X_breakUp 57 (.aload_n 0) 1 58 := ⟨by decide +kernel, rfl⟩
theorem d_X_breakUp_58 : xd b_X_breakUp 58 (.getfield 29) 3 61 := ⟨by decide +kernel, rfl⟩
theorem d_X_breakUp_61 : xd b_X_breakUp 61 (.iload_n 1) 1 62 := ⟨by decide +kernel, rfl⟩
theorem d_X_breakUp_62 : xd b_X_breakUp 62 (.iconst 0) 1 63 := ⟨by decide +kernel, rfl⟩
theorem d_X_breakUp_63 : xd b_X_breakUp 63 (.bastore) 1 64 := ⟨by decide +kernel, rfl⟩
theorem d_X_breakUp_64 : xd b_X_breakUp 64 (.return_) 1 65 := ⟨by decide +kernel, rfl⟩
theorem d_X_joinUp_0 : xd b_X_joinUp 0 (.aload_n 0) 1 1 := ⟨by decide +kernel, rfl⟩
theorem d_X_joinUp_1 : xd b_X_joinUp 1 (.getfield 23) 3 4 := ⟨by decide +kernel, rfl⟩
theorem d_X_joinUp_4 : xd b_X_joinUp 4 (.iload_n 1) 1 5 := ⟨by decide +kernel, rfl⟩
theorem d_X_joinUp_5 : xd b_X_joinUp 5 (.iaload) 1 6 := ⟨by decide +kernel, rfl⟩
theorem d_X_joinUp_6 : xd b_X_joinUp 6 (.iconst (-1)) 1 7 := ⟨by decide +kernel, rfl⟩
theorem d_X_joinUp_7 : xb b_X_joinUp 7 (.if_icmp .eq 23) 23 10 30 := ⟨by decide +kernel, rfl, by decide⟩
theorem d_X_joinUp_10 : xd b_X_joinUp 10 (.aload_n 0) 1 11 := ⟨by decide +kernel, rfl⟩
theorem d_X_joinUp_11 : xd b_X_joinUp 11 (.getfield 26) 3 14 := ⟨by decide +kernel, rfl⟩
theorem d_X_joinUp_14 : xd b_X_joinUp 14 (.iload_n 1) 1 15 := ⟨by decide +kernel, rfl⟩
theorem d_X_joinUp_15 : xd b_X_joinUp 15 (.iaload) 1 16 := ⟨by decide +kernel, rfl⟩
theorem d_X_joinUp_16 : xd b_X_joinUp 16 (.bipush 15) 2 18 := ⟨by decide +kernel, rfl⟩
theorem d_X_joinUp_18 : xb b_X_joinUp 18 (.if_icmp .ne 12) 12 21 30 := ⟨by decide +kernel, rfl, by decide⟩
theorem d_X_joinUp_21 : xd b_X_joinUp 21 (.aload_n 0) 1 22 := ⟨by decide +kernel, rfl⟩
theorem d_X_joinUp_22 : xd b_X_joinUp 22 (.getfield 29) 3 25 := ⟨by decide +kernel, rfl⟩
theorem d_X_joinUp_25 : xd b_X_joinUp 25 (.iload_n 1) 1 26 := ⟨by decide +kernel, rfl⟩
theorem d_X_joinUp_26 : xd b_X_joinUp 26 (.baload) 1 27 := ⟨by decide +kernel, rfl⟩
theorem d_X_joinUp_27 : xb b_X_joinUp 27 (.ifCond .eq 4) 4 30 31 := ⟨by decide +kernel, rfl, by decide⟩
theorem d_X_joinUp_30 : xd b_X_joinUp 30 (.return_) 1 31 := ⟨by decide +kernel, rfl⟩
theorem d_X_joinUp_31 : xd b_X_joinUp 31 (.iconst 1) 1 32 := ⟨by decide +kernel, rfl⟩
theorem d_X_joinUp_32 : xd b_X_joinUp 32 (.istore_n 2) 1 33 := ⟨by decide +kernel, rfl⟩
theorem d_X_joinUp_33 : xd b_X_joinUp 33 (.iload_n 2) 1 34 := ⟨by decide +kernel, rfl⟩
theorem d_X_joinUp_34 : xd b_X_joinUp 34 (.iconst 4) 1 35 := ⟨by decide +kernel, rfl⟩
theorem d_X_joinUp_35 : xb b_X_joinUp 35 (.if_icmp .ge 31) 31 38 66 := ⟨by decide +kernel, rfl, by decide⟩
theorem d_X_joinUp_38 : xd b_X_joinUp 38 (.aload_n 0) 1 39 := ⟨by decide +kernel, rfl⟩
theorem d_X_joinUp_39 : xd b_X_joinUp 39 (.getfield 20) 3 42 := ⟨by decide +kernel, rfl⟩
theorem d_X_joinUp_42 : xd b_X_joinUp 42 (.iconst 4) 1 43 := ⟨by decide +kernel, rfl⟩
theorem d_X_joinUp_43 : xd b_X_joinUp 43 (.iload_n 1) 1 44 := ⟨by decide +kernel, rfl⟩
theorem d_X_joinUp_44 : xd b_X_joinUp 44 (.imul) 1 45 := ⟨by decide +kernel, rfl⟩
theorem d_X_joinUp_45 : xd b_X_joinUp 45 (.iload_n 2) 1 46 := ⟨by decide +kernel, rfl⟩
theorem d_X_joinUp_46 : xd b_X_joinUp 46 (.iadd) 1 47 := ⟨by decide +kernel, rfl⟩
theorem d_X_joinUp_47 : xd b_X_joinUp 47 (.baload) 1 48 := ⟨by decide +kernel, rfl⟩
theorem d_X_joinUp_48 : xd b_X_joinUp 48 (.aload_n 0) 1 49 := ⟨by decide +kernel, rfl⟩
theorem d_X_joinUp_49 : xd b_X_joinUp 49 (.getfield 20) 3 52 := ⟨by decide +kernel, rfl⟩
theorem d_X_joinUp_52 : xd b_X_joinUp 52 (.iconst 4) 1 53 := ⟨by decide +kernel, rfl⟩
theorem d_X_joinUp_53 : xd b_X_joinUp 53 (.iload_n 1) 1 54 := ⟨by decide +kernel, rfl⟩
theorem d_X_joinUp_54 : xd b_X_joinUp 54 (.imul) 1 55 := ⟨by decide +kernel, rfl⟩
theorem d_X_joinUp_55 : xd b_X_joinUp 55 (.baload) 1 56 := ⟨by decide +kernel, rfl⟩
theorem d_X_joinUp_56 : xb b_X_joinUp 56 (.if_icmp .eq 4) 4 59 60 := ⟨by decide +kernel, rfl, by decide⟩
theorem d_X_joinUp_59 : xd b_X_joinUp 59 (.return_) 1 60 := ⟨by decide +kernel, rfl⟩
theorem d_X_joinUp_60 : xd b_X_joinUp 60 (.iinc 2 1) 3 63 := ⟨by decide +kernel, rfl⟩
theorem d_X_joinUp_63 : xb b_X_joinUp 63 (.goto (-30)) (-30) 66 33 := ⟨by decide +kernel, rfl, by decide⟩
theorem d_X_joinUp_66 : xd b_X_joinUp 66 (.aload_n 0) 1 67 := ⟨by decide +kernel, rfl⟩
theorem d_X_joinUp_67 : xd b_X_joinUp 67 (.getfield 29) 3 70 := ⟨by decide +kernel, rfl⟩
theorem d_X_joinUp_70 : xd b_X_joinUp 70 (.iload_n 1) 1 71 := ⟨by decide +kernel, rfl⟩
theorem d_X_joinUp_71 : xd b_X_joinUp 71 (.iconst 1) 1 72 := ⟨by decide +kernel, rfl⟩
theorem d_X_joinUp_72 : xd b_X_joinUp 72 (.bastore) 1 73 := ⟨by decide +kernel, rfl⟩
theorem d_X_joinUp_73 : xd b_X_joinUp 73 (.aload_n 0) 1 74 := ⟨by decide +kernel, rfl⟩
theorem d_X_joinUp_74 : xd b_X_joinUp 74 (.getfield 32) 3 77 := ⟨by decide +kernel, rfl⟩
theorem d_X_joinUp_77 : xd b_X_joinUp 77 (.iload_n 1) 1 78 := ⟨by decide +kernel, rfl⟩
theorem d_X_joinUp_78 : xd b_X_joinUp 78 (.aload_n 0) 1 79 := ⟨by decide +kernel, rfl⟩
theorem d_X_joinUp_79 : xd b_X_joinUp 79 (.getfield 20) 3 82 := ⟨by decide +kernel, rfl⟩
theorem d_X_joinUp_82 : xd b_X_joinUp 82 (.iconst 4) 1 83 := ⟨by decide +kernel, rfl⟩
theorem d_X_joinUp_83 : xd b_X_joinUp 83 (.iload_n 1) 1 84 := ⟨by decide +kernel, rfl⟩
theorem d_X_joinUp_84 : xd b_X_joinUp 84 (.imul) 1 85 := ⟨by decide +kernel, rfl⟩
theorem d_X_joinUp_85 : xd b_X_joinUp 85 (.baload) 1 86 := ⟨by decide +kernel, rfl⟩
theorem d_X_joinUp_86 : xd b_X_joinUp 86 (.bastore) 1 87 := ⟨by decide +kernel, rfl⟩
theorem d_X_joinUp_87 : xd b_X_joinUp 87 (.iconst 0) 1 88 := ⟨by decide +kernel, rfl⟩
theorem d_X_joinUp_88 : xd b_X_joinUp 88 (.istore_n 2) 1 89 := ⟨by decide +kernel, rfl⟩
theorem d_X_joinUp_89 : xd b_X_joinUp 89 (.iload_n 2) 1 90 := ⟨by decide +kernel, rfl⟩
theorem d_X_joinUp_90 : xd b_X_joinUp 90 (.iconst 4) 1 91 := ⟨by decide +kernel, rfl⟩
theorem d_X_joinUp_91 : xb b_X_joinUp 91 (.if_icmp .ge 20) 20 94 111 := ⟨by decide +kernel, rfl, by decide⟩
theorem d_X_joinUp_94 : xd b_X_joinUp 94 (.aload_n 0) 1 95 := ⟨by decide +kernel, rfl⟩
theorem d_X_joinUp_95 : xd b_X_joinUp 95 (.getfield 17) 3 98 := ⟨by decide +kernel, rfl⟩
theorem d_X_joinUp_98 : xd b_X_joinUp 98 (.iconst 4) 1 99 := ⟨by decide +kernel, rfl⟩
theorem d_X_joinUp_99 : xd b_X_joinUp 99 (.iload_n 1) 1 100 := ⟨by decide +kernel, rfl⟩
theorem d_X_joinUp_100 : xd b_X_joinUp 100 (.imul) 1 101 := ⟨by decide +kernel, rfl⟩
theorem d_X_joinUp_101 : xd b_X_joinUp 101 (.iload_n 2) 1 102 := ⟨by decide +kernel, rfl⟩
theorem d_X_joinUp_102 : xd b_X_joinUp 102 (.iadd) 1 103 := ⟨by decide +kernel, rfl⟩
theorem d_X_joinUp_103 : xd b_X_joinUp 103 (.iconst (-1)) 1 104 := ⟨by decide +kernel, rfl⟩
theorem d_X_joinUp_104 : xd b_X_joinUp 104 (.iastore) 1 105 := ⟨by decide +kernel, rfl⟩
theorem d_X_joinUp_105 : xd b_X_joinUp 105 (.iinc 2 1) 3 108 := ⟨by decide +kernel, rfl⟩
theorem d_X_joinUp_108 : xb b_X_joinUp 108 (.goto (-19)) (-19) 111 89 := ⟨by decide +kernel, rfl, by decide⟩
theorem d_X_joinUp_111 : xd b_X_joinUp 111 (.return_) 1 112 := ⟨by decide +kernel, rfl⟩
theorem d_X_bringIn_0 : xd b_X_bringIn 0 (.iload_n 1) 1 1 := ⟨by decide +kernel, rfl⟩
theorem d_X_bringIn_1 : xd b_X_bringIn 1 (.iconst 2) 1 2 := ⟨by decide +kernel, rfl⟩
theorem d_X_bringIn_2 : xd b_X_bringIn 2 (.ishr) 1 3 := ⟨by decide +kernel, rfl⟩
theorem d_X_bringIn_3 : xd b_X_bringIn 3 (.istore 4) 2 5 := ⟨by decide +kernel, rfl⟩
theorem d_X_bringIn_5 : xd b_X_bringIn 5 (.aload_n 0) 1 6 := ⟨by decide +kernel, rfl⟩
theorem d_X_bringIn_6 : xd b_X_bringIn 6 (.getfield 26) 3 9 := ⟨by decide +kernel, rfl⟩
theorem d_X_bringIn_9 : xd b_X_bringIn 9 (.iload 4) 2 11 := ⟨by decide +kernel, rfl⟩
theorem d_X_bringIn_11 : xd b_X_bringIn 11 (.iaload) 1 12 := ⟨by decide +kernel, rfl⟩
theorem d_X_bringIn_12 : xb b_X_bringIn 12 (.ifCond .ne 15) 15 15 27 := ⟨by decide +kernel, rfl, by decide⟩
theorem d_X_bringIn_15 : xd b_X_bringIn 15 (.aload_n 0) 1 16 := ⟨by decide +kernel, rfl⟩
theorem d_X_bringIn_16 : xd b_X_bringIn 16 (.getfield 23) 3 19 := ⟨by decide +kernel, rfl⟩
theorem d_X_bringIn_19 : xd b_X_bringIn 19 (.iload 4) 2 21 := ⟨by decide +kernel, rfl⟩
theorem d_X_bringIn_21 : xd b_X_bringIn 21 (.aload_n 0) 1 22 := ⟨by decide +kernel, rfl⟩
theorem d_X_bringIn_22 : xd b_X_bringIn 22 (.iconst 2) 1 23 := ⟨by decide +kernel, rfl⟩
theorem d_X_bringIn_23 : xd b_X_bringIn 23 (.invokevirtual 103) 3 26 := ⟨by decide +kernel, rfl⟩
theorem d_X_bringIn_26 : xd b_X_bringIn 26 (.iastore) 1 27 := ⟨by decide +kernel, rfl⟩
theorem d_X_bringIn_27 : xd b_X_bringIn 27 (.aload_n 0) 1 28 := ⟨by decide +kernel, rfl⟩
theorem d_X_bringIn_28 : xd b_X_bringIn 28 (.getfield 23) 3 31 := ⟨by decide +kernel, rfl⟩
theorem d_X_bringIn_31 : xd b_X_bringIn 31 (.iload 4) 2 33 := ⟨by decide +kernel, rfl⟩
theorem d_X_bringIn_33 : xd b_X_bringIn 33 (.iaload) 1 34 := ⟨by decide +kernel, rfl⟩
theorem d_X_bringIn_34 : xd b_X_bringIn 34 (.iconst (-1)) 1 35 := ⟨by decide +kernel, rfl⟩
theorem d_X_bringIn_35 : xb b_X_bringIn 35 (.if_icmp .eq 19) 19 38 54 := ⟨by decide +kernel, rfl, by decide⟩
theorem d_X_bringIn_38 : xd b_X_bringIn 38 (.aload_n 0) 1 39 := ⟨by decide +kernel, rfl⟩
theorem d_X_bringIn_39 : xd b_X_bringIn 39 (.getfield 23) 3 42 := ⟨by decide +kernel, rfl⟩
theorem d_X_bringIn_42 : xd b_X_bringIn 42 (.iload 4) 2 44 := ⟨by decide +kernel, rfl⟩
theorem d_X_bringIn_44 : xd b_X_bringIn 44 (.iaload) 1 45 := ⟨by decide +kernel, rfl⟩
theorem d_X_bringIn_45 : xd b_X_bringIn 45 (.iload_n 1) 1 46 := ⟨by decide +kernel, rfl⟩
theorem d_X_bringIn_46 : xd b_X_bringIn 46 (.iconst 3) 1 47 := ⟨by decide +kernel, rfl⟩
theorem d_X_bringIn_47 : xd b_X_bringIn 47 (.iand) 1 48 := ⟨by decide +kernel, rfl⟩
theorem d_X_bringIn_48 : xd b_X_bringIn 48 (.iadd) 1 49 := ⟨by decide +kernel, rfl⟩
theorem d_X_bringIn_49 : xd b_X_bringIn 49 (.istore 5) 2 51 := ⟨by decide +kernel, rfl⟩
theorem d_X_bringIn_51 : xb b_X_bringIn 51 (.goto 27) 27 54 78 := ⟨by decide +kernel, rfl, by decide⟩
theorem d_X_bringIn_54 : xd b_X_bringIn 54 (.aload_n 0) 1 55 := ⟨by decide +kernel, rfl⟩
theorem d_X_bringIn_55 : xd b_X_bringIn 55 (.iconst 0) 1 56 := ⟨by decide +kernel, rfl⟩
theorem d_X_bringIn_56 : xd b_X_bringIn 56 (.invokevirtual 103) 3 59 := ⟨by decide +kernel, rfl⟩
theorem d_X_bringIn_59 : xd b_X_bringIn 59 (.istore 5) 2 61 := ⟨by decide +kernel, rfl⟩
theorem d_X_bringIn_61 : xd b_X_bringIn 61 (.iload 5) 2 63 := ⟨by decide +kernel, rfl⟩
theorem d_X_bringIn_63 : xd b_X_bringIn 63 (.iconst (-1)) 1 64 := ⟨by decide +kernel, rfl⟩
theorem d_X_bringIn_64 : xb b_X_bringIn 64 (.if_icmp .ne 14) 14 67 78 := ⟨by decide +kernel, rfl, by decide⟩
theorem d_X_bringIn_67 : xd b_X_bringIn 67 (.aload_n 0) 1 68 := ⟨by decide +kernel, rfl⟩
theorem d_X_bringIn_68 : xd b_X_bringIn 68 (.invokevirtual 106) 3 71 := ⟨by decide +kernel, rfl⟩
theorem d_X_bringIn_71 : xd b_X_bringIn 71 (.aload_n 0) 1 72 := ⟨by decide +kernel, rfl⟩
theorem d_X_bringIn_72 : xd b_X_bringIn 72 (.iconst 0) 1 73 := ⟨by decide +kernel, rfl⟩
theorem d_X_bringIn_73 : xd b_X_bringIn 73 (.invokevirtual 103) 3 76 := ⟨by decide +kernel, rfl⟩
theorem d_X_bringIn_76 : xd b_X_bringIn 76 (.istore 5) 2 78 := ⟨by decide +kernel, rfl⟩
theorem d_X_bringIn_78 : xd b_X_bringIn 78 (.iload 5) 2 80 := ⟨by decide +kernel, rfl⟩
theorem d_X_bringIn_80 : xd b_X_bringIn 80 (.iconst (-1)) 1 81 := ⟨by decide +kernel, rfl⟩
theorem d_X_bringIn_81 : xb b_X_bringIn 81 (.if_icmp .ne 4) 4 84 85 := ⟨by decide +kernel, rfl, by decide⟩
theorem d_X_bringIn_84 : xd b_X_bringIn 84 (.return_) 1 85 := ⟨by decide +kernel, rfl⟩
theorem d_X_bringIn_85 : xd b_X_bringIn 85 (.aload_n 0) 1 86 := ⟨by decide +kernel, rfl⟩
theorem d_X_bringIn_86 : xd b_X_bringIn 86 (.getfield 17) 3 89 := ⟨by decide +kernel, rfl⟩
theorem d_X_bringIn_89 : xd b_X_bringIn 89 (.iload_n 1) 1 90 := ⟨by decide +kernel, rfl⟩
theorem d_X_bringIn_90 : xd b_X_bringIn 90 (.iload 5) 2 92 := ⟨by decide +kernel, rfl⟩
theorem d_X_bringIn_92 : xd b_X_bringIn 92 (.iastore) 1 93 := ⟨by decide +kernel, rfl⟩
theorem d_X_bringIn_93 : xd b_X_bringIn 93 (.aload_n 0) 1 94 := ⟨by decide +kernel, rfl⟩
theorem d_X_bringIn_94 : xd b_X_bringIn 94 (.getfield 20) 3 97 := ⟨by decide +kernel, rfl⟩
theorem d_X_bringIn_97 : xd b_X_bringIn 97 (.iload_n 1) 1 98 := ⟨by decide +kernel, rfl⟩
theorem d_X_bringIn_98 : xd b_X_bringIn 98 (.iload_n 2) 1 99 := ⟨by decide +kernel, rfl⟩
theorem d_X_bringIn_99 : xd b_X_bringIn 99 (.bastore) 1 100 := ⟨by decide +kernel, rfl⟩
theorem d_X_bringIn_100 : xd b_X_bringIn 100 (.aload_n 0) 1 101 := ⟨by decide +kernel, rfl⟩
theorem d_X_bringIn_101 : xd b_X_bringIn 101 (.getfield 7) 3 104 := ⟨by decide +kernel, rfl⟩
theorem d_X_bringIn_104 : xd b_X_bringIn 104 (.iload 5) 2 106 := ⟨by decide +kernel, rfl⟩
theorem d_X_bringIn_106 : xd b_X_bringIn 106 (.iload_n 3) 1 107 := ⟨by decide +kernel, rfl⟩
theorem d_X_bringIn_107 : xd b_X_bringIn 107 (.iastore) 1 108 := ⟨by decide +kernel, rfl⟩
theorem d_X_bringIn_108 : xd b_X_bringIn 108 (.aload_n 0) 1 109 := ⟨by decide +kernel, rfl⟩
theorem d_X_bringIn_109 : xd b_X_bringIn 109 (.getfield 26) 3 112 := ⟨by decide +kernel, rfl⟩
theorem d_X_bringIn_112 : xd b_X_bringIn 112 (.iload 4) 2 114 := ⟨by decide +kernel, rfl⟩
theorem d_X_bringIn_114 : xd b_X_bringIn 114 (.aload_n 0) 1 115 := ⟨by decide +kernel, rfl⟩
theorem d_X_bringIn_115 : xd b_X_bringIn 115 (.getfield 26) 3 118 := ⟨by decide +kernel, rfl⟩
theorem d_X_bringIn_118 : xd b_X_bringIn 118 (.iload 4) 2 120 := ⟨by decide +kernel, rfl⟩
theorem d_X_bringIn_120 : xd b_X_bringIn 120 (.iaload) 1 121 := ⟨by decide +kernel, rfl⟩
theorem d_X_bringIn_121 : xd b_X_bringIn 121 (.iconst 1) 1 122 := ⟨by decide +kernel, rfl⟩
theorem d_X_bringIn_122 : xd b_X_bringIn 122 (.iload_n 1) 1 123 := ⟨by decide +kernel, rfl⟩
theorem d_X_bringIn_123 : xd b_X_bringIn 123 (.iconst 3) 1 124 := ⟨by decide +kernel, rfl⟩
theorem d_X_bringIn_124 : xd b_X_bringIn 124 (.iand) 1 125 := ⟨by decide +kernel, rfl⟩
theorem d_X_bringIn_125 : xd b_X_bringIn 125 (.ishl) 1 126 := ⟨by decide +kernel, rfl⟩
theorem d_X_bringIn_126 : xd b_X_bringIn 126 (.ior) 1 127 := ⟨by decide +kernel, rfl⟩
theorem d_X_bringIn_127 : xd b_X_bringIn 127 (.iastore) 1 128 := ⟨by decide +kernel, rfl⟩
theorem d_X_bringIn_128 : xd b_X_bringIn 128 (.aload_n 0) 1 129 := ⟨by decide +kernel, rfl⟩
theorem d_X_bringIn_129 : xd b_X_bringIn 129 (.dup) 1 130 := ⟨by decide +kernel, rfl⟩
theorem d_X_bringIn_130 : xd b_X_bringIn 130 (.getfield 42) 3 133 := ⟨by decide +kernel, rfl⟩
theorem d_X_bringIn_133 : xd b_X_bringIn 133 (.iconst 1) 1 134 := ⟨by decide +kernel, rfl⟩
theorem d_X_bringIn_134 : xd b_X_bringIn 134 (.iadd) 1 135 := ⟨by decide +kernel, rfl⟩
theorem d_X_bringIn_135 : xd b_X_bringIn 135 (.putfield 42) 3 138 := ⟨by decide +kernel, rfl⟩
theorem d_X_bringIn_138 : xd b_X_bringIn 138 (.aload_n 0) 1 139 := ⟨by decide +kernel, rfl⟩
theorem d_X_bringIn_139 : xd b_X_bringIn 139 (.iload 4) 2 141 := ⟨by decide +kernel, rfl⟩
theorem d_X_bringIn_141 : xd b_X_bringIn 141 (.invokevirtual 91) 3 144 := ⟨by decide +kernel, rfl⟩
theorem d_X_bringIn_144 : xd b_X_bringIn 144 (.aload_n 0) 1 145 := ⟨by decide +kernel, rfl⟩
theorem d_X_bringIn_145 : xd b_X_bringIn 145 (.iload 4) 2 147 := ⟨by decide +kernel, rfl⟩
theorem d_X_bringIn_147 : xd b_X_bringIn 147 (.invokevirtual 100) 3 150 := ⟨by decide +kernel, rfl⟩
theorem d_X_bringIn_150 : xd b_X_bringIn 150 (.return_) 1 151 := ⟨by decide +kernel, rfl⟩
theorem d_X_takeOut_0 : xd b_X_takeOut 0 (.iload_n 1) 1 1 := ⟨by decide +kernel, rfl⟩
theorem d_X_takeOut_1 : xd b_X_takeOut 1 (.iconst 2) 1 2 := ⟨by decide +kernel, rfl⟩
theorem d_X_takeOut_2 : xd b_X_takeOut 2 (.ishr) 1 3 := ⟨by decide +kernel, rfl⟩
theorem d_X_takeOut_3 : xd b_X_takeOut 3 (.istore_n 2) 1 4 := ⟨by decide +kernel, rfl⟩
theorem d_X_takeOut_4 : xd b_X_takeOut 4 (.aload_n 0) 1 5 := ⟨by decide +kernel, rfl⟩
theorem d_X_takeOut_5 : xd b_X_takeOut 5 (.iload_n 2) 1 6 := ⟨by decide +kernel, rfl⟩
theorem d_X_takeOut_6 : xd b_X_takeOut 6 (.invokevirtual 97) 3 9 := ⟨by decide +kernel, rfl⟩
theorem d_X_takeOut_9 : xd b_X_takeOut 9 (.aload_n 0) 1 10 := ⟨by decide +kernel, rfl⟩
theorem d_X_takeOut_10 : xd b_X_takeOut 10 (.getfield 17) 3 13 := ⟨by decide +kernel, rfl⟩
theorem d_X_takeOut_13 : xd b_X_takeOut 13 (.iload_n 1) 1 14 := ⟨by decide +kernel, rfl⟩
theorem d_X_takeOut_14 : xd b_X_takeOut 14 (.iaload) 1 15 := ⟨by decide +kernel, rfl⟩
theorem d_X_takeOut_15 : xd b_X_takeOut 15 (.istore_n 3) 1 16 := ⟨by decide +kernel, rfl⟩
theorem d_X_takeOut_16 : xd b_X_takeOut 16 (.aload_n 0) 1 17 := ⟨by decide +kernel, rfl⟩
theorem d_X_takeOut_17 : xd b_X_takeOut 17 (.getfield 17) 3 20 := ⟨by decide +kernel, rfl⟩
theorem d_X_takeOut_20 : xd b_X_takeOut 20 (.iload_n 1) 1 21 := ⟨by decide +kernel, rfl⟩
theorem d_X_takeOut_21 : xd b_X_takeOut 21 (.iconst (-1)) 1 22 := ⟨by decide +kernel, rfl⟩
theorem d_X_takeOut_22 : xd b_X_takeOut 22 (.iastore) 1 23 := ⟨by decide +kernel, rfl⟩
theorem d_X_takeOut_23 : xd b_X_takeOut 23 (.aload_n 0) 1 24 := ⟨by decide +kernel, rfl⟩
theorem d_X_takeOut_24 : xd b_X_takeOut 24 (.getfield 26) 3 27 := ⟨by decide +kernel, rfl⟩
theorem d_X_takeOut_27 : xd b_X_takeOut 27 (.iload_n 2) 1 28 := ⟨by decide +kernel, rfl⟩
theorem d_X_takeOut_28 : xd b_X_takeOut 28 (.aload_n 0) 1 29 := ⟨by decide +kernel, rfl⟩
theorem d_X_takeOut_29 : xd b_X_takeOut 29 (.getfield 26) 3 32 := ⟨by decide +kernel, rfl⟩
theorem d_X_takeOut_32 : xd b_X_takeOut 32 (.iload_n 2) 1 33 := ⟨by decide +kernel, rfl⟩
theorem d_X_takeOut_33 : xd b_X_takeOut 33 (.iaload) 1 34 := ⟨by decide +kernel, rfl⟩
theorem d_X_takeOut_34 : xd b_X_takeOut 34 (.iconst 1) 1 35 := ⟨by decide +kernel, rfl⟩
theorem d_X_takeOut_35 : xd b_X_takeOut 35 (.iload_n 1) 1 36 := ⟨by decide +kernel, rfl⟩
theorem d_X_takeOut_36 : xd b_X_takeOut 36 (.iconst 3) 1 37 := ⟨by decide +kernel, rfl⟩
theorem d_X_takeOut_37 : xd b_X_takeOut 37 (.iand) 1 38 := ⟨by decide +kernel, rfl⟩
theorem d_X_takeOut_38 : xd b_X_takeOut 38 (.ishl) 1 39 := ⟨by decide +kernel, rfl⟩
theorem d_X_takeOut_39 : xd b_X_takeOut 39 (.iconst (-1)) 1 40 := ⟨by decide +kernel, rfl⟩
theorem d_X_takeOut_40 : xd b_X_takeOut 40 (.ixor) 1 41 := ⟨by decide +kernel, rfl⟩
theorem d_X_takeOut_41 : xd b_X_takeOut 41 (.iand) 1 42 := ⟨by decide +kernel, rfl⟩
theorem d_X_takeOut_42 : xd b_X_takeOut 42 (.iastore) 1 43 := ⟨by decide +kernel, rfl⟩
theorem d_X_takeOut_43 : xd b_X_takeOut 43 (.aload_n 0) 1 44 := ⟨by decide +kernel, rfl⟩
theorem d_X_takeOut_44 : xd b_X_takeOut 44 (.dup) 1 45 := ⟨by decide +kernel, rfl⟩
theorem d_X_takeOut_45 : xd b_X_takeOut 45 (.getfield 42) 3 48 := ⟨by decide +kernel, rfl⟩
theorem d_X_takeOut_48 : xd b_X_takeOut 48 (.iconst 1) 1 49 := ⟨by decide +kernel, rfl⟩
theorem d_X_takeOut_49 : xd b_X_takeOut 49 (.isub) 1 50 := ⟨by decide +kernel, rfl⟩
theorem d_X_takeOut_50 : xd b_X_takeOut 50 (.putfield 42) 3 53 := ⟨by decide +kernel, rfl⟩
theorem d_X_takeOut_53 : xd b_X_takeOut 53 (.aload_n 0) 1 54 := ⟨by decide +kernel, rfl⟩
theorem d_X_takeOut_54 : xd b_X_takeOut 54 (.getfield 7) 3 57 := ⟨by decide +kernel, rfl⟩
theorem d_X_takeOut_57 : xd b_X_takeOut 57 (.iload_n 3) 1 58 := ⟨by decide +kernel, rfl⟩
theorem d_X_takeOut_58 : xd b_X_takeOut 58 (.iconst 0) 1 59 := ⟨by decide +kernel, rfl⟩
theorem d_X_takeOut_59 : xd b_X_takeOut 59 (.iastore) 1 60 := ⟨by decide +kernel, rfl⟩
theorem d_X_takeOut_60 : xd b_X_takeOut 60 (.aload_n 0) 1 61 := ⟨by decide +kernel, rfl⟩
theorem d_X_takeOut_61 : xd b_X_takeOut 61 (.getfield 23) 3 64 := ⟨by decide +kernel, rfl⟩
theorem d_X_takeOut_64 : xd b_X_takeOut 64 (.iload_n 2) 1 65 := ⟨by decide +kernel, rfl⟩
theorem d_X_takeOut_65 : xd b_X_takeOut 65 (.iaload) 1 66 := ⟨by decide +kernel, rfl⟩
theorem d_X_takeOut_66 : xd b_X_takeOut 66 (.iconst (-1)) 1 67 := ⟨by decide +kernel, rfl⟩
theorem d_X_takeOut_67 : xb b_X_takeOut 67 (.if_icmp .ne 12) 12 70 79 := ⟨by decide +kernel, rfl, by decide⟩
theorem d_X_takeOut_70 : xd b_X_takeOut 70 (.aload_n 0) 1 71 := ⟨by decide +kernel, rfl⟩
theorem d_X_takeOut_71 : xd b_X_takeOut 71 (.iload_n 3) 1 72 := ⟨by decide +kernel, rfl⟩
theorem d_X_takeOut_72 : xd b_X_takeOut 72 (.iconst 0) 1 73 := ⟨by decide +kernel, rfl⟩
theorem d_X_takeOut_73 : xd b_X_takeOut 73 (.invokevirtual 109) 3 76 := ⟨by decide +kernel, rfl⟩
theorem d_X_takeOut_76 : xb b_X_takeOut 76 (.goto 30) 30 79 106 := ⟨by decide +kernel, rfl, by decide⟩
theorem d_X_takeOut_79 : xd b_X_takeOut 79 (.aload_n 0) 1 80 := ⟨by decide +kernel, rfl⟩
theorem d_X_takeOut_80 : xd b_X_takeOut 80 (.getfield 26) 3 83 := ⟨by decide +kernel, rfl⟩
theorem d_X_takeOut_83 : xd b_X_takeOut 83 (.iload_n 2) 1 84 := ⟨by decide +kernel, rfl⟩
theorem d_X_takeOut_84 : xd b_X_takeOut 84 (.iaload) 1 85 := ⟨by decide +kernel, rfl⟩
theorem d_X_takeOut_85 : xb b_X_takeOut 85 (.ifCond .ne 21) 21 88 106 := ⟨by decide +kernel, rfl, by decide⟩
theorem d_X_takeOut_88 : xd b_X_takeOut 88 (.aload_n 0) 1 89 := ⟨by decide +kernel, rfl⟩
theorem d_X_takeOut_89 : xd b_X_takeOut 89 (.aload_n 0) 1 90 := ⟨by decide +kernel, rfl⟩
theorem d_X_takeOut_90 : xd b_X_takeOut 90 (.getfield 23) 3 93 := ⟨by decide +kernel, rfl⟩
theorem d_X_takeOut_93 : xd b_X_takeOut 93 (.iload_n 2) 1 94 := ⟨by decide +kernel, rfl⟩
theorem d_X_takeOut_94 : xd b_X_takeOut 94 (.iaload) 1 95 := ⟨by decide +kernel, rfl⟩
theorem d_X_takeOut_95 : xd b_X_takeOut 95 (.iconst 2) 1 96 := ⟨by decide +kernel, rfl⟩
theorem d_X_takeOut_96 : xd b_X_takeOut 96 (.invokevirtual 109) 3 99 := ⟨by decide +kernel, rfl⟩
theorem d_X_takeOut_99 : xd b_X_takeOut 99 (.aload_n 0) 1 100 := ⟨by decide +kernel, rfl⟩
theorem d_X_takeOut_100 : xd b_X_takeOut 100 (.getfield 23) 3 103 := ⟨by decide +kernel, rfl⟩
theorem d_X_takeOut_103 : xd b_X_takeOut 103 (.iload_n 2) 1 104 := ⟨by decide +kernel, rfl⟩
theorem d_X_takeOut_104 : xd b_X_takeOut 104 (.iconst (-1)) 1 105 := ⟨by decide +kernel, rfl⟩
theorem d_X_takeOut_105 : xd b_X_takeOut 105 (.iastore) 1 106 := ⟨by decide +kernel, rfl⟩
theorem d_X_takeOut_106 : xd b_X_takeOut 106 (.return_) 1 107 := ⟨by decide +kernel, rfl⟩
theorem d_X_carry_0 : xd b_X_carry 0 (.aload_n 0) 1 1 := ⟨by decide +kernel, rfl⟩
theorem d_X_carry_1 : xd b_X_carry 1 (.iload_n 1) 1 2 := ⟨by decide +kernel, rfl⟩
theorem d_X_carry_2 : xd b_X_carry 2 (.invokevirtual 68) 3 5 := ⟨by decide +kernel, rfl⟩
theorem d_X_carry_5 : xd b_X_carry 5 (.istore_n 3) 1 6 := ⟨by decide +kernel, rfl⟩
theorem d_X_carry_6 : xd b_X_carry 6 (.aload_n 0) 1 7 := ⟨by decide +kernel, rfl⟩
theorem d_X_carry_7 : xd b_X_carry 7 (.iload_n 1) 1 8 := ⟨by decide +kernel, rfl⟩
theorem d_X_carry_8 : xd b_X_carry 8 (.invokevirtual 78) 3 11 := ⟨by decide +kernel, rfl⟩
theorem d_X_carry_11 : xd b_X_carry 11 (.istore 4) 2 13 := ⟨by decide +kernel, rfl⟩
theorem d_X_carry_13 : xd b_X_carry 13 (.aload_n 0) 1 14 := ⟨by decide +kernel, rfl⟩
theorem d_X_carry_14 : xd b_X_carry 14 (.iload_n 1) 1 15 := ⟨by decide +kernel, rfl⟩
theorem d_X_carry_15 : xd b_X_carry 15 (.invokevirtual 64) 3 18 := ⟨by decide +kernel, rfl⟩
theorem d_X_carry_18 : xd b_X_carry 18 (.aload_n 0) 1 19 := ⟨by decide +kernel, rfl⟩
theorem d_X_carry_19 : xd b_X_carry 19 (.iload_n 2) 1 20 := ⟨by decide +kernel, rfl⟩
theorem d_X_carry_20 : xd b_X_carry 20 (.iload_n 3) 1 21 := ⟨by decide +kernel, rfl⟩
theorem d_X_carry_21 : xd b_X_carry 21 (.iload 4) 2 23 := ⟨by decide +kernel, rfl⟩
theorem d_X_carry_23 : xd b_X_carry 23 (.invokevirtual 60) 3 26 := ⟨by decide +kernel, rfl⟩
theorem d_X_carry_26 : xd b_X_carry 26 (.return_) 1 27 := ⟨by decide +kernel, rfl⟩
theorem d_X_preempt_0 : xd b_X_preempt 0 (.iconst (-1)) 1 1 := ⟨by decide +kernel, rfl⟩
theorem d_X_preempt_1 : xd b_X_preempt 1 (.istore_n 1) 1 2 := ⟨by decide +kernel, rfl⟩
theorem d_X_preempt_2 : xd b_X_preempt 2 (.iconst 0) 1 3 := ⟨by decide +kernel, rfl⟩
theorem d_X_preempt_3 : xd b_X_preempt 3 (.istore_n 2) 1 4 := ⟨by decide +kernel, rfl⟩
theorem d_X_preempt_4 : xd b_X_preempt 4 (.iload_n 2) 1 5 := ⟨by decide +kernel, rfl⟩
theorem d_X_preempt_5 : xd b_X_preempt 5 (.bipush 16) 2 7 := ⟨by decide +kernel, rfl⟩
theorem d_X_preempt_7 : xb b_X_preempt 7 (.if_icmp .ge 52) 52 10 59 := ⟨by decide +kernel, rfl, by decide⟩
theorem d_X_preempt_10 : xd b_X_preempt 10 (.aload_n 0) 1 11 := ⟨by decide +kernel, rfl⟩
theorem d_X_preempt_11 : xd b_X_preempt 11 (.getfield 23) 3 14 := ⟨by decide +kernel, rfl⟩
theorem d_X_preempt_14 : xd b_X_preempt 14 (.iload_n 2) 1 15 := ⟨by decide +kernel, rfl⟩
theorem d_X_preempt_15 : xd b_X_preempt 15 (.iaload) 1 16 := ⟨by decide +kernel, rfl⟩
theorem d_X_preempt_16 : xd b_X_preempt 16 (.iconst (-1)) 1 17 := ⟨by decide +kernel, rfl⟩
theorem d_X_preempt_17 : xb b_X_preempt 17 (.if_icmp .eq 36) 36 20 53 := ⟨by decide +kernel, rfl, by decide⟩
theorem d_X_preempt_20 : xd b_X_preempt 20 (.aload_n 0) 1 21 := ⟨by decide +kernel, rfl⟩
theorem d_X_preempt_21 : xd b_X_preempt 21 (.getfield 26) 3 24 := ⟨by decide +kernel, rfl⟩
theorem d_X_preempt_24 : xd b_X_preempt 24 (.iload_n 2) 1 25 := ⟨by decide +kernel, rfl⟩
theorem d_X_preempt_25 : xd b_X_preempt 25 (.iaload) 1 26 := ⟨by decide +kernel, rfl⟩
theorem d_X_preempt_26 : xd b_X_preempt 26 (.bipush 15) 2 28 := ⟨by decide +kernel, rfl⟩
theorem d_X_preempt_28 : xb b_X_preempt 28 (.if_icmp .eq 25) 25 31 53 := ⟨by decide +kernel, rfl, by decide⟩
theorem d_X_preempt_31 : xd b_X_preempt 31 (.iload_n 1) 1 32 := ⟨by decide +kernel, rfl⟩
theorem d_X_preempt_32 : xd b_X_preempt 32 (.iconst (-1)) 1 33 := ⟨by decide +kernel, rfl⟩
theorem d_X_preempt_33 : xb b_X_preempt 33 (.if_icmp .eq 18) 18 36 51 := ⟨by decide +kernel, rfl, by decide⟩
theorem d_X_preempt_36 : xd b_X_preempt 36 (.aload_n 0) 1 37 := ⟨by decide +kernel, rfl⟩
theorem d_X_preempt_37 : xd b_X_preempt 37 (.getfield 35) 3 40 := ⟨by decide +kernel, rfl⟩
theorem d_X_preempt_40 : xd b_X_preempt 40 (.iload_n 2) 1 41 := ⟨by decide +kernel, rfl⟩
theorem d_X_preempt_41 : xd b_X_preempt 41 (.iaload) 1 42 := ⟨by decide +kernel, rfl⟩
theorem d_X_preempt_42 : xd b_X_preempt 42 (.aload_n 0) 1 43 := ⟨by decide +kernel, rfl⟩
theorem d_X_preempt_43 : xd b_X_preempt 43 (.getfield 35) 3 46 := ⟨by decide +kernel, rfl⟩
theorem d_X_preempt_46 : xd b_X_preempt 46 (.iload_n 1) 1 47 := ⟨by decide +kernel, rfl⟩
theorem d_X_preempt_47 : xd b_X_preempt 47 (.iaload) 1 48 := ⟨by decide +kernel, rfl⟩
theorem d_X_preempt_48 : xb b_X_preempt 48 (.if_icmp .ge 5) 5 51 53 := ⟨by decide +kernel, rfl, by decide⟩
theorem d_X_preempt_51 : xd b_X_preempt 51 (.iload_n 2) 1 52 := ⟨by decide +kernel, rfl⟩
theorem d_X_preempt_52 : xd b_X_preempt 52 (.istore_n 1) 1 53 := ⟨by decide +kernel, rfl⟩
theorem d_X_preempt_53 : xd b_X_preempt 53 (.iinc 2 1) 3 56 := ⟨by decide +kernel, rfl⟩
theorem d_X_preempt_56 : xb b_X_preempt 56 (.goto (-52)) (-52) 59 4 := ⟨by decide +kernel, rfl, by decide⟩
theorem d_X_preempt_59 : xd b_X_preempt 59 (.iload_n 1) 1 60 := ⟨by decide +kernel, rfl⟩
theorem d_X_preempt_60 : xd b_X_preempt 60 (.iconst (-1)) 1 61 := ⟨by decide +kernel, rfl⟩
theorem d_X_preempt_61 : xb b_X_preempt 61 (.if_icmp .ne 4) 4 64 65 := ⟨by decide +kernel, rfl, by decide⟩
theorem d_X_preempt_64 : xd b_X_preempt 64 (.return_) 1 65 := ⟨by decide +kernel, rfl⟩
theorem d_X_preempt_65 : xd b_X_preempt 65 (.iconst 0) 1 66 := ⟨by decide +kernel, rfl⟩
theorem d_X_preempt_66 : xd b_X_preempt 66 (.istore_n 2) 1 67 := ⟨by decide +kernel, rfl⟩
theorem d_X_preempt_67 : xd b_X_preempt 67 (.iload_n 2) 1 68 := ⟨by decide +kernel, rfl⟩
theorem d_X_preempt_68 : xd b_X_preempt 68 (.iconst 4) 1 69 := ⟨by decide +kernel, rfl⟩
theorem d_X_preempt_69 : xb b_X_preempt 69 (.if_icmp .ge 35) 35 72 104 := ⟨by decide +kernel, rfl, by decide⟩
theorem d_X_preempt_72 : xd b_X_preempt 72 (.aload_n 0) 1 73 := ⟨by decide +kernel, rfl⟩
theorem d_X_preempt_73 : xd b_X_preempt 73 (.getfield 26) 3 76 := ⟨by decide +kernel, rfl⟩
theorem d_X_preempt_76 : xd b_X_preempt 76 (.iload_n 1) 1 77 := ⟨by decide +kernel, rfl⟩
theorem d_X_preempt_77 : xd b_X_preempt 77 (.iaload) 1 78 := ⟨by decide +kernel, rfl⟩
theorem d_X_preempt_78 : xd b_X_preempt 78 (.iload_n 2) 1 79 := ⟨by decide +kernel, rfl⟩
theorem d_X_preempt_79 : xd b_X_preempt 79 (.ishr) 1 80 := ⟨by decide +kernel, rfl⟩
theorem d_X_preempt_80 : xd b_X_preempt 80 (.iconst 1) 1 81 := ⟨by decide +kernel, rfl⟩
theorem d_X_preempt_81 : xd b_X_preempt 81 (.iand) 1 82 := ⟨by decide +kernel, rfl⟩
theorem d_X_preempt_82 : xb b_X_preempt 82 (.ifCond .ne 16) 16 85 98 := ⟨by decide +kernel, rfl, by decide⟩
theorem d_X_preempt_85 : xd b_X_preempt 85 (.aload_n 0) 1 86 := ⟨by decide +kernel, rfl⟩
theorem d_X_preempt_86 : xd b_X_preempt 86 (.aload_n 0) 1 87 := ⟨by decide +kernel, rfl⟩
theorem d_X_preempt_87 : xd b_X_preempt 87 (.getfield 23) 3 90 := ⟨by decide +kernel, rfl⟩
theorem d_X_preempt_90 : xd b_X_preempt 90 (.iload_n 1) 1 91 := ⟨by decide +kernel, rfl⟩
theorem d_X_preempt_91 : xd b_X_preempt 91 (.iaload) 1 92 := ⟨by decide +kernel, rfl⟩
theorem d_X_preempt_92 : xd b_X_preempt 92 (.iload_n 2) 1 93 := ⟨by decide +kernel, rfl⟩
theorem d_X_preempt_93 : xd b_X_preempt 93 (.iadd) 1 94 := ⟨by decide +kernel, rfl⟩
theorem d_X_preempt_94 : xd b_X_preempt 94 (.iconst 0) 1 95 := ⟨by decide +kernel, rfl⟩
theorem d_X_preempt_95 : xd b_X_preempt 95 (.invokevirtual 109) 3 98 := ⟨by decide +kernel, rfl⟩
theorem d_X_preempt_98 : xd b_X_preempt 98 (.iinc 2 1) 3 101 := ⟨by decide +kernel, rfl⟩
theorem d_X_preempt_101 : xb b_X_preempt 101 (.goto (-34)) (-34) 104 67 := ⟨by decide +kernel, rfl, by decide⟩
theorem d_X_preempt_104 : xd b_X_preempt 104 (.aload_n 0) 1 105 := ⟨by decide +kernel, rfl⟩
theorem d_X_preempt_105 : xd b_X_preempt 105 (.getfield 23) 3 108 := ⟨by decide +kernel, rfl⟩
theorem d_X_preempt_108 : xd b_X_preempt 108 (.iload_n 1) 1 109 := ⟨by decide +kernel, rfl⟩
theorem d_X_preempt_109 : xd b_X_preempt 109 (.iconst (-1)) 1 110 := ⟨by decide +kernel, rfl⟩
theorem d_X_preempt_110 : xd b_X_preempt 110 (.iastore) 1 111 := ⟨by decide +kernel, rfl⟩
theorem d_X_preempt_111 : xd b_X_preempt 111 (.return_) 1 112 := ⟨by decide +kernel, rfl⟩
theorem d_X_allocate_0 : xd b_X_allocate 0 (.iload_n 1) 1 1 := ⟨by decide +kernel, rfl⟩
theorem d_X_allocate_1 : xd b_X_allocate 1 (.istore_n 2) 1 2 := ⟨by decide +kernel, rfl⟩
theorem d_X_allocate_2 : xd b_X_allocate 2 (.iload_n 2) 1 3 := ⟨by decide +kernel, rfl⟩
theorem d_X_allocate_3 : xd b_X_allocate 3 (.iconst 3) 1 4 := ⟨by decide +kernel, rfl⟩
theorem d_X_allocate_4 : xb b_X_allocate 4 (.if_icmp .gt 63) 63 7 67 := ⟨by decide +kernel, rfl, by decide⟩
theorem d_X_allocate_7 : xd b_X_allocate 7 (.iconst 0) 1 8 := ⟨by decide +kernel, rfl⟩
theorem d_X_allocate_8 : xd b_X_allocate 8 (.istore_n 3) 1 9 := ⟨by decide +kernel, rfl⟩
theorem d_X_allocate_9 : xd b_X_allocate 9 (.iload_n 3) 1 10 := ⟨by decide +kernel, rfl⟩
theorem d_X_allocate_10 : xd b_X_allocate 10 (.aload_n 0) 1 11 := ⟨by decide +kernel, rfl⟩
theorem d_X_allocate_11 : xd b_X_allocate 11 (.getfield 38) 3 14 := ⟨by decide +kernel, rfl⟩
theorem d_X_allocate_14 : xb b_X_allocate 14 (.if_icmp .ge 47) 47 17 61 := ⟨by decide +kernel, rfl, by decide⟩
theorem d_X_allocate_17 : xd b_X_allocate 17 (.aload_n 0) 1 18 := ⟨by decide +kernel, rfl⟩
theorem d_X_allocate_18 : xd b_X_allocate 18 (.getfield 13) 3 21 := ⟨by decide +kernel, rfl⟩
theorem d_X_allocate_21 : xd b_X_allocate 21 (.bipush 48) 2 23 := ⟨by decide +kernel, rfl⟩
theorem d_X_allocate_23 : xd b_X_allocate 23 (.iload_n 2) 1 24 := ⟨by decide +kernel, rfl⟩
theorem d_X_allocate_24 : xd b_X_allocate 24 (.imul) 1 25 := ⟨by decide +kernel, rfl⟩
theorem d_X_allocate_25 : xd b_X_allocate 25 (.iload_n 3) 1 26 := ⟨by decide +kernel, rfl⟩
theorem d_X_allocate_26 : xd b_X_allocate 26 (.iadd) 1 27 := ⟨by decide +kernel, rfl⟩
theorem d_X_allocate_27 : xd b_X_allocate 27 (.baload) 1 28 := ⟨by decide +kernel, rfl⟩
theorem d_X_allocate_28 : xb b_X_allocate 28 (.ifCond .eq 24) 24 31 52 := ⟨by decide +kernel, rfl, by decide⟩
theorem d_X_allocate_31 : xd b_X_allocate 31 (.aload_n 0) 1 32 := ⟨by decide +kernel, rfl⟩
theorem d_X_allocate_32 : xd b_X_allocate 32 (.getfield 13) 3 35 := ⟨by decide +kernel, rfl⟩
theorem d_X_allocate_35 : xd b_X_allocate 35 (.bipush 48) 2 37 := ⟨by decide +kernel, rfl⟩
theorem d_X_allocate_37 : xd b_X_allocate 37 (.iload_n 2) 1 38 := ⟨by decide +kernel, rfl⟩
theorem d_X_allocate_38 : xd b_X_allocate 38 (.imul) 1 39 := ⟨by decide +kernel, rfl⟩
theorem d_X_allocate_39 : xd b_X_allocate 39 (.iload_n 3) 1 40 := ⟨by decide +kernel, rfl⟩
theorem d_X_allocate_40 : xd b_X_allocate 40 (.iadd) 1 41 := ⟨by decide +kernel, rfl⟩
theorem d_X_allocate_41 : xd b_X_allocate 41 (.iconst 0) 1 42 := ⟨by decide +kernel, rfl⟩
theorem d_X_allocate_42 : xd b_X_allocate 42 (.bastore) 1 43 := ⟨by decide +kernel, rfl⟩
theorem d_X_allocate_43 : xd b_X_allocate 43 (.aload_n 0) 1 44 := ⟨by decide +kernel, rfl⟩
theorem d_X_allocate_44 : xd b_X_allocate 44 (.iload_n 3) 1 45 := ⟨by decide +kernel, rfl⟩
theorem d_X_allocate_45 : xd b_X_allocate 45 (.iload_n 2) 1 46 := ⟨by decide +kernel, rfl⟩
theorem d_X_allocate_46 : xd b_X_allocate 46 (.iload_n 1) 1 47 := ⟨by decide +kernel, rfl⟩
theorem d_X_allocate_47 : xd b_X_allocate 47 (.invokevirtual 112) 3 50 := ⟨by decide +kernel, rfl⟩
theorem d_X_allocate_50 : xd b_X_allocate 50 (.iload_n 3) 1 51 := ⟨by decide +kernel, rfl⟩
theorem d_X_allocate_51 : xd b_X_allocate 51 (.ireturn) 1 52 := ⟨by decide +kernel, rfl⟩
theorem d_X_allocate_52 : xd b_X_allocate 52 (.iload_n 3) 1 53 := ⟨by decide +kernel, rfl⟩
theorem d_X_allocate_53 : xd b_X_allocate 53 (.iconst 1) 1 54 := ⟨by decide +kernel, rfl⟩
theorem d_X_allocate_54 : xd b_X_allocate 54 (.iload_n 2) 1 55 := ⟨by decide +kernel, rfl⟩
theorem d_X_allocate_55 : xd b_X_allocate 55 (.ishl) 1 56 := ⟨by decide +kernel, rfl⟩
theorem d_X_allocate_56 : xd b_X_allocate 56 (.iadd) 1 57 := ⟨by decide +kernel, rfl⟩
theorem d_X_allocate_57 : xd b_X_allocate 57 (.istore_n 3) 1 58 := ⟨by decide +kernel, rfl⟩
theorem d_X_allocate_58 : xb b_X_allocate 58 (.goto (-49)) (-49) 61 9 := ⟨by decide +kernel, rfl, by decide⟩
theorem d_X_allocate_61 : xd b_X_allocate 61 (.iinc 2 1) 3 64 := ⟨by decide +kernel, rfl⟩
theorem d_X_allocate_64 : xb b_X_allocate 64 (.goto (-62)) (-62) 67 2 := ⟨by decide +kernel, rfl, by decide⟩
theorem d_X_allocate_67 : xd b_X_allocate 67 (.iconst (-1)) 1 68 := ⟨by decide +kernel, rfl⟩
theorem d_X_allocate_68 : xd b_X_allocate 68 (.ireturn) 1 69 := ⟨by decide +kernel, rfl⟩
theorem d_X_split_0 : xd b_X_split 0 (.iload_n 2) 1 1 := ⟨by decide +kernel, rfl⟩
theorem d_X_split_1 : xd b_X_split 1 (.iconst 1) 1 2 := ⟨by decide +kernel, rfl⟩
theorem d_X_split_2 : xd b_X_split 2 (.isub) 1 3 := ⟨by decide +kernel, rfl⟩
theorem d_X_split_3 : xd b_X_split 3 (.istore 4) 2 5 := ⟨by decide +kernel, rfl⟩
theorem d_X_split_5 : xd b_X_split 5 (.iload 4) 2 7 := ⟨by decide +kernel, rfl⟩
theorem d_X_split_7 : xd b_X_split 7 (.iload_n 3) 1 8 := ⟨by decide +kernel, rfl⟩
theorem d_X_split_8 : xb b_X_split 8 (.if_icmp .lt 27) 27 11 35 := ⟨by decide +kernel, rfl, by decide⟩
theorem d_X_split_11 : xd b_X_split 11 (.aload_n 0) 1 12 := ⟨by decide +kernel, rfl⟩
theorem d_X_split_12 : xd b_X_split 12 (.getfield 13) 3 15 := ⟨by decide +kernel, rfl⟩
theorem d_X_split_15 : xd b_X_split 15 (.bipush 48) 2 17 := ⟨by decide +kernel, rfl⟩
theorem d_X_split_17 : xd b_X_split 17 (.iload 4) 2 19 := ⟨by decide +kernel, rfl⟩
theorem d_X_split_19 : xd b_X_split 19 (.imul) 1 20 := ⟨by decide +kernel, rfl⟩
theorem d_X_split_20 : xd b_X_split 20 (.iload_n 1) 1 21 := ⟨by decide +kernel, rfl⟩
theorem d_X_split_21 : xd b_X_split 21 (.iadd) 1 22 := ⟨by decide +kernel, rfl⟩
theorem d_X_split_22 : xd b_X_split 22 (.iconst 1) 1 23 := ⟨by decide +kernel, rfl⟩
theorem d_X_split_23 : xd b_X_split 23 (.iload 4) 2 25 := ⟨by decide +kernel, rfl⟩
theorem d_X_split_25 : xd b_X_split 25 (.ishl) 1 26 := ⟨by decide +kernel, rfl⟩
theorem d_X_split_26 : xd b_X_split 26 (.iadd) 1 27 := ⟨by decide +kernel, rfl⟩
theorem d_X_split_27 : xd b_X_split 27 (.iconst 1) 1 28 := ⟨by decide +kernel, rfl⟩
theorem d_X_split_28 : xd b_X_split 28 (.bastore) 1 29 := ⟨by decide +kernel, rfl⟩
theorem d_X_split_29 : xd b_X_split 29 (.iinc 4 (-1)) 3 32 := ⟨by decide +kernel, rfl⟩
theorem d_X_split_32 : xb b_X_split 32 (.goto (-27)) (-27) 35 5 := ⟨by decide +kernel, rfl, by decide⟩
theorem d_X_split_35 : xd b_X_split 35 (.return_) 1 36 := ⟨by decide +kernel, rfl⟩
theorem d_X_giveBack_0 : xd b_X_giveBack 0 (.iload_n 1) 1 1 := ⟨by decide +kernel, rfl⟩
theorem d_X_giveBack_1 : xd b_X_giveBack 1 (.istore_n 3) 1 2 := ⟨by decide +kernel, rfl⟩
theorem d_X_giveBack_2 : xd b_X_giveBack 2 (.iload_n 2) 1 3 := ⟨by decide +kernel, rfl⟩
theorem d_X_giveBack_3 : xd b_X_giveBack 3 (.istore 4) 2 5 := ⟨by decide +kernel, rfl⟩
theorem d_X_giveBack_5 : xd b_X_giveBack 5 (.iconst 0) 1 6 := ⟨by decide +kernel, rfl⟩
theorem d_X_giveBack_6 : xd b_X_giveBack 6 (.istore 5) 2 8 := ⟨by decide +kernel, rfl⟩
theorem d_X_giveBack_8 : xd b_X_giveBack 8 (.iload 5) 2 10 := ⟨by decide +kernel, rfl⟩
theorem d_X_giveBack_10 : xd b_X_giveBack 10 (.iconst 3) 1 11 := ⟨by decide +kernel, rfl⟩
theorem d_X_giveBack_11 : xb b_X_giveBack 11 (.if_icmp .ge 72) 72 14 83 := ⟨by decide +kernel, rfl, by decide⟩
theorem d_X_giveBack_14 : xd b_X_giveBack 14 (.iload 4) 2 16 := ⟨by decide +kernel, rfl⟩
theorem d_X_giveBack_16 : xd b_X_giveBack 16 (.iconst 3) 1 17 := ⟨by decide +kernel, rfl⟩
theorem d_X_giveBack_17 : xb b_X_giveBack 17 (.if_icmp .ge 66) 66 20 83 := ⟨by decide +kernel, rfl, by decide⟩
theorem d_X_giveBack_20 : xd b_X_giveBack 20 (.iload_n 3) 1 21 := ⟨by decide +kernel, rfl⟩
theorem d_X_giveBack_21 : xd b_X_giveBack 21 (.iconst 1) 1 22 := ⟨by decide +kernel, rfl⟩
theorem d_X_giveBack_22 : xd b_X_giveBack 22 (.iload 4) 2 24 := ⟨by decide +kernel, rfl⟩
theorem d_X_giveBack_24 : xd b_X_giveBack 24 (.ishl) 1 25 := ⟨by decide +kernel, rfl⟩
theorem d_X_giveBack_25 : xd b_X_giveBack 25 (.ixor) 1 26 := ⟨by decide +kernel, rfl⟩
theorem d_X_giveBack_26 : xd b_X_giveBack 26 (.istore 6) 2 28 := ⟨by decide +kernel, rfl⟩
theorem d_X_giveBack_28 : xd b_X_giveBack 28 (.aload_n 0) 1 29 := ⟨by decide +kernel, rfl⟩
theorem d_X_giveBack_29 : xd b_X_giveBack 29 (.getfield 13) 3 32 := ⟨by decide +kernel, rfl⟩
theorem d_X_giveBack_32 : xd b_X_giveBack 32 (.bipush 48) 2 34 := ⟨by decide +kernel, rfl⟩
theorem d_X_giveBack_34 : xd b_X_giveBack 34 (.iload 4) 2 36 := ⟨by decide +kernel, rfl⟩
theorem d_X_giveBack_36 : xd b_X_giveBack 36 (.imul) 1 37 := ⟨by decide +kernel, rfl⟩
theorem d_X_giveBack_37 : xd b_X_giveBack 37 (.iload 6) 2 39 := ⟨by decide +kernel, rfl⟩
theorem d_X_giveBack_39 : xd b_X_giveBack 39 (.iadd) 1 40 := ⟨by decide +kernel, rfl⟩
theorem d_X_giveBack_40 : xd b_X_giveBack 40 (.baload) 1 41 := ⟨by decide +kernel, rfl⟩
theorem d_X_giveBack_41 : xb b_X_giveBack 41 (.ifCond .ne 6) 6 44 47 := ⟨by decide +kernel, rfl, by decide⟩
theorem d_X_giveBack_44 : xb b_X_giveBack 44 (.goto 39) 39 47 83 := ⟨by decide +kernel, rfl, by decide⟩
theorem d_X_giveBack_47 : xd b_X_giveBack 47 (.aload_n 0) 1 48 := ⟨by decide +kernel, rfl⟩
theorem d_X_giveBack_48 : xd b_X_giveBack 48 (.getfield 13) 3 51 := ⟨by decide +kernel, rfl⟩
theorem d_X_giveBack_51 : xd b_X_giveBack 51 (.bipush 48) 2 53 := ⟨by decide +kernel, rfl⟩
theorem d_X_giveBack_53 : xd b_X_giveBack 53 (.iload 4) 2 55 := ⟨by decide +kernel, rfl⟩
theorem d_X_giveBack_55 : xd b_X_giveBack 55 (.imul) 1 56 := ⟨by decide +kernel, rfl⟩
theorem d_X_giveBack_56 : xd b_X_giveBack 56 (.iload 6) 2 58 := ⟨by decide +kernel, rfl⟩
theorem d_X_giveBack_58 : xd b_X_giveBack 58 (.iadd) 1 59 := ⟨by decide +kernel, rfl⟩
theorem d_X_giveBack_59 : xd b_X_giveBack 59 (.iconst 0) 1 60 := ⟨by decide +kernel, rfl⟩
theorem d_X_giveBack_60 : xd b_X_giveBack 60 (.bastore) 1 61 := ⟨by decide +kernel, rfl⟩
theorem d_X_giveBack_61 : xd b_X_giveBack 61 (.iload_n 3) 1 62 := ⟨by decide +kernel, rfl⟩
theorem d_X_giveBack_62 : xd b_X_giveBack 62 (.iload 6) 2 64 := ⟨by decide +kernel, rfl⟩
theorem d_X_giveBack_64 : xb b_X_giveBack 64 (.if_icmp .ge 7) 7 67 71 := ⟨by decide +kernel, rfl, by decide⟩
theorem d_X_giveBack_67 : xd b_X_giveBack 67 (.iload_n 3) 1 68 := ⟨by decide +kernel, rfl⟩
theorem d_X_giveBack_68 : xb b_X_giveBack 68 (.goto 5) 5 71 73 := ⟨by decide +kernel, rfl, by decide⟩
theorem d_X_giveBack_71 : xd b_X_giveBack 71 (.iload 6) 2 73 := ⟨by decide +kernel, rfl⟩
theorem d_X_giveBack_73 : xd b_X_giveBack 73 (.istore_n 3) 1 74 := ⟨by decide +kernel, rfl⟩
theorem d_X_giveBack_74 : xd b_X_giveBack 74 (.iinc 4 1) 3 77 := ⟨by decide +kernel, rfl⟩
theorem d_X_giveBack_77 : xd b_X_giveBack 77 (.iinc 5 1) 3 80 := ⟨by decide +kernel, rfl⟩
theorem d_X_giveBack_80 : xb b_X_giveBack 80 (.goto (-72)) (-72) 83 8 := ⟨by decide +kernel, rfl, by decide⟩
theorem d_X_giveBack_83 : xd b_X_giveBack 83 (.aload_n 0) 1 84 := ⟨by decide +kernel, rfl⟩
theorem d_X_giveBack_84 : xd b_X_giveBack 84 (.getfield 13) 3 87 := ⟨by decide +kernel, rfl⟩
theorem d_X_giveBack_87 : xd b_X_giveBack 87 (.bipush 48) 2 89 := ⟨by decide +kernel, rfl⟩
theorem d_X_giveBack_89 : xd b_X_giveBack 89 (.iload 4) 2 91 := ⟨by decide +kernel, rfl⟩
theorem d_X_giveBack_91 : xd b_X_giveBack 91 (.imul) 1 92 := ⟨by decide +kernel, rfl⟩
theorem d_X_giveBack_92 : xd b_X_giveBack 92 (.iload_n 3) 1 93 := ⟨by decide +kernel, rfl⟩
theorem d_X_giveBack_93 : xd b_X_giveBack 93 (.iadd) 1 94 := ⟨by decide +kernel, rfl⟩
theorem d_X_giveBack_94 : xd b_X_giveBack 94 (.iconst 1) 1 95 := ⟨by decide +kernel, rfl⟩
theorem d_X_giveBack_95 : xd b_X_giveBack 95 (.bastore) 1 96 := ⟨by decide +kernel, rfl⟩
theorem d_X_giveBack_96 : xd b_X_giveBack 96 (.return_) 1 97 := ⟨by decide +kernel, rfl⟩
end
section
/-! decode rows of PageRangeStoreModel (printed by gen.py) -/
theorem d_M_init_0 : xd b_M_init 0 (.aload_n 0) 1 1 := ⟨by decide +kernel, rfl⟩
theorem d_M_init_1 : xd b_M_init 1 (.invokespecial 1) 3 4 := ⟨by decide +kernel, rfl⟩
theorem d_M_init_4 : xd b_M_init 4 (.aload_n 0) 1 5 := ⟨by decide +kernel, rfl⟩
theorem d_M_init_5 : xd b_M_init 5 (.bipush 64) 2 7 := ⟨by decide +kernel, rfl⟩
theorem d_M_init_7 : xd b_M_init 7 (.newarray .boolean) 2 9 := ⟨by decide +kernel, rfl⟩
theorem d_M_init_9 : xd b_M_init 9 (.putfield 7) 3 12 := ⟨by decide +kernel, rfl⟩
theorem d_M_init_12 : xd b_M_init 12 (.aload_n 0) 1 13 := ⟨by decide +kernel, rfl⟩
theorem d_M_init_13 : xd b_M_init 13 (.bipush 64) 2 15 := ⟨by decide +kernel, rfl⟩
theorem d_M_init_15 : xd b_M_init 15 (.newarray .boolean) 2 17 := ⟨by decide +kernel, rfl⟩
theorem d_M_init_17 : xd b_M_init 17 (.putfield 13) 3 20 := ⟨by decide +kernel, rfl⟩
theorem d_M_init_20 : xd b_M_init 20 (.aload_n 0) 1 21 := ⟨by decide +kernel, rfl⟩
theorem d_M_init_21 : xd b_M_init 21 (.bipush 64) 2 23 := ⟨by decide +kernel, rfl⟩
theorem d_M_init_23 : xd b_M_init 23 (.newarray .int) 2 25 := ⟨by decide +kernel, rfl⟩
theorem d_M_init_25 : xd b_M_init 25 (.putfield 16) 3 28 := ⟨by decide +kernel, rfl⟩
theorem d_M_init_28 : xd b_M_init 28 (.iload_n 1) 1 29 := ⟨by decide +kernel, rfl⟩
theorem d_M_init_29 : xd b_M_init 29 (.bipush 8) 2 31 := ⟨by decide +kernel, rfl⟩
theorem d_M_init_31 : xb b_M_init 31 (.if_icmp .ge 8) 8 34 39 := ⟨by decide +kernel, rfl, by decide⟩
theorem d_M_init_34 : xd b_M_init 34 (.bipush 8) 2 36 := ⟨by decide +kernel, rfl⟩
theorem d_M_init_36 : xb b_M_init 36 (.goto 15) 15 39 51 := ⟨by decide +kernel, rfl, by decide⟩
theorem d_M_init_39 : xd b_M_init 39 (.iload_n 1) 1 40 := ⟨by decide +kernel, rfl⟩
theorem d_M_init_40 : xd b_M_init 40 (.bipush 48) 2 42 := ⟨by decide +kernel, rfl⟩
theorem d_M_init_42 : xb b_M_init 42 (.if_icmp .le 8) 8 45 50 := ⟨by decide +kernel, rfl, by decide⟩
theorem d_M_init_45 : xd b_M_init 45 (.bipush 48) 2 47 := ⟨by decide +kernel, rfl⟩
theorem d_M_init_47 : xb b_M_init 47 (.goto 4) 4 50 51 := ⟨by decide +kernel, rfl, by decide⟩
theorem d_M_init_50 : xd b_M_init 50 (.iload_n 1) 1 51 := ⟨by decide +kernel, rfl⟩
theorem d_M_init_51 : xd b_M_init 51 (.istore_n 2) 1 52 := ⟨by decide +kernel, rfl⟩
theorem d_M_init_52 : xd b_M_init 52 (.aload_n 0) 1 53 := ⟨by decide +kernel, rfl⟩
theorem d_M_init_53 : xd b_M_init 53 (.iload_n 2) 1 54 := ⟨by decide +kernel, rfl⟩
theorem d_M_init_54 : xd b_M_init 54 (.iload_n 2) 1 55 := ⟨by decide +kernel, rfl⟩
theorem d_M_init_55 : xd b_M_init 55 (.bipush 8) 2 57 := ⟨by decide +kernel, rfl⟩
theorem d_M_init_57 : xd b_M_init 57 (.irem) 1 58 := ⟨by decide +kernel, rfl⟩
theorem d_M_init_58 : xd b_M_init 58 (.isub) 1 59 := ⟨by decide +kernel, rfl⟩
theorem d_M_init_59 : xd b_M_init 59 (.putfield 20) 3 62 := ⟨by decide +kernel, rfl⟩
theorem d_M_init_62 : xd b_M_init 62 (.return_) 1 63 := ⟨by decide +kernel, rfl⟩
theorem d_M_frames_0 : xd b_M_frames 0 (.aload_n 0) 1 1 := ⟨by decide +kernel, rfl⟩
theorem d_M_frames_1 : xd b_M_frames 1 (.getfield 20) 3 4 := ⟨by decide +kernel, rfl⟩
theorem d_M_frames_4 : xd b_M_frames 4 (.ireturn) 1 5 := ⟨by decide +kernel, rfl⟩
theorem d_M_used_0 : xd b_M_used 0 (.iconst 0) 1 1 := ⟨by decide +kernel, rfl⟩
theorem d_M_used_1 : xd b_M_used 1 (.istore_n 1) 1 2 := ⟨by decide +kernel, rfl⟩
theorem d_M_used_2 : xd b_M_used 2 (.iconst 0) 1 3 := ⟨by decide +kernel, rfl⟩
theorem d_M_used_3 : xd b_M_used 3 (.istore_n 2) 1 4 := ⟨by decide +kernel, rfl⟩
theorem d_M_used_4 : xd b_M_used 4 (.iload_n 2) 1 5 := ⟨by decide +kernel, rfl⟩
theorem d_M_used_5 : xd b_M_used 5 (.bipush 64) 2 7 := ⟨by decide +kernel, rfl⟩
theorem d_M_used_7 : xb b_M_used 7 (.if_icmp .ge 21) 21 10 28 := ⟨by decide +kernel, rfl, by decide⟩
theorem d_M_used_10 : xd b_M_used 10 (.aload_n 0) 1 11 := ⟨by decide +kernel, rfl⟩
theorem d_M_used_11 : xd b_M_used 11 (.getfield 7) 3 14 := ⟨by decide +kernel, rfl⟩
theorem d_M_used_14 : xd b_M_used 14 (.iload_n 2) 1 15 := ⟨by decide +kernel, rfl⟩
theorem d_M_used_15 : xd b_M_used 15 (.baload) 1 16 := ⟨by decide +kernel, rfl⟩
theorem d_M_used_16 : xb b_M_used 16 (.ifCond .eq 6) 6 19 22 := ⟨by decide +kernel, rfl, by decide⟩
theorem d_M_used_19 : xd b_M_used 19 (.iinc 1 1) 3 22 := ⟨by decide +kernel, rfl⟩
theorem d_M_used_22 : xd b_M_used 22 (.iinc 2 1) 3 25 := ⟨by decide +kernel, rfl⟩
theorem d_M_used_25 : xb b_M_used 25 (.goto (-21)) (-21) 28 4 := ⟨by decide +kernel, rfl, by decide⟩
theorem d_M_used_28 : xd b_M_used 28 (.iload_n 1) 1 29 := ⟨by decide +kernel, rfl⟩
theorem d_M_used_29 : xd b_M_used 29 (.ireturn) 1 30 := ⟨by decide +kernel, rfl⟩
theorem d_M_badSpace_0 : xd b_M_badSpace 0 (.iload_n 1) 1 1 := ⟨by decide +kernel, rfl⟩
theorem d_M_badSpace_1 : xb b_M_badSpace 1 (.ifCond .lt 8) 8 4 9 := ⟨by decide +kernel, rfl, by decide⟩
theorem d_M_badSpace_4 : xd b_M_badSpace 4 (.iload_n 1) 1 5 := ⟨by decide +kernel, rfl⟩
theorem d_M_badSpace_5 : xd b_M_badSpace 5 (.iconst 1) 1 6 := ⟨by decide +kernel, rfl⟩
theorem d_M_badSpace_6 : xb b_M_badSpace 6 (.if_icmp .le 7) 7 9 13 := ⟨by decide +kernel, rfl, by decide⟩
theorem d_M_badSpace_9 : xd b_M_badSpace 9 (.iconst 1) 1 10 := ⟨by decide +kernel, rfl⟩
theorem d_M_badSpace_10 : xb b_M_badSpace 10 (.goto 4) 4 13 14 := ⟨by decide +kernel, rfl, by decide⟩
theorem d_M_badSpace_13 : xd b_M_badSpace 13 (.iconst 0) 1 14 := ⟨by decide +kernel, rfl⟩
theorem d_M_badSpace_14 : xd b_M_badSpace 14 (.ireturn) 1 15 := ⟨by decide +kernel, rfl⟩
theorem d_M_badPage_0 : xd b_M_badPage 0 (.iload_n 1) 1 1 := ⟨by decide +kernel, rfl⟩
theorem d_M_badPage_1 : xb b_M_badPage 1 (.ifCond .lt 9) 9 4 10 := ⟨by decide +kernel, rfl, by decide⟩
theorem d_M_badPage_4 : xd b_M_badPage 4 (.iload_n 1) 1 5 := ⟨by decide +kernel, rfl⟩
theorem d_M_badPage_5 : xd b_M_badPage 5 (.bipush 31) 2 7 := ⟨by decide +kernel, rfl⟩
theorem d_M_badPage_7 : xb b_M_badPage 7 (.if_icmp .le 7) 7 10 14 := ⟨by decide +kernel, rfl, by decide⟩
theorem d_M_badPage_10 : xd b_M_badPage 10 (.iconst 1) 1 11 := ⟨by decide +kernel, rfl⟩
theorem d_M_badPage_11 : xb b_M_badPage 11 (.goto 4) 4 14 15 := ⟨by decide +kernel, rfl, by decide⟩
theorem d_M_badPage_14 : xd b_M_badPage 14 (.iconst 0) 1 15 := ⟨by decide +kernel, rfl⟩
theorem d_M_badPage_15 : xd b_M_badPage 15 (.ireturn) 1 16 := ⟨by decide +kernel, rfl⟩
theorem d_M_badRange_0 : xd b_M_badRange 0 (.iload_n 2) 1 1 := ⟨by decide +kernel, rfl⟩
theorem d_M_badRange_1 : xd b_M_badRange 1 (.iconst 1) 1 2 := ⟨by decide +kernel, rfl⟩
theorem d_M_badRange_2 : xb b_M_badRange 2 (.if_icmp .lt 9) 9 5 11 := ⟨by decide +kernel, rfl, by decide⟩
theorem d_M_badRange_5 : xd b_M_badRange 5 (.iload_n 2) 1 6 := ⟨by decide +kernel, rfl⟩
theorem d_M_badRange_6 : xd b_M_badRange 6 (.bipush 32) 2 8 := ⟨by decide +kernel, rfl⟩
theorem d_M_badRange_8 : xb b_M_badRange 8 (.if_icmp .le 5) 5 11 13 := ⟨by decide +kernel, rfl, by decide⟩
theorem d_M_badRange_11 : xd b_M_badRange 11 (.iconst 1) 1 12 := ⟨by decide +kernel, rfl⟩
theorem d_M_badRange_12 : xd b_M_badRange 12 (.ireturn) 1 13 := ⟨by decide +kernel, rfl⟩
theorem d_M_badRange_13 : xd b_M_badRange 13 (.iload_n 1) 1 14 := ⟨by decide +kernel, rfl⟩
theorem d_M_badRange_14 : xb b_M_badRange 14 (.ifCond .lt 11) 11 17 25 := ⟨by decide +kernel, rfl, by decide⟩
theorem d_M_badRange_17 : xd b_M_badRange 17 (.iload_n 1) 1 18 := ⟨by decide +kernel, rfl⟩
theorem d_M_badRange_18 : xd b_M_badRange 18 (.bipush 32) 2 20 := ⟨by decide +kernel, rfl⟩
theorem d_M_badRange_20 : xd b_M_badRange 20 (.iload_n 2) 1 21 := ⟨by decide +kernel, rfl⟩
theorem d_M_badRange_21 : xd b_M_badRange 21 (.isub) 1 22 := ⟨by decide +kernel, rfl⟩
theorem d_M_badRange_22 : xb b_M_badRange 22 (.if_icmp .le 7) 7 25 29 := ⟨by decide +kernel, rfl, by decide⟩
theorem d_M_badRange_25 : xd b_M_badRange 25 (.iconst 1) 1 26 := ⟨by decide +kernel, rfl⟩
theorem d_M_badRange_26 : xb b_M_badRange 26 (.goto 4) 4 29 30 := ⟨by decide +kernel, rfl, by decide⟩
theorem d_M_badRange_29 : xd b_M_badRange 29 (.iconst 0) 1 30 := ⟨by decide +kernel, rfl⟩
theorem d_M_badRange_30 : xd b_M_badRange 30 (.ireturn) 1 31 := ⟨by decide +kernel, rfl⟩
theorem d_M_mappedIn_0 : xd b_M_mappedIn 0 (.aload_n 0) 1 1 := ⟨by decide +kernel, rfl⟩
theorem d_M_mappedIn_1 : xd b_M_mappedIn 1 (.iload_n 1) 1 2 := ⟨by decide +kernel, rfl⟩
theorem d_M_mappedIn_2 : xd b_M_mappedIn 2 (.invokevirtual 24) 3 5 := ⟨by decide +kernel, rfl⟩
theorem d_M_mappedIn_5 : xb b_M_mappedIn 5 (.ifCond .eq 5) 5 8 10 := ⟨by decide +kernel, rfl, by decide⟩
theorem d_M_mappedIn_8 : xd b_M_mappedIn 8 (.iconst (-1)) 1 9 := ⟨by decide +kernel, rfl⟩
theorem d_M_mappedIn_9 : xd b_M_mappedIn 9 (.ireturn) 1 10 := ⟨by decide +kernel, rfl⟩
theorem d_M_mappedIn_10 : xd b_M_mappedIn 10 (.iconst 0) 1 11 := ⟨by decide +kernel, rfl⟩
theorem d_M_mappedIn_11 : xd b_M_mappedIn 11 (.istore_n 2) 1 12 := ⟨by decide +kernel, rfl⟩
theorem d_M_mappedIn_12 : xd b_M_mappedIn 12 (.iconst 0) 1 13 := ⟨by decide +kernel, rfl⟩
theorem d_M_mappedIn_13 : xd b_M_mappedIn 13 (.istore_n 3) 1 14 := ⟨by decide +kernel, rfl⟩
theorem d_M_mappedIn_14 : xd b_M_mappedIn 14 (.iload_n 3) 1 15 := ⟨by decide +kernel, rfl⟩
theorem d_M_mappedIn_15 : xd b_M_mappedIn 15 (.bipush 32) 2 17 := ⟨by decide +kernel, rfl⟩
theorem d_M_mappedIn_17 : xb b_M_mappedIn 17 (.if_icmp .ge 26) 26 20 43 := ⟨by decide +kernel, rfl, by decide⟩
theorem d_M_mappedIn_20 : xd b_M_mappedIn 20 (.aload_n 0) 1 21 := ⟨by decide +kernel, rfl⟩
theorem d_M_mappedIn_21 : xd b_M_mappedIn 21 (.getfield 7) 3 24 := ⟨by decide +kernel, rfl⟩
theorem d_M_mappedIn_24 : xd b_M_mappedIn 24 (.bipush 32) 2 26 := ⟨by decide +kernel, rfl⟩
theorem d_M_mappedIn_26 : xd b_M_mappedIn 26 (.iload_n 1) 1 27 := ⟨by decide +kernel, rfl⟩
theorem d_M_mappedIn_27 : xd b_M_mappedIn 27 (.imul) 1 28 := ⟨by decide +kernel, rfl⟩
theorem d_M_mappedIn_28 : xd b_M_mappedIn 28 (.iload_n 3) 1 29 := ⟨by decide +kernel, rfl⟩
theorem d_M_mappedIn_29 : xd b_M_mappedIn 29 (.iadd) 1 30 := ⟨by decide +kernel, rfl⟩
theorem d_M_mappedIn_30 : xd b_M_mappedIn 30 (.baload) 1 31 := ⟨by decide +kernel, rfl⟩
theorem d_M_mappedIn_31 : xb b_M_mappedIn 31 (.ifCond .eq 6) 6 34 37 := ⟨by decide +kernel, rfl, by decide⟩
theorem d_M_mappedIn_34 : xd b_M_mappedIn 34 (.iinc 2 1) 3 37 := ⟨by decide +kernel, rfl⟩
theorem d_M_mappedIn_37 : xd b_M_mappedIn 37 (.iinc 3 1) 3 40 := ⟨by decide +kernel, rfl⟩
theorem d_M_mappedIn_40 : xb b_M_mappedIn 40 (.goto (-26)) (-26) 43 14 := ⟨by decide +kernel, rfl, by decide⟩
theorem d_M_mappedIn_43 : xd b_M_mappedIn 43 (.iload_n 2) 1 44 := ⟨by decide +kernel, rfl⟩
theorem d_M_mappedIn_44 : xd b_M_mappedIn 44 (.ireturn) 1 45 := ⟨by decide +kernel, rfl⟩
theorem d_M_make_0 : xd b_M_make 0 (.aload_n 0) 1 1 := ⟨by decide +kernel, rfl⟩
theorem d_M_make_1 : xd b_M_make 1 (.getfield 7) 3 4 := ⟨by decide +kernel, rfl⟩
theorem d_M_make_4 : xd b_M_make 4 (.iload_n 1) 1 5 := ⟨by decide +kernel, rfl⟩
theorem d_M_make_5 : xd b_M_make 5 (.iconst 1) 1 6 := ⟨by decide +kernel, rfl⟩
theorem d_M_make_6 : xd b_M_make 6 (.bastore) 1 7 := ⟨by decide +kernel, rfl⟩
theorem d_M_make_7 : xd b_M_make 7 (.aload_n 0) 1 8 := ⟨by decide +kernel, rfl⟩
theorem d_M_make_8 : xd b_M_make 8 (.getfield 13) 3 11 := ⟨by decide +kernel, rfl⟩
theorem d_M_make_11 : xd b_M_make 11 (.iload_n 1) 1 12 := ⟨by decide +kernel, rfl⟩
theorem d_M_make_12 : xd b_M_make 12 (.iconst 1) 1 13 := ⟨by decide +kernel, rfl⟩
theorem d_M_make_13 : xd b_M_make 13 (.bastore) 1 14 := ⟨by decide +kernel, rfl⟩
theorem d_M_make_14 : xd b_M_make 14 (.aload_n 0) 1 15 := ⟨by decide +kernel, rfl⟩
theorem d_M_make_15 : xd b_M_make 15 (.getfield 16) 3 18 := ⟨by decide +kernel, rfl⟩
theorem d_M_make_18 : xd b_M_make 18 (.iload_n 1) 1 19 := ⟨by decide +kernel, rfl⟩
theorem d_M_make_19 : xd b_M_make 19 (.iload_n 2) 1 20 := ⟨by decide +kernel, rfl⟩
theorem d_M_make_20 : xd b_M_make 20 (.iastore) 1 21 := ⟨by decide +kernel, rfl⟩
theorem d_M_make_21 : xd b_M_make 21 (.return_) 1 22 := ⟨by decide +kernel, rfl⟩
theorem d_M_map_0 : xd b_M_map 0 (.aload_n 0) 1 1 := ⟨by decide +kernel, rfl⟩
theorem d_M_map_1 : xd b_M_map 1 (.iload_n 1) 1 2 := ⟨by decide +kernel, rfl⟩
theorem d_M_map_2 : xd b_M_map 2 (.invokevirtual 24) 3 5 := ⟨by decide +kernel, rfl⟩
theorem d_M_map_5 : xb b_M_map 5 (.ifCond .eq 5) 5 8 10 := ⟨by decide +kernel, rfl, by decide⟩
theorem d_M_map_8 : xd b_M_map 8 (.iconst (-1)) 1 9 := ⟨by decide +kernel, rfl⟩
theorem d_M_map_9 : xd b_M_map 9 (.ireturn) 1 10 := ⟨by decide +kernel, rfl⟩
theorem d_M_map_10 : xd b_M_map 10 (.aload_n 0) 1 11 := ⟨by decide +kernel, rfl⟩
theorem d_M_map_11 : xd b_M_map 11 (.iload_n 2) 1 12 := ⟨by decide +kernel, rfl⟩
theorem d_M_map_12 : xd b_M_map 12 (.iload_n 3) 1 13 := ⟨by decide +kernel, rfl⟩
theorem d_M_map_13 : xd b_M_map 13 (.invokevirtual 28) 3 16 := ⟨by decide +kernel, rfl⟩
theorem d_M_map_16 : xb b_M_map 16 (.ifCond .eq 6) 6 19 22 := ⟨by decide +kernel, rfl, by decide⟩
theorem d_M_map_19 : xd b_M_map 19 (.bipush (-2)) 2 21 := ⟨by decide +kernel, rfl⟩
theorem d_M_map_21 : xd b_M_map 21 (.ireturn) 1 22 := ⟨by decide +kernel, rfl⟩
theorem d_M_map_22 : xd b_M_map 22 (.iconst 0) 1 23 := ⟨by decide +kernel, rfl⟩
theorem d_M_map_23 : xd b_M_map 23 (.istore 4) 2 25 := ⟨by decide +kernel, rfl⟩
theorem d_M_map_25 : xd b_M_map 25 (.iload_n 2) 1 26 := ⟨by decide +kernel, rfl⟩
theorem d_M_map_26 : xd b_M_map 26 (.istore 5) 2 28 := ⟨by decide +kernel, rfl⟩
theorem d_M_map_28 : xd b_M_map 28 (.iload 5) 2 30 := ⟨by decide +kernel, rfl⟩
theorem d_M_map_30 : xd b_M_map 30 (.iload_n 2) 1 31 := ⟨by decide +kernel, rfl⟩
theorem d_M_map_31 : xd b_M_map 31 (.iload_n 3) 1 32 := ⟨by decide +kernel, rfl⟩
theorem d_M_map_32 : xd b_M_map 32 (.iadd) 1 33 := ⟨by decide +kernel, rfl⟩
theorem d_M_map_33 : xb b_M_map 33 (.if_icmp .ge 27) 27 36 60 := ⟨by decide +kernel, rfl, by decide⟩
theorem d_M_map_36 : xd b_M_map 36 (.aload_n 0) 1 37 := ⟨by decide +kernel, rfl⟩
theorem d_M_map_37 : xd b_M_map 37 (.getfield 7) 3 40 := ⟨by decide +kernel, rfl⟩
theorem d_M_map_40 : xd b_M_map 40 (.bipush 32) 2 42 := ⟨by decide +kernel, rfl⟩
theorem d_M_map_42 : xd b_M_map 42 (.iload_n 1) 1 43 := ⟨by decide +kernel, rfl⟩
theorem d_M_map_43 : xd b_M_map 43 (.imul) 1 44 := ⟨by decide +kernel, rfl⟩
theorem d_M_map_44 : xd b_M_map 44 (.iload 5) 2 46 := ⟨by decide +kernel, rfl⟩
theorem d_M_map_46 : xd b_M_map 46 (.iadd) 1 47 := ⟨by decide +kernel, rfl⟩
theorem d_M_map_47 : xd b_M_map 47 (.baload) 1 48 := ⟨by decide +kernel, rfl⟩
theorem d_M_map_48 : xb b_M_map 48 (.ifCond .ne 6) 6 51 54 := ⟨by decide +kernel, rfl, by decide⟩
theorem d_M_map_51 : xd b_M_map 51 (.iinc 4 1) 3 54 := ⟨by decide +kernel, rfl⟩
theorem d_M_map_54 : xd b_M_map 54 (.iinc 5 1) 3 57 := ⟨by decide +kernel, rfl⟩
theorem d_M_map_57 : xb b_M_map 57 (.goto (-29)) (-29) 60 28 := ⟨by decide +kernel, rfl, by decide⟩
theorem d_M_map_60 : xd b_M_map 60 (.aload_n 0) 1 61 := ⟨by decide +kernel, rfl⟩
theorem d_M_map_61 : xd b_M_map 61 (.invokevirtual 32) 3 64 := ⟨by decide +kernel, rfl⟩
theorem d_M_map_64 : xd b_M_map 64 (.iload 4) 2 66 := ⟨by decide +kernel, rfl⟩
theorem d_M_map_66 : xd b_M_map 66 (.iadd) 1 67 := ⟨by decide +kernel, rfl⟩
theorem d_M_map_67 : xd b_M_map 67 (.aload_n 0) 1 68 := ⟨by decide +kernel, rfl⟩
theorem d_M_map_68 : xd b_M_map 68 (.getfield 20) 3 71 := ⟨by decide +kernel, rfl⟩
theorem d_M_map_71 : xb b_M_map 71 (.if_icmp .le 6) 6 74 77 := ⟨by decide +kernel, rfl, by decide⟩
theorem d_M_map_74 : xd b_M_map 74 (.bipush (-3)) 2 76 := ⟨by decide +kernel, rfl⟩
theorem d_M_map_76 : xd b_M_map 76 (.ireturn) 1 77 := ⟨by decide +kernel, rfl⟩
theorem d_M_map_77 : xd b_M_map 77 (.iload_n 2) 1 78 := ⟨by decide +kernel, rfl⟩
theorem d_M_map_78 : xd b_M_map 78 (.istore 5) 2 80 := ⟨by decide +kernel, rfl⟩
theorem d_M_map_80 : xd b_M_map 80 (.iload 5) 2 82 := ⟨by decide +kernel, rfl⟩
theorem d_M_map_82 : xd b_M_map 82 (.iload_n 2) 1 83 := ⟨by decide +kernel, rfl⟩
theorem d_M_map_83 : xd b_M_map 83 (.iload_n 3) 1 84 := ⟨by decide +kernel, rfl⟩
theorem d_M_map_84 : xd b_M_map 84 (.iadd) 1 85 := ⟨by decide +kernel, rfl⟩
theorem d_M_map_85 : xb b_M_map 85 (.if_icmp .ge 36) 36 88 121 := ⟨by decide +kernel, rfl, by decide⟩
theorem d_M_map_88 : xd b_M_map 88 (.aload_n 0) 1 89 := ⟨by decide +kernel, rfl⟩
theorem d_M_map_89 : xd b_M_map 89 (.getfield 7) 3 92 := ⟨by decide +kernel, rfl⟩
theorem d_M_map_92 : xd b_M_map 92 (.bipush 32) 2 94 := ⟨by decide +kernel, rfl⟩
theorem d_M_map_94 : xd b_M_map 94 (.iload_n 1) 1 95 := ⟨by decide +kernel, rfl⟩
theorem d_M_map_95 : xd b_M_map 95 (.imul) 1 96 := ⟨by decide +kernel, rfl⟩
theorem d_M_map_96 : xd b_M_map 96 (.iload 5) 2 98 := ⟨by decide +kernel, rfl⟩
theorem d_M_map_98 : xd b_M_map 98 (.iadd) 1 99 := ⟨by decide +kernel, rfl⟩
theorem d_M_map_99 : xd b_M_map 99 (.baload) 1 100 := ⟨by decide +kernel, rfl⟩
theorem d_M_map_100 : xb b_M_map 100 (.ifCond .ne 15) 15 103 115 := ⟨by decide +kernel, rfl, by decide⟩
theorem d_M_map_103 : xd b_M_map 103 (.aload_n 0) 1 104 := ⟨by decide +kernel, rfl⟩
theorem d_M_map_104 : xd b_M_map 104 (.bipush 32) 2 106 := ⟨by decide +kernel, rfl⟩
theorem d_M_map_106 : xd b_M_map 106 (.iload_n 1) 1 107 := ⟨by decide +kernel, rfl⟩
theorem d_M_map_107 : xd b_M_map 107 (.imul) 1 108 := ⟨by decide +kernel, rfl⟩
theorem d_M_map_108 : xd b_M_map 108 (.iload 5) 2 110 := ⟨by decide +kernel, rfl⟩
theorem d_M_map_110 : xd b_M_map 110 (.iadd) 1 111 := ⟨by decide +kernel, rfl⟩
theorem d_M_map_111 : xd b_M_map 111 (.iconst 0) 1 112 := ⟨by decide +kernel, rfl⟩
theorem d_M_map_112 : xd b_M_map 112 (.invokevirtual 36) 3 115 := ⟨by decide +kernel, rfl⟩
theorem d_M_map_115 : xd b_M_map 115 (.iinc 5 1) 3 118 := ⟨by decide +kernel, rfl⟩
theorem d_M_map_118 : xb b_M_map 118 (.goto (-38)) (-38) 121 80 := ⟨by decide +kernel, rfl, by decide⟩
theorem d_M_map_121 : xd b_M_map 121 (.iload 4) 2 123 := ⟨by decide +kernel, rfl⟩
theorem d_M_map_123 : xd b_M_map 123 (.ireturn) 1 124 := ⟨by decide +kernel, rfl⟩
theorem d_M_unmap_0 : xd b_M_unmap 0 (.aload_n 0) 1 1 := ⟨by decide +kernel, rfl⟩
theorem d_M_unmap_1 : xd b_M_unmap 1 (.iload_n 1) 1 2 := ⟨by decide +kernel, rfl⟩
theorem d_M_unmap_2 : xd b_M_unmap 2 (.invokevirtual 24) 3 5 := ⟨by decide +kernel, rfl⟩
theorem d_M_unmap_5 : xb b_M_unmap 5 (.ifCond .eq 5) 5 8 10 := ⟨by decide +kernel, rfl, by decide⟩
theorem d_M_unmap_8 : xd b_M_unmap 8 (.iconst (-1)) 1 9 := ⟨by decide +kernel, rfl⟩
theorem d_M_unmap_9 : xd b_M_unmap 9 (.ireturn) 1 10 := ⟨by decide +kernel, rfl⟩
theorem d_M_unmap_10 : xd b_M_unmap 10 (.aload_n 0) 1 11 := ⟨by decide +kernel, rfl⟩
theorem d_M_unmap_11 : xd b_M_unmap 11 (.iload_n 2) 1 12 := ⟨by decide +kernel, rfl⟩
theorem d_M_unmap_12 : xd b_M_unmap 12 (.iload_n 3) 1 13 := ⟨by decide +kernel, rfl⟩
theorem d_M_unmap_13 : xd b_M_unmap 13 (.invokevirtual 28) 3 16 := ⟨by decide +kernel, rfl⟩
theorem d_M_unmap_16 : xb b_M_unmap 16 (.ifCond .eq 6) 6 19 22 := ⟨by decide +kernel, rfl, by decide⟩
theorem d_M_unmap_19 : xd b_M_unmap 19 (.bipush (-2)) 2 21 := ⟨by decide +kernel, rfl⟩
theorem d_M_unmap_21 : xd b_M_unmap 21 (.ireturn) 1 22 := ⟨by decide +kernel, rfl⟩
theorem d_M_unmap_22 : xd b_M_unmap 22 (.iconst 0) 1 23 := ⟨by decide +kernel, rfl⟩
theorem d_M_unmap_23 : xd b_M_unmap 23 (.istore 4) 2 25 := ⟨by decide +kernel, rfl⟩
theorem d_M_unmap_25 : xd b_M_unmap 25 (.iload_n 2) 1 26 := ⟨by decide +kernel, rfl⟩
theorem d_M_unmap_26 : xd b_M_unmap 26 (.istore 5) 2 28 := ⟨by decide +kernel, rfl⟩
theorem d_M_unmap_28 : xd b_M_unmap 28 (.iload 5) 2 30 := ⟨by decide +kernel, rfl⟩
theorem d_M_unmap_30 : xd b_M_unmap 30 (.iload_n 2) 1 31 := ⟨by decide +kernel, rfl⟩
theorem d_M_unmap_31 : xd b_M_unmap 31 (.iload_n 3) 1 32 := ⟨by decide +kernel, rfl⟩
theorem d_M_unmap_32 : xd b_M_unmap 32 (.iadd) 1 33 := ⟨by decide +kernel, rfl⟩
theorem d_M_unmap_33 : xb b_M_unmap 33 (.if_icmp .ge 40) 40 36 73 := ⟨by decide +kernel, rfl, by decide⟩
theorem d_M_unmap_36 : xd b_M_unmap 36 (.aload_n 0) 1 37 := ⟨by decide +kernel, rfl⟩
theorem d_M_unmap_37 : xd b_M_unmap 37 (.getfield 7) 3 40 := ⟨by decide +kernel, rfl⟩
theorem d_M_unmap_40 : xd b_M_unmap 40 (.bipush 32) 2 42 := ⟨by decide +kernel, rfl⟩
theorem d_M_unmap_42 : xd b_M_unmap 42 (.iload_n 1) 1 43 := ⟨by decide +kernel, rfl⟩
theorem d_M_unmap_43 : xd b_M_unmap 43 (.imul) 1 44 := ⟨by decide +kernel, rfl⟩
theorem d_M_unmap_44 : xd b_M_unmap 44 (.iload 5) 2 46 := ⟨by decide +kernel, rfl⟩
theorem d_M_unmap_46 : xd b_M_unmap 46 (.iadd) 1 47 := ⟨by decide +kernel, rfl⟩
theorem d_M_unmap_47 : xd b_M_unmap 47 (.baload) 1 48 := ⟨by decide +kernel, rfl⟩
theorem d_M_unmap_48 : xb b_M_unmap 48 (.ifCond .eq 6) 6 51 54 := ⟨by decide +kernel, rfl, by decide⟩
theorem d_M_unmap_51 : xd b_M_unmap 51 (.iinc 4 1) 3 54 := ⟨by decide +kernel, rfl⟩
theorem d_M_unmap_54 : xd b_M_unmap 54 (.aload_n 0) 1 55 := ⟨by decide +kernel, rfl⟩
theorem d_M_unmap_55 : xd b_M_unmap 55 (.getfield 7) 3 58 := ⟨by decide +kernel, rfl⟩
theorem d_M_unmap_58 : xd b_M_unmap 58 (.bipush 32) 2 60 := ⟨by decide +kernel, rfl⟩
theorem d_M_unmap_60 : xd b_M_unmap 60 (.iload_n 1) 1 61 := ⟨by decide +kernel, rfl⟩
theorem d_M_unmap_61 : xd b_M_unmap 61 (.imul) 1 62 := ⟨by decide +kernel, rfl⟩
theorem d_M_unmap_62 : xd b_M_unmap 62 (.iload 5) 2 64 := ⟨by decide +kernel, rfl⟩
theorem d_M_unmap_64 : xd b_M_unmap 64 (.iadd) 1 65 := ⟨by decide +kernel, rfl⟩
theorem d_M_unmap_65 : xd b_M_unmap 65 (.iconst 0) 1 66 := ⟨by decide +kernel, rfl⟩
theorem d_M_unmap_66 : xd b_M_unmap 66 (.bastore) 1 67 := ⟨by decide +kernel, rfl⟩
theorem d_M_unmap_67 : xd b_M_unmap 67 (.iinc 5 1) 3 70 := ⟨by decide +kernel, rfl⟩
theorem d_M_unmap_70 : xb b_M_unmap 70 (.goto (-42)) (-42) 73 28 := ⟨by decide +kernel, rfl, by decide⟩
theorem d_M_unmap_73 : xd b_M_unmap 73 (.iload 4) 2 75 := ⟨by decide +kernel, rfl⟩
theorem d_M_unmap_75 : xd b_M_unmap 75 (.ireturn) 1 76 := ⟨by decide +kernel, rfl⟩
theorem d_M_protect_0 : xd b_M_protect 0 (.aload_n 0) 1 1 := ⟨by decide +kernel, rfl⟩
theorem d_M_protect_1 : xd b_M_protect 1 (.iload_n 1) 1 2 := ⟨by decide +kernel, rfl⟩
theorem d_M_protect_2 : xd b_M_protect 2 (.invokevirtual 24) 3 5 := ⟨by decide +kernel, rfl⟩
theorem d_M_protect_5 : xb b_M_protect 5 (.ifCond .eq 5) 5 8 10 := ⟨by decide +kernel, rfl, by decide⟩
theorem d_M_protect_8 : xd b_M_protect 8 (.iconst (-1)) 1 9 := ⟨by decide +kernel, rfl⟩
theorem d_M_protect_9 : xd b_M_protect 9 (.ireturn) 1 10 := ⟨by decide +kernel, rfl⟩
theorem d_M_protect_10 : xd b_M_protect 10 (.aload_n 0) 1 11 := ⟨by decide +kernel, rfl⟩
theorem d_M_protect_11 : xd b_M_protect 11 (.iload_n 2) 1 12 := ⟨by decide +kernel, rfl⟩
theorem d_M_protect_12 : xd b_M_protect 12 (.iload_n 3) 1 13 := ⟨by decide +kernel, rfl⟩
theorem d_M_protect_13 : xd b_M_protect 13 (.invokevirtual 28) 3 16 := ⟨by decide +kernel, rfl⟩
theorem d_M_protect_16 : xb b_M_protect 16 (.ifCond .eq 6) 6 19 22 := ⟨by decide +kernel, rfl, by decide⟩
theorem d_M_protect_19 : xd b_M_protect 19 (.bipush (-2)) 2 21 := ⟨by decide +kernel, rfl⟩
theorem d_M_protect_21 : xd b_M_protect 21 (.ireturn) 1 22 := ⟨by decide +kernel, rfl⟩
theorem d_M_protect_22 : xd b_M_protect 22 (.iload 4) 2 24 := ⟨by decide +kernel, rfl⟩
theorem d_M_protect_24 : xb b_M_protect 24 (.ifCond .eq 7) 7 27 31 := ⟨by decide +kernel, rfl, by decide⟩
theorem d_M_protect_27 : xd b_M_protect 27 (.iconst 1) 1 28 := ⟨by decide +kernel, rfl⟩
theorem d_M_protect_28 : xb b_M_protect 28 (.goto 4) 4 31 32 := ⟨by decide +kernel, rfl, by decide⟩
theorem d_M_protect_31 : xd b_M_protect 31 (.iconst 0) 1 32 := ⟨by decide +kernel, rfl⟩
theorem d_M_protect_32 : xd b_M_protect 32 (.istore 5) 2 34 := ⟨by decide +kernel, rfl⟩
theorem d_M_protect_34 : xd b_M_protect 34 (.iconst 0) 1 35 := ⟨by decide +kernel, rfl⟩
theorem d_M_protect_35 : xd b_M_protect 35 (.istore 6) 2 37 := ⟨by decide +kernel, rfl⟩
theorem d_M_protect_37 : xd b_M_protect 37 (.iload_n 2) 1 38 := ⟨by decide +kernel, rfl⟩
theorem d_M_protect_38 : xd b_M_protect 38 (.istore 7) 2 40 := ⟨by decide +kernel, rfl⟩
theorem d_M_protect_40 : xd b_M_protect 40 (.iload 7) 2 42 := ⟨by decide +kernel, rfl⟩
theorem d_M_protect_42 : xd b_M_protect 42 (.iload_n 2) 1 43 := ⟨by decide +kernel, rfl⟩
theorem d_M_protect_43 : xd b_M_protect 43 (.iload_n 3) 1 44 := ⟨by decide +kernel, rfl⟩
theorem d_M_protect_44 : xd b_M_protect 44 (.iadd) 1 45 := ⟨by decide +kernel, rfl⟩
theorem d_M_protect_45 : xb b_M_protect 45 (.if_icmp .ge 52) 52 48 97 := ⟨by decide +kernel, rfl, by decide⟩
theorem d_M_protect_48 : xd b_M_protect 48 (.bipush 32) 2 50 := ⟨by decide +kernel, rfl⟩
theorem d_M_protect_50 : xd b_M_protect 50 (.iload_n 1) 1 51 := ⟨by decide +kernel, rfl⟩
theorem d_M_protect_51 : xd b_M_protect 51 (.imul) 1 52 := ⟨by decide +kernel, rfl⟩
theorem d_M_protect_52 : xd b_M_protect 52 (.iload 7) 2 54 := ⟨by decide +kernel, rfl⟩
theorem d_M_protect_54 : xd b_M_protect 54 (.iadd) 1 55 := ⟨by decide +kernel, rfl⟩
theorem d_M_protect_55 : xd b_M_protect 55 (.istore 8) 2 57 := ⟨by decide +kernel, rfl⟩
theorem d_M_protect_57 : xd b_M_protect 57 (.aload_n 0) 1 58 := ⟨by decide +kernel, rfl⟩
theorem d_M_protect_58 : xd b_M_protect 58 (.getfield 7) 3 61 := ⟨by decide +kernel, rfl⟩
theorem d_M_protect_61 : xd b_M_protect 61 (.iload 8) 2 63 := ⟨by decide +kernel, rfl⟩
theorem d_M_protect_63 : xd b_M_protect 63 (.baload) 1 64 := ⟨by decide +kernel, rfl⟩
theorem d_M_protect_64 : xb b_M_protect 64 (.ifCond .eq 27) 27 67 91 := ⟨by decide +kernel, rfl, by decide⟩
theorem d_M_protect_67 : xd b_M_protect 67 (.aload_n 0) 1 68 := ⟨by decide +kernel, rfl⟩
theorem d_M_protect_68 : xd b_M_protect 68 (.getfield 13) 3 71 := ⟨by decide +kernel, rfl⟩
theorem d_M_protect_71 : xd b_M_protect 71 (.iload 8) 2 73 := ⟨by decide +kernel, rfl⟩
theorem d_M_protect_73 : xd b_M_protect 73 (.baload) 1 74 := ⟨by decide +kernel, rfl⟩
theorem d_M_protect_74 : xd b_M_protect 74 (.iload 5) 2 76 := ⟨by decide +kernel, rfl⟩
theorem d_M_protect_76 : xb b_M_protect 76 (.if_icmp .eq 15) 15 79 91 := ⟨by decide +kernel, rfl, by decide⟩
theorem d_M_protect_79 : xd b_M_protect 79 (.aload_n 0) 1 80 := ⟨by decide +kernel, rfl⟩
theorem d_M_protect_80 : xd b_M_protect 80 (.getfield 13) 3 83 := ⟨by decide +kernel, rfl⟩
theorem d_M_protect_83 : xd b_M_protect 83 (.iload 8) 2 85 := ⟨by decide +kernel, rfl⟩
theorem d_M_protect_85 : xd b_M_protect 85 (.iload 5) 2 87 := ⟨by decide +kernel, rfl⟩
theorem d_M_protect_87 : xd b_M_protect 87 (.bastore) 1 88 := ⟨by decide +kernel, rfl⟩
theorem d_M_protect_88 : xd b_M_protect 88 (.iinc 6 1) 3 91 := ⟨by decide +kernel, rfl⟩
theorem d_M_protect_91 : xd b_M_protect 91 (.iinc 7 1) 3 94 := ⟨by decide +kernel, rfl⟩
theorem d_M_protect_94 : xb b_M_protect 94 (.goto (-54)) (-54) 97 40 := ⟨by decide +kernel, rfl, by decide⟩
theorem d_M_protect_97 : xd b_M_protect 97 (.iload 6) 2 99 := ⟨by decide +kernel, rfl⟩
theorem d_M_protect_99 : xd b_M_protect 99 (.ireturn) 1 100 := ⟨by decide +kernel, rfl⟩
theorem d_M_mapped_0 : xd b_M_mapped 0 (.aload_n 0) 1 1 := ⟨by decide +kernel, rfl⟩
theorem d_M_mapped_1 : xd b_M_mapped 1 (.iload_n 1) 1 2 := ⟨by decide +kernel, rfl⟩
theorem d_M_mapped_2 : xd b_M_mapped 2 (.invokevirtual 24) 3 5 := ⟨by decide +kernel, rfl⟩
theorem d_M_mapped_5 : xb b_M_mapped 5 (.ifCond .eq 5) 5 8 10 := ⟨by decide +kernel, rfl, by decide⟩
theorem d_M_mapped_8 : xd b_M_mapped 8 (.iconst (-1)) 1 9 := ⟨by decide +kernel, rfl⟩
theorem d_M_mapped_9 : xd b_M_mapped 9 (.ireturn) 1 10 := ⟨by decide +kernel, rfl⟩
theorem d_M_mapped_10 : xd b_M_mapped 10 (.aload_n 0) 1 11 := ⟨by decide +kernel, rfl⟩
theorem d_M_mapped_11 : xd b_M_mapped 11 (.iload_n 2) 1 12 := ⟨by decide +kernel, rfl⟩
theorem d_M_mapped_12 : xd b_M_mapped 12 (.invokevirtual 40) 3 15 := ⟨by decide +kernel, rfl⟩
theorem d_M_mapped_15 : xb b_M_mapped 15 (.ifCond .eq 6) 6 18 21 := ⟨by decide +kernel, rfl, by decide⟩
theorem d_M_mapped_18 : xd b_M_mapped 18 (.bipush (-2)) 2 20 := ⟨by decide +kernel, rfl⟩
theorem d_M_mapped_20 : xd b_M_mapped 20 (.ireturn) 1 21 := ⟨by decide +kernel, rfl⟩
theorem d_M_mapped_21 : xd b_M_mapped 21 (.aload_n 0) 1 22 := ⟨by decide +kernel, rfl⟩
theorem d_M_mapped_22 : xd b_M_mapped 22 (.getfield 7) 3 25 := ⟨by decide +kernel, rfl⟩
theorem d_M_mapped_25 : xd b_M_mapped 25 (.bipush 32) 2 27 := ⟨by decide +kernel, rfl⟩
theorem d_M_mapped_27 : xd b_M_mapped 27 (.iload_n 1) 1 28 := ⟨by decide +kernel, rfl⟩
theorem d_M_mapped_28 : xd b_M_mapped 28 (.imul) 1 29 := ⟨by decide +kernel, rfl⟩
theorem d_M_mapped_29 : xd b_M_mapped 29 (.iload_n 2) 1 30 := ⟨by decide +kernel, rfl⟩
theorem d_M_mapped_30 : xd b_M_mapped 30 (.iadd) 1 31 := ⟨by decide +kernel, rfl⟩
theorem d_M_mapped_31 : xd b_M_mapped 31 (.baload) 1 32 := ⟨by decide +kernel, rfl⟩
theorem d_M_mapped_32 : xb b_M_mapped 32 (.ifCond .eq 7) 7 35 39 := ⟨by decide +kernel, rfl, by decide⟩
theorem d_M_mapped_35 : xd b_M_mapped 35 (.iconst 1) 1 36 := ⟨by decide +kernel, rfl⟩
theorem d_M_mapped_36 : xb b_M_mapped 36 (.goto 4) 4 39 40 := ⟨by decide +kernel, rfl, by decide⟩
theorem d_M_mapped_39 : xd b_M_mapped 39 (.iconst 0) 1 40 := ⟨by decide +kernel, rfl⟩
theorem d_M_mapped_40 : xd b_M_mapped 40 (.ireturn) 1 41 := ⟨by decide +kernel, rfl⟩
theorem d_M_writable_0 : xd b_M_writable 0 (.aload_n 0) 1 1 := ⟨by decide +kernel, rfl⟩
theorem d_M_writable_1 : xd b_M_writable 1 (.iload_n 1) 1 2 := ⟨by decide +kernel, rfl⟩
theorem d_M_writable_2 : xd b_M_writable 2 (.invokevirtual 24) 3 5 := ⟨by decide +kernel, rfl⟩
theorem d_M_writable_5 : xb b_M_writable 5 (.ifCond .eq 5) 5 8 10 := ⟨by decide +kernel, rfl, by decide⟩
theorem d_M_writable_8 : xd b_M_writable 8 (.iconst (-1)) 1 9 := ⟨by decide +kernel, rfl⟩
theorem d_M_writable_9 : xd b_M_writable 9 (.ireturn) 1 10 := ⟨by decide +kernel, rfl⟩
theorem d_M_writable_10 : xd b_M_writable 10 (.aload_n 0) 1 11 := ⟨by decide +kernel, rfl⟩
theorem d_M_writable_11 : xd b_M_writable 11 (.iload_n 2) 1 12 := ⟨by decide +kernel, rfl⟩
theorem d_M_writable_12 : xd b_M_writable 12 (.invokevirtual 40) 3 15 := ⟨by decide +kernel, rfl⟩
theorem d_M_writable_15 : xb b_M_writable 15 (.ifCond .eq 6) 6 18 21 := ⟨by decide +kernel, rfl, by decide⟩
theorem d_M_writable_18 : xd b_M_writable 18 (.bipush (-2)) 2 20 := ⟨by decide +kernel, rfl⟩
theorem d_M_writable_20 : xd b_M_writable 20 (.ireturn) 1 21 := ⟨by decide +kernel, rfl⟩
theorem d_M_writable_21 : xd b_M_writable 21 (.aload_n 0) 1 22 := ⟨by decide +kernel, rfl⟩
theorem d_M_writable_22 : xd b_M_writable 22 (.getfield 7) 3 25 := ⟨by decide +kernel, rfl⟩
theorem d_M_writable_25 : xd b_M_writable 25 (.bipush 32) 2 27 := ⟨by decide +kernel, rfl⟩
theorem d_M_writable_27 : xd b_M_writable 27 (.iload_n 1) 1 28 := ⟨by decide +kernel, rfl⟩
theorem d_M_writable_28 : xd b_M_writable 28 (.imul) 1 29 := ⟨by decide +kernel, rfl⟩
theorem d_M_writable_29 : xd b_M_writable 29 (.iload_n 2) 1 30 := ⟨by decide +kernel, rfl⟩
theorem d_M_writable_30 : xd b_M_writable 30 (.iadd) 1 31 := ⟨by decide +kernel, rfl⟩
theorem d_M_writable_31 : xd b_M_writable 31 (.baload) 1 32 := ⟨by decide +kernel, rfl⟩
theorem d_M_writable_32 : xb b_M_writable 32 (.ifCond .eq 21) 21 35 53 := ⟨by decide +kernel, rfl, by decide⟩
theorem d_M_writable_35 : xd b_M_writable 35 (.aload_n 0) 1 36 := ⟨by decide +kernel, rfl⟩
theorem d_M_writable_36 : xd b_M_writable 36 (.getfield 13) 3 39 := ⟨by decide +kernel, rfl⟩
theorem d_M_writable_39 : xd b_M_writable 39 (.bipush 32) 2 41 := ⟨by decide +kernel, rfl⟩
theorem d_M_writable_41 : xd b_M_writable 41 (.iload_n 1) 1 42 := ⟨by decide +kernel, rfl⟩
theorem d_M_writable_42 : xd b_M_writable 42 (.imul) 1 43 := ⟨by decide +kernel, rfl⟩
theorem d_M_writable_43 : xd b_M_writable 43 (.iload_n 2) 1 44 := ⟨by decide +kernel, rfl⟩
theorem d_M_writable_44 : xd b_M_writable 44 (.iadd) 1 45 := ⟨by decide +kernel, rfl⟩
theorem d_M_writable_45 : xd b_M_writable 45 (.baload) 1 46 := ⟨by decide +kernel, rfl⟩
theorem d_M_writable_46 : xb b_M_writable 46 (.ifCond .eq 7) 7 49 53 := ⟨by decide +kernel, rfl, by decide⟩
theorem d_M_writable_49 : xd b_M_writable 49 (.iconst 1) 1 50 := ⟨by decide +kernel, rfl⟩
theorem d_M_writable_50 : xb b_M_writable 50 (.goto 4) 4 53 54 := ⟨by decide +kernel, rfl, by decide⟩
theorem d_M_writable_53 : xd b_M_writable 53 (.iconst 0) 1 54 := ⟨by decide +kernel, rfl⟩
theorem d_M_writable_54 : xd b_M_writable 54 (.ireturn) 1 55 := ⟨by decide +kernel, rfl⟩
theorem d_M_read_0 : xd b_M_read 0 (.aload_n 0) 1 1 := ⟨by decide +kernel, rfl⟩
theorem d_M_read_1 : xd b_M_read 1 (.iload_n 1) 1 2 := ⟨by decide +kernel, rfl⟩
theorem d_M_read_2 : xd b_M_read 2 (.invokevirtual 24) 3 5 := ⟨by decide +kernel, rfl⟩
theorem d_M_read_5 : xb b_M_read 5 (.ifCond .ne 11) 11 8 16 := ⟨by decide +kernel, rfl, by decide⟩
theorem d_M_read_8 : xd b_M_read 8 (.aload_n 0) 1 9 := ⟨by decide +kernel, rfl⟩
theorem d_M_read_9 : xd b_M_read 9 (.iload_n 2) 1 10 := ⟨by decide +kernel, rfl⟩
theorem d_M_read_10 : xd b_M_read 10 (.invokevirtual 40) 3 13 := ⟨by decide +kernel, rfl⟩
theorem d_M_read_13 : xb b_M_read 13 (.ifCond .eq 5) 5 16 18 := ⟨by decide +kernel, rfl, by decide⟩
theorem d_M_read_16 : xd b_M_read 16 (.iconst 0) 1 17 := ⟨by decide +kernel, rfl⟩
theorem d_M_read_17 : xd b_M_read 17 (.ireturn) 1 18 := ⟨by decide +kernel, rfl⟩
theorem d_M_read_18 : xd b_M_read 18 (.aload_n 0) 1 19 := ⟨by decide +kernel, rfl⟩
theorem d_M_read_19 : xd b_M_read 19 (.getfield 7) 3 22 := ⟨by decide +kernel, rfl⟩
theorem d_M_read_22 : xd b_M_read 22 (.bipush 32) 2 24 := ⟨by decide +kernel, rfl⟩
theorem d_M_read_24 : xd b_M_read 24 (.iload_n 1) 1 25 := ⟨by decide +kernel, rfl⟩
theorem d_M_read_25 : xd b_M_read 25 (.imul) 1 26 := ⟨by decide +kernel, rfl⟩
theorem d_M_read_26 : xd b_M_read 26 (.iload_n 2) 1 27 := ⟨by decide +kernel, rfl⟩
theorem d_M_read_27 : xd b_M_read 27 (.iadd) 1 28 := ⟨by decide +kernel, rfl⟩
theorem d_M_read_28 : xd b_M_read 28 (.baload) 1 29 := ⟨by decide +kernel, rfl⟩
theorem d_M_read_29 : xb b_M_read 29 (.ifCond .eq 17) 17 32 46 := ⟨by decide +kernel, rfl, by decide⟩
theorem d_M_read_32 : xd b_M_read 32 (.aload_n 0) 1 33 := ⟨by decide +kernel, rfl⟩
theorem d_M_read_33 : xd b_M_read 33 (.getfield 16) 3 36 := ⟨by decide +kernel, rfl⟩
theorem d_M_read_36 : xd b_M_read 36 (.bipush 32) 2 38 := ⟨by decide +kernel, rfl⟩
theorem d_M_read_38 : xd b_M_read 38 (.iload_n 1) 1 39 := ⟨by decide +kernel, rfl⟩
theorem d_M_read_39 : xd b_M_read 39 (.imul) 1 40 := ⟨by decide +kernel, rfl⟩
theorem d_M_read_40 : xd b_M_read 40 (.iload_n 2) 1 41 := ⟨by decide +kernel, rfl⟩
theorem d_M_read_41 : xd b_M_read 41 (.iadd) 1 42 := ⟨by decide +kernel, rfl⟩
theorem d_M_read_42 : xd b_M_read 42 (.iaload) 1 43 := ⟨by decide +kernel, rfl⟩
theorem d_M_read_43 : xb b_M_read 43 (.goto 4) 4 46 47 := ⟨by decide +kernel, rfl, by decide⟩
theorem d_M_read_46 : xd b_M_read 46 (.iconst 0) 1 47 := ⟨by decide +kernel, rfl⟩
theorem d_M_read_47 : xd b_M_read 47 (.ireturn) 1 48 := ⟨by decide +kernel, rfl⟩
theorem d_M_write_0 : xd b_M_write 0 (.aload_n 0) 1 1 := ⟨by decide +kernel, rfl⟩
theorem d_M_write_1 : xd b_M_write 1 (.iload_n 1) 1 2 := ⟨by decide +kernel, rfl⟩
theorem d_M_write_2 : xd b_M_write 2 (.invokevirtual 24) 3 5 := ⟨by decide +kernel, rfl⟩
theorem d_M_write_5 : xb b_M_write 5 (.ifCond .eq 5) 5 8 10 := ⟨by decide +kernel, rfl, by decide⟩
theorem d_M_write_8 : xd b_M_write 8 (.iconst (-1)) 1 9 := ⟨by decide +kernel, rfl⟩
theorem d_M_write_9 : xd b_M_write 9 (.ireturn) 1 10 := ⟨by decide +kernel, rfl⟩
theorem d_M_write_10 : xd b_M_write 10 (.aload_n 0) 1 11 := ⟨by decide +kernel, rfl⟩
theorem d_M_write_11 : xd b_M_write 11 (.iload_n 2) 1 12 := ⟨by decide +kernel, rfl⟩
theorem d_M_write_12 : xd b_M_write 12 (.invokevirtual 40) 3 15 := ⟨by decide +kernel, rfl⟩
theorem d_M_write_15 : xb b_M_write 15 (.ifCond .eq 6) 6 18 21 := ⟨by decide +kernel, rfl, by decide⟩
theorem d_M_write_18 : xd b_M_write 18 (.bipush (-2)) 2 20 := ⟨by decide +kernel, rfl⟩
theorem d_M_write_20 : xd b_M_write 20 (.ireturn) 1 21 := ⟨by decide +kernel, rfl⟩
theorem d_M_write_21 : xd b_M_write 21 (.bipush 32) 2 23 := ⟨by decide +kernel, rfl⟩
theorem d_M_write_23 : xd b_M_write 23 (.iload_n 1) 1 24 := ⟨by decide +kernel, rfl⟩
theorem d_M_write_24 : xd b_M_write 24 (.imul) 1 25 := ⟨by decide +kernel, rfl⟩
theorem d_M_write_25 : xd b_M_write 25 (.iload_n 2) 1 26 := ⟨by decide +kernel, rfl⟩
theorem d_M_write_26 : xd b_M_write 26 (.iadd) 1 27 := ⟨by decide +kernel, rfl⟩
theorem d_M_write_27 : xd b_M_write 27 (.istore 4) 2 29 := ⟨by decide +kernel, rfl⟩
theorem d_M_write_29 : xd b_M_write 29 (.aload_n 0) 1 30 := ⟨by decide +kernel, rfl⟩
theorem d_M_write_30 : xd b_M_write 30 (.getfield 7) 3 33 := ⟨by decide +kernel, rfl⟩
theorem d_M_write_33 : xd b_M_write 33 (.iload 4) 2 35 := ⟨by decide +kernel, rfl⟩
theorem d_M_write_35 : xd b_M_write 35 (.baload) 1 36 := ⟨by decide +kernel, rfl⟩
theorem d_M_write_36 : xb b_M_write 36 (.ifCond .ne 6) 6 39 42 := ⟨by decide +kernel, rfl, by decide⟩
theorem d_M_write_39 : xd b_M_write 39 (.bipush (-3)) 2 41 := ⟨by decide +kernel, rfl⟩
theorem d_M_write_41 : xd b_M_write 41 (.ireturn) 1 42 := ⟨by decide +kernel, rfl⟩
theorem d_M_write_42 : xd b_M_write 42 (.aload_n 0) 1 43 := ⟨by decide +kernel, rfl⟩
theorem d_M_write_43 : xd b_M_write 43 (.getfield 13) 3 46 := ⟨by decide +kernel, rfl⟩
theorem d_M_write_46 : xd b_M_write 46 (.iload 4) 2 48 := ⟨by decide +kernel, rfl⟩
theorem d_M_write_48 : xd b_M_write 48 (.baload) 1 49 := ⟨by decide +kernel, rfl⟩
theorem d_M_write_49 : xb b_M_write 49 (.ifCond .ne 6) 6 52 55 := ⟨by decide +kernel, rfl, by decide⟩
theorem d_M_write_52 : xd b_M_write 52 (.bipush (-4)) 2 54 := ⟨by decide +kernel, rfl⟩
theorem d_M_write_54 : xd b_M_write 54 (.ireturn) 1 55 := ⟨by decide +kernel, rfl⟩
theorem d_M_write_55 : xd b_M_write 55 (.aload_n 0) 1 56 := ⟨by decide +kernel, rfl⟩
theorem d_M_write_56 : xd b_M_write 56 (.getfield 16) 3 59 := ⟨by decide +kernel, rfl⟩
theorem d_M_write_59 : xd b_M_write 59 (.iload 4) 2 61 := ⟨by decide +kernel, rfl⟩
theorem d_M_write_61 : xd b_M_write 61 (.iload_n 3) 1 62 := ⟨by decide +kernel, rfl⟩
theorem d_M_write_62 : xd b_M_write 62 (.iastore) 1 63 := ⟨by decide +kernel, rfl⟩
theorem d_M_write_63 : xd b_M_write 63 (.iconst 0) 1 64 := ⟨by decide +kernel, rfl⟩
theorem d_M_write_64 : xd b_M_write 64 (.ireturn) 1 65 := ⟨by decide +kernel, rfl⟩
theorem d_M_touch_0 : xd b_M_touch 0 (.aload_n 0) 1 1 := ⟨by decide +kernel, rfl⟩
theorem d_M_touch_1 : xd b_M_touch 1 (.iload_n 1) 1 2 := ⟨by decide +kernel, rfl⟩
theorem d_M_touch_2 : xd b_M_touch 2 (.invokevirtual 24) 3 5 := ⟨by decide +kernel, rfl⟩
theorem d_M_touch_5 : xb b_M_touch 5 (.ifCond .eq 5) 5 8 10 := ⟨by decide +kernel, rfl, by decide⟩
theorem d_M_touch_8 : xd b_M_touch 8 (.iconst (-1)) 1 9 := ⟨by decide +kernel, rfl⟩
theorem d_M_touch_9 : xd b_M_touch 9 (.ireturn) 1 10 := ⟨by decide +kernel, rfl⟩
theorem d_M_touch_10 : xd b_M_touch 10 (.aload_n 0) 1 11 := ⟨by decide +kernel, rfl⟩
theorem d_M_touch_11 : xd b_M_touch 11 (.iload_n 2) 1 12 := ⟨by decide +kernel, rfl⟩
theorem d_M_touch_12 : xd b_M_touch 12 (.invokevirtual 40) 3 15 := ⟨by decide +kernel, rfl⟩
theorem d_M_touch_15 : xb b_M_touch 15 (.ifCond .eq 6) 6 18 21 := ⟨by decide +kernel, rfl, by decide⟩
theorem d_M_touch_18 : xd b_M_touch 18 (.bipush (-2)) 2 20 := ⟨by decide +kernel, rfl⟩
theorem d_M_touch_20 : xd b_M_touch 20 (.ireturn) 1 21 := ⟨by decide +kernel, rfl⟩
theorem d_M_touch_21 : xd b_M_touch 21 (.bipush 32) 2 23 := ⟨by decide +kernel, rfl⟩
theorem d_M_touch_23 : xd b_M_touch 23 (.iload_n 1) 1 24 := ⟨by decide +kernel, rfl⟩
theorem d_M_touch_24 : xd b_M_touch 24 (.imul) 1 25 := ⟨by decide +kernel, rfl⟩
theorem d_M_touch_25 : xd b_M_touch 25 (.iload_n 2) 1 26 := ⟨by decide +kernel, rfl⟩
theorem d_M_touch_26 : xd b_M_touch 26 (.iadd) 1 27 := ⟨by decide +kernel, rfl⟩
theorem d_M_touch_27 : xd b_M_touch 27 (.istore 4) 2 29 := ⟨by decide +kernel, rfl⟩
theorem d_M_touch_29 : xd b_M_touch 29 (.aload_n 0) 1 30 := ⟨by decide +kernel, rfl⟩
theorem d_M_touch_30 : xd b_M_touch 30 (.getfield 7) 3 33 := ⟨by decide +kernel, rfl⟩
theorem d_M_touch_33 : xd b_M_touch 33 (.iload 4) 2 35 := ⟨by decide +kernel, rfl⟩
theorem d_M_touch_35 : xd b_M_touch 35 (.baload) 1 36 := ⟨by decide +kernel, rfl⟩
theorem d_M_touch_36 : xb b_M_touch 36 (.ifCond .ne 26) 26 39 62 := ⟨by decide +kernel, rfl, by decide⟩
theorem d_M_touch_39 : xd b_M_touch 39 (.aload_n 0) 1 40 := ⟨by decide +kernel, rfl⟩
theorem d_M_touch_40 : xd b_M_touch 40 (.invokevirtual 32) 3 43 := ⟨by decide +kernel, rfl⟩
theorem d_M_touch_43 : xd b_M_touch 43 (.aload_n 0) 1 44 := ⟨by decide +kernel, rfl⟩
theorem d_M_touch_44 : xd b_M_touch 44 (.getfield 20) 3 47 := ⟨by decide +kernel, rfl⟩
theorem d_M_touch_47 : xb b_M_touch 47 (.if_icmp .ne 6) 6 50 53 := ⟨by decide +kernel, rfl, by decide⟩
theorem d_M_touch_50 : xd b_M_touch 50 (.bipush (-3)) 2 52 := ⟨by decide +kernel, rfl⟩
theorem d_M_touch_52 : xd b_M_touch 52 (.ireturn) 1 53 := ⟨by decide +kernel, rfl⟩
theorem d_M_touch_53 : xd b_M_touch 53 (.aload_n 0) 1 54 := ⟨by decide +kernel, rfl⟩
theorem d_M_touch_54 : xd b_M_touch 54 (.iload 4) 2 56 := ⟨by decide +kernel, rfl⟩
theorem d_M_touch_56 : xd b_M_touch 56 (.iload_n 3) 1 57 := ⟨by decide +kernel, rfl⟩
theorem d_M_touch_57 : xd b_M_touch 57 (.invokevirtual 36) 3 60 := ⟨by decide +kernel, rfl⟩
theorem d_M_touch_60 : xd b_M_touch 60 (.iconst 1) 1 61 := ⟨by decide +kernel, rfl⟩
theorem d_M_touch_61 : xd b_M_touch 61 (.ireturn) 1 62 := ⟨by decide +kernel, rfl⟩
theorem d_M_touch_62 : xd b_M_touch 62 (.aload_n 0) 1 63 := ⟨by decide +kernel, rfl⟩
theorem d_M_touch_63 : xd b_M_touch 63 (.getfield 13) 3 66 := ⟨by decide +kernel, rfl⟩
theorem d_M_touch_66 : xd b_M_touch 66 (.iload 4) 2 68 := ⟨by decide +kernel, rfl⟩
theorem d_M_touch_68 : xd b_M_touch 68 (.baload) 1 69 := ⟨by decide +kernel, rfl⟩
theorem d_M_touch_69 : xb b_M_touch 69 (.ifCond .ne 6) 6 72 75 := ⟨by decide +kernel, rfl, by decide⟩
theorem d_M_touch_72 : xd b_M_touch 72 (.bipush (-4)) 2 74 := ⟨by decide +kernel, rfl⟩
theorem d_M_touch_74 : xd b_M_touch 74 (.ireturn) 1 75 := ⟨by decide +kernel, rfl⟩
theorem d_M_touch_75 : xd b_M_touch 75 (.aload_n 0) 1 76 := ⟨by decide +kernel, rfl⟩
theorem d_M_touch_76 : xd b_M_touch 76 (.getfield 16) 3 79 := ⟨by decide +kernel, rfl⟩
theorem d_M_touch_79 : xd b_M_touch 79 (.iload 4) 2 81 := ⟨by decide +kernel, rfl⟩
theorem d_M_touch_81 : xd b_M_touch 81 (.iload_n 3) 1 82 := ⟨by decide +kernel, rfl⟩
theorem d_M_touch_82 : xd b_M_touch 82 (.iastore) 1 83 := ⟨by decide +kernel, rfl⟩
theorem d_M_touch_83 : xd b_M_touch 83 (.iconst 0) 1 84 := ⟨by decide +kernel, rfl⟩
theorem d_M_touch_84 : xd b_M_touch 84 (.ireturn) 1 85 := ⟨by decide +kernel, rfl⟩
theorem d_M_stamp_0 : xd b_M_stamp 0 (.aload_n 0) 1 1 := ⟨by decide +kernel, rfl⟩
theorem d_M_stamp_1 : xd b_M_stamp 1 (.iload_n 1) 1 2 := ⟨by decide +kernel, rfl⟩
theorem d_M_stamp_2 : xd b_M_stamp 2 (.invokevirtual 24) 3 5 := ⟨by decide +kernel, rfl⟩
theorem d_M_stamp_5 : xb b_M_stamp 5 (.ifCond .eq 5) 5 8 10 := ⟨by decide +kernel, rfl, by decide⟩
theorem d_M_stamp_8 : xd b_M_stamp 8 (.iconst (-1)) 1 9 := ⟨by decide +kernel, rfl⟩
theorem d_M_stamp_9 : xd b_M_stamp 9 (.ireturn) 1 10 := ⟨by decide +kernel, rfl⟩
theorem d_M_stamp_10 : xd b_M_stamp 10 (.iload_n 2) 1 11 := ⟨by decide +kernel, rfl⟩
theorem d_M_stamp_11 : xb b_M_stamp 11 (.ifCond .ge 6) 6 14 17 := ⟨by decide +kernel, rfl, by decide⟩
theorem d_M_stamp_14 : xd b_M_stamp 14 (.bipush (-2)) 2 16 := ⟨by decide +kernel, rfl⟩
theorem d_M_stamp_16 : xd b_M_stamp 16 (.ireturn) 1 17 := ⟨by decide +kernel, rfl⟩
theorem d_M_stamp_17 : xd b_M_stamp 17 (.iload_n 2) 1 18 := ⟨by decide +kernel, rfl⟩
theorem d_M_stamp_18 : xd b_M_stamp 18 (.bipush 64) 2 20 := ⟨by decide +kernel, rfl⟩
theorem d_M_stamp_20 : xd b_M_stamp 20 (.idiv) 1 21 := ⟨by decide +kernel, rfl⟩
theorem d_M_stamp_21 : xd b_M_stamp 21 (.istore 4) 2 23 := ⟨by decide +kernel, rfl⟩
theorem d_M_stamp_23 : xd b_M_stamp 23 (.iload_n 2) 1 24 := ⟨by decide +kernel, rfl⟩
theorem d_M_stamp_24 : xd b_M_stamp 24 (.bipush 64) 2 26 := ⟨by decide +kernel, rfl⟩
theorem d_M_stamp_26 : xd b_M_stamp 26 (.irem) 1 27 := ⟨by decide +kernel, rfl⟩
theorem d_M_stamp_27 : xd b_M_stamp 27 (.istore 5) 2 29 := ⟨by decide +kernel, rfl⟩
theorem d_M_stamp_29 : xd b_M_stamp 29 (.aload_n 0) 1 30 := ⟨by decide +kernel, rfl⟩
theorem d_M_stamp_30 : xd b_M_stamp 30 (.iload 4) 2 32 := ⟨by decide +kernel, rfl⟩
theorem d_M_stamp_32 : xd b_M_stamp 32 (.iload 5) 2 34 := ⟨by decide +kernel, rfl⟩
theorem d_M_stamp_34 : xd b_M_stamp 34 (.invokevirtual 28) 3 37 := ⟨by decide +kernel, rfl⟩
theorem d_M_stamp_37 : xb b_M_stamp 37 (.ifCond .eq 6) 6 40 43 := ⟨by decide +kernel, rfl, by decide⟩
theorem d_M_stamp_40 : xd b_M_stamp 40 (.bipush (-2)) 2 42 := ⟨by decide +kernel, rfl⟩
theorem d_M_stamp_42 : xd b_M_stamp 42 (.ireturn) 1 43 := ⟨by decide +kernel, rfl⟩
theorem d_M_stamp_43 : xd b_M_stamp 43 (.iconst 0) 1 44 := ⟨by decide +kernel, rfl⟩
theorem d_M_stamp_44 : xd b_M_stamp 44 (.istore 6) 2 46 := ⟨by decide +kernel, rfl⟩
theorem d_M_stamp_46 : xd b_M_stamp 46 (.iload 4) 2 48 := ⟨by decide +kernel, rfl⟩
theorem d_M_stamp_48 : xd b_M_stamp 48 (.istore 7) 2 50 := ⟨by decide +kernel, rfl⟩
theorem d_M_stamp_50 : xd b_M_stamp 50 (.iload 7) 2 52 := ⟨by decide +kernel, rfl⟩
theorem d_M_stamp_52 : xd b_M_stamp 52 (.iload 4) 2 54 := ⟨by decide +kernel, rfl⟩
theorem d_M_stamp_54 : xd b_M_stamp 54 (.iload 5) 2 56 := ⟨by decide +kernel, rfl⟩
theorem d_M_stamp_56 : xd b_M_stamp 56 (.iadd) 1 57 := ⟨by decide +kernel, rfl⟩
theorem d_M_stamp_57 : xb b_M_stamp 57 (.if_icmp .ge 42) 42 60 99 := ⟨by decide +kernel, rfl, by decide⟩
theorem d_M_stamp_60 : xd b_M_stamp 60 (.bipush 32) 2 62 := ⟨by decide +kernel, rfl⟩
theorem d_M_stamp_62 : xd b_M_stamp 62 (.iload_n 1) 1 63 := ⟨by decide +kernel, rfl⟩
theorem d_M_stamp_63 : xd b_M_stamp 63 (.imul) 1 64 := ⟨by decide +kernel, rfl⟩
theorem d_M_stamp_64 : xd b_M_stamp 64 (.iload 7) 2 66 := ⟨by decide +kernel, rfl⟩
theorem d_M_stamp_66 : xd b_M_stamp 66 (.iadd) 1 67 := ⟨by decide +kernel, rfl⟩
theorem d_M_stamp_67 : xd b_M_stamp 67 (.istore 8) 2 69 := ⟨by decide +kernel, rfl⟩
theorem d_M_stamp_69 : xd b_M_stamp 69 (.aload_n 0) 1 70 := ⟨by decide +kernel, rfl⟩
theorem d_M_stamp_70 : xd b_M_stamp 70 (.getfield 7) 3 73 := ⟨by decide +kernel, rfl⟩
theorem d_M_stamp_73 : xd b_M_stamp 73 (.iload 8) 2 75 := ⟨by decide +kernel, rfl⟩
theorem d_M_stamp_75 : xd b_M_stamp 75 (.baload) 1 76 := ⟨by decide +kernel, rfl⟩
theorem d_M_stamp_76 : xb b_M_stamp 76 (.ifCond .eq 17) 17 79 93 := ⟨by decide +kernel, rfl, by decide⟩
theorem d_M_stamp_79 : xd b_M_stamp 79 (.aload_n 0) 1 80 := ⟨by decide +kernel, rfl⟩
theorem d_M_stamp_80 : xd b_M_stamp 80 (.getfield 16) 3 83 := ⟨by decide +kernel, rfl⟩
theorem d_M_stamp_83 : xd b_M_stamp 83 (.iload 8) 2 85 := ⟨by decide +kernel, rfl⟩
theorem d_M_stamp_85 : xd b_M_stamp 85 (.iload_n 3) 1 86 := ⟨by decide +kernel, rfl⟩
theorem d_M_stamp_86 : xd b_M_stamp 86 (.iload 6) 2 88 := ⟨by decide +kernel, rfl⟩
theorem d_M_stamp_88 : xd b_M_stamp 88 (.iadd) 1 89 := ⟨by decide +kernel, rfl⟩
theorem d_M_stamp_89 : xd b_M_stamp 89 (.iastore) 1 90 := ⟨by decide +kernel, rfl⟩
theorem d_M_stamp_90 : xd b_M_stamp 90 (.iinc 6 1) 3 93 := ⟨by decide +kernel, rfl⟩
theorem d_M_stamp_93 : xd b_M_stamp 93 (.iinc 7 1) 3 96 := ⟨by decide +kernel, rfl⟩
theorem d_M_stamp_96 : xb b_M_stamp 96 (.goto (-46)) (-46) 99 50 := ⟨by decide +kernel, rfl, by decide⟩
theorem d_M_stamp_99 : xd b_M_stamp 99 (.iload 6) 2 101 := ⟨by decide +kernel, rfl⟩
theorem d_M_stamp_101 : xd b_M_stamp 101 (.ireturn) 1 102 := ⟨by decide +kernel, rfl⟩
theorem d_M_copy_0 : xd b_M_copy 0 (.aload_n 0) 1 1 := ⟨by decide +kernel, rfl⟩
theorem d_M_copy_1 : xd b_M_copy 1 (.getfield 7) 3 4 := ⟨by decide +kernel, rfl⟩
theorem d_M_copy_4 : xd b_M_copy 4 (.iload_n 2) 1 5 := ⟨by decide +kernel, rfl⟩
theorem d_M_copy_5 : xd b_M_copy 5 (.aload_n 0) 1 6 := ⟨by decide +kernel, rfl⟩
theorem d_M_copy_6 : xd b_M_copy 6 (.getfield 7) 3 9 := ⟨by decide +kernel, rfl⟩
theorem d_M_copy_9 : xd b_M_copy 9 (.iload_n 1) 1 10 := ⟨by decide +kernel, rfl⟩
theorem d_M_copy_10 : xd b_M_copy 10 (.baload) 1 11 := ⟨by decide +kernel, rfl⟩
theorem d_M_copy_11 : xd b_M_copy 11 (.bastore) 1 12 := ⟨by decide +kernel, rfl⟩
theorem d_M_copy_12 : xd b_M_copy 12 (.aload_n 0) 1 13 := ⟨by decide +kernel, rfl⟩
theorem d_M_copy_13 : xd b_M_copy 13 (.getfield 13) 3 16 := ⟨by decide +kernel, rfl⟩
theorem d_M_copy_16 : xd b_M_copy 16 (.iload_n 2) 1 17 := ⟨by decide +kernel, rfl⟩
theorem d_M_copy_17 : xd b_M_copy 17 (.aload_n 0) 1 18 := ⟨by decide +kernel, rfl⟩
theorem d_M_copy_18 : xd b_M_copy 18 (.getfield 13) 3 21 := ⟨by decide +kernel, rfl⟩
theorem d_M_copy_21 : xd b_M_copy 21 (.iload_n 1) 1 22 := ⟨by decide +kernel, rfl⟩
theorem d_M_copy_22 : xd b_M_copy 22 (.baload) 1 23 := ⟨by decide +kernel, rfl⟩
theorem d_M_copy_23 : xd b_M_copy 23 (.bastore) 1 24 := ⟨by decide +kernel, rfl⟩
theorem d_M_copy_24 : xd b_M_copy 24 (.aload_n 0) 1 25 := ⟨by decide +kernel, rfl⟩
theorem d_M_copy_25 : xd b_M_copy 25 (.getfield 16) 3 28 := ⟨by decide +kernel, rfl⟩
theorem d_M_copy_28 : xd b_M_copy 28 (.iload_n 2) 1 29 := ⟨by decide +kernel, rfl⟩
theorem d_M_copy_29 : xd b_M_copy 29 (.aload_n 0) 1 30 := ⟨by decide +kernel, rfl⟩
theorem d_M_copy_30 : xd b_M_copy 30 (.getfield 16) 3 33 := ⟨by decide +kernel, rfl⟩
theorem d_M_copy_33 : xd b_M_copy 33 (.iload_n 1) 1 34 := ⟨by decide +kernel, rfl⟩
theorem d_M_copy_34 : xd b_M_copy 34 (.iaload) 1 35 := ⟨by decide +kernel, rfl⟩
theorem d_M_copy_35 : xd b_M_copy 35 (.iastore) 1 36 := ⟨by decide +kernel, rfl⟩
theorem d_M_copy_36 : xd b_M_copy 36 (.return_) 1 37 := ⟨by decide +kernel, rfl⟩
theorem d_M_remap_0 : xd b_M_remap 0 (.aload_n 0) 1 1 := ⟨by decide +kernel, rfl⟩
theorem d_M_remap_1 : xd b_M_remap 1 (.iload_n 1) 1 2 := ⟨by decide +kernel, rfl⟩
theorem d_M_remap_2 : xd b_M_remap 2 (.invokevirtual 24) 3 5 := ⟨by decide +kernel, rfl⟩
theorem d_M_remap_5 : xb b_M_remap 5 (.ifCond .eq 5) 5 8 10 := ⟨by decide +kernel, rfl, by decide⟩
theorem d_M_remap_8 : xd b_M_remap 8 (.iconst (-1)) 1 9 := ⟨by decide +kernel, rfl⟩
theorem d_M_remap_9 : xd b_M_remap 9 (.ireturn) 1 10 := ⟨by decide +kernel, rfl⟩
theorem d_M_remap_10 : xd b_M_remap 10 (.aload_n 0) 1 11 := ⟨by decide +kernel, rfl⟩
theorem d_M_remap_11 : xd b_M_remap 11 (.iload_n 2) 1 12 := ⟨by decide +kernel, rfl⟩
theorem d_M_remap_12 : xd b_M_remap 12 (.invokevirtual 40) 3 15 := ⟨by decide +kernel, rfl⟩
theorem d_M_remap_15 : xb b_M_remap 15 (.ifCond .ne 11) 11 18 26 := ⟨by decide +kernel, rfl, by decide⟩
theorem d_M_remap_18 : xd b_M_remap 18 (.aload_n 0) 1 19 := ⟨by decide +kernel, rfl⟩
theorem d_M_remap_19 : xd b_M_remap 19 (.iload_n 3) 1 20 := ⟨by decide +kernel, rfl⟩
theorem d_M_remap_20 : xd b_M_remap 20 (.invokevirtual 40) 3 23 := ⟨by decide +kernel, rfl⟩
theorem d_M_remap_23 : xb b_M_remap 23 (.ifCond .eq 6) 6 26 29 := ⟨by decide +kernel, rfl, by decide⟩
theorem d_M_remap_26 : xd b_M_remap 26 (.bipush (-2)) 2 28 := ⟨by decide +kernel, rfl⟩
theorem d_M_remap_28 : xd b_M_remap 28 (.ireturn) 1 29 := ⟨by decide +kernel, rfl⟩
theorem d_M_remap_29 : xd b_M_remap 29 (.aload_n 0) 1 30 := ⟨by decide +kernel, rfl⟩
theorem d_M_remap_30 : xd b_M_remap 30 (.getfield 7) 3 33 := ⟨by decide +kernel, rfl⟩
theorem d_M_remap_33 : xd b_M_remap 33 (.bipush 32) 2 35 := ⟨by decide +kernel, rfl⟩
theorem d_M_remap_35 : xd b_M_remap 35 (.iload_n 1) 1 36 := ⟨by decide +kernel, rfl⟩
theorem d_M_remap_36 : xd b_M_remap 36 (.imul) 1 37 := ⟨by decide +kernel, rfl⟩
theorem d_M_remap_37 : xd b_M_remap 37 (.iload_n 2) 1 38 := ⟨by decide +kernel, rfl⟩
theorem d_M_remap_38 : xd b_M_remap 38 (.iadd) 1 39 := ⟨by decide +kernel, rfl⟩
theorem d_M_remap_39 : xd b_M_remap 39 (.baload) 1 40 := ⟨by decide +kernel, rfl⟩
theorem d_M_remap_40 : xb b_M_remap 40 (.ifCond .ne 6) 6 43 46 := ⟨by decide +kernel, rfl, by decide⟩
theorem d_M_remap_43 : xd b_M_remap 43 (.bipush (-3)) 2 45 := ⟨by decide +kernel, rfl⟩
theorem d_M_remap_45 : xd b_M_remap 45 (.ireturn) 1 46 := ⟨by decide +kernel, rfl⟩
theorem d_M_remap_46 : xd b_M_remap 46 (.aload_n 0) 1 47 := ⟨by decide +kernel, rfl⟩
theorem d_M_remap_47 : xd b_M_remap 47 (.getfield 7) 3 50 := ⟨by decide +kernel, rfl⟩
theorem d_M_remap_50 : xd b_M_remap 50 (.bipush 32) 2 52 := ⟨by decide +kernel, rfl⟩
theorem d_M_remap_52 : xd b_M_remap 52 (.iload_n 1) 1 53 := ⟨by decide +kernel, rfl⟩
theorem d_M_remap_53 : xd b_M_remap 53 (.imul) 1 54 := ⟨by decide +kernel, rfl⟩
theorem d_M_remap_54 : xd b_M_remap 54 (.iload_n 3) 1 55 := ⟨by decide +kernel, rfl⟩
theorem d_M_remap_55 : xd b_M_remap 55 (.iadd) 1 56 := ⟨by decide +kernel, rfl⟩
theorem d_M_remap_56 : xd b_M_remap 56 (.baload) 1 57 := ⟨by decide +kernel, rfl⟩
theorem d_M_remap_57 : xb b_M_remap 57 (.ifCond .eq 6) 6 60 63 := ⟨by decide +kernel, rfl, by decide⟩
theorem d_M_remap_60 : xd b_M_remap 60 (.bipush (-4)) 2 62 := ⟨by decide +kernel, rfl⟩
theorem d_M_remap_62 : xd b_M_remap 62 (.ireturn) 1 63 := ⟨by decide +kernel, rfl⟩
theorem d_M_remap_63 : xd b_M_remap 63 (.aload_n 0) 1 64 := ⟨by decide +kernel, rfl⟩
theorem d_M_remap_64 : xd b_M_remap 64 (.bipush 32) 2 66 := ⟨by decide +kernel, rfl⟩
theorem d_M_remap_66 : xd b_M_remap 66 (.iload_n 1) 1 67 := ⟨by decide +kernel, rfl⟩
theorem d_M_remap_67 : xd b_M_remap 67 (.imul) 1 68 := ⟨by decide +kernel, rfl⟩
theorem d_M_remap_68 : xd b_M_remap 68 (.iload_n 2) 1 69 := ⟨by decide +kernel, rfl⟩
theorem d_M_remap_69 : xd b_M_remap 69 (.iadd) 1 70 := ⟨by decide +kernel, rfl⟩
theorem d_M_remap_70 : xd b_M_remap 70 (.bipush 32) 2 72 := ⟨by decide +kernel, rfl⟩
theorem d_M_remap_72 : xd b_M_remap 72 (.iload_n 1) 1 73 := ⟨by decide +kernel, rfl⟩
theorem d_M_remap_73 : xd b_M_remap 73 (.imul) 1 74 := ⟨by decide +kernel, rfl⟩
theorem d_M_remap_74 : xd b_M_remap 74 (.iload_n 3) 1 75 := ⟨by decide +kernel, rfl⟩
theorem d_M_remap_75 : xd b_M_remap 75 (.iadd) 1 76 := ⟨by decide +kernel, rfl⟩
theorem d_M_remap_76 : xd b_M_remap 76 (.invokevirtual 43) 3 79 := ⟨by decide +kernel, rfl⟩
theorem d_M_remap_79 : xd b_M_remap 79 (.aload_n 0) 1 80 := ⟨by decide +kernel, rfl⟩
theorem d_M_remap_80 : xd b_M_remap 80 (.getfield 7) 3 83 := ⟨by decide +kernel, rfl⟩
theorem d_M_remap_83 : xd b_M_remap 83 (.bipush 32) 2 85 := ⟨by decide +kernel, rfl⟩
theorem d_M_remap_85 : xd b_M_remap 85 (.iload_n 1) 1 86 := ⟨by decide +kernel, rfl⟩
theorem d_M_remap_86 : xd b_M_remap 86 (.imul) 1 87 := ⟨by decide +kernel, rfl⟩
theorem d_M_remap_87 : xd b_M_remap 87 (.iload_n 2) 1 88 := ⟨by decide +kernel, rfl⟩
theorem d_M_remap_88 : xd b_M_remap 88 (.iadd) 1 89 := ⟨by decide +kernel, rfl⟩
theorem d_M_remap_89 : xd b_M_remap 89 (.iconst 0) 1 90 := ⟨by decide +kernel, rfl⟩
theorem d_M_remap_90 : xd b_M_remap 90 (.bastore) 1 91 := ⟨by decide +kernel, rfl⟩
theorem d_M_remap_91 : xd b_M_remap 91 (.iconst 0) 1 92 := ⟨by decide +kernel, rfl⟩
theorem d_M_remap_92 : xd b_M_remap 92 (.ireturn) 1 93 := ⟨by decide +kernel, rfl⟩
theorem d_M_duplicate_0 : xd b_M_duplicate 0 (.aload_n 0) 1 1 := ⟨by decide +kernel, rfl⟩
theorem d_M_duplicate_1 : xd b_M_duplicate 1 (.iload_n 1) 1 2 := ⟨by decide +kernel, rfl⟩
theorem d_M_duplicate_2 : xd b_M_duplicate 2 (.invokevirtual 24) 3 5 := ⟨by decide +kernel, rfl⟩
theorem d_M_duplicate_5 : xb b_M_duplicate 5 (.ifCond .eq 5) 5 8 10 := ⟨by decide +kernel, rfl, by decide⟩
theorem d_M_duplicate_8 : xd b_M_duplicate 8 (.iconst (-1)) 1 9 := ⟨by decide +kernel, rfl⟩
theorem d_M_duplicate_9 : xd b_M_duplicate 9 (.ireturn) 1 10 := ⟨by decide +kernel, rfl⟩
theorem d_M_duplicate_10 : xd b_M_duplicate 10 (.aload_n 0) 1 11 := ⟨by decide +kernel, rfl⟩
theorem d_M_duplicate_11 : xd b_M_duplicate 11 (.iload_n 2) 1 12 := ⟨by decide +kernel, rfl⟩
theorem d_M_duplicate_12 : xd b_M_duplicate 12 (.invokevirtual 40) 3 15 := ⟨by decide +kernel, rfl⟩
theorem d_M_duplicate_15 : xb b_M_duplicate 15 (.ifCond .eq 6) 6 18 21 := ⟨by decide +kernel, rfl, by decide⟩
theorem d_M_duplicate_18 : xd b_M_duplicate 18 (.bipush (-2)) 2 20 := ⟨by decide +kernel, rfl⟩
theorem d_M_duplicate_20 : xd b_M_duplicate 20 (.ireturn) 1 21 := ⟨by decide +kernel, rfl⟩
theorem d_M_duplicate_21 : xd b_M_duplicate 21 (.aload_n 0) 1 22 := ⟨by decide +kernel, rfl⟩
theorem d_M_duplicate_22 : xd b_M_duplicate 22 (.getfield 7) 3 25 := ⟨by decide +kernel, rfl⟩
theorem d_M_duplicate_25 : xd b_M_duplicate 25 (.bipush 32) 2 27 := ⟨by decide +kernel, rfl⟩
theorem d_M_duplicate_27 : xd b_M_duplicate 27 (.iload_n 1) 1 28 := ⟨by decide +kernel, rfl⟩
theorem d_M_duplicate_28 : xd b_M_duplicate 28 (.imul) 1 29 := ⟨by decide +kernel, rfl⟩
theorem d_M_duplicate_29 : xd b_M_duplicate 29 (.iload_n 2) 1 30 := ⟨by decide +kernel, rfl⟩
theorem d_M_duplicate_30 : xd b_M_duplicate 30 (.iadd) 1 31 := ⟨by decide +kernel, rfl⟩
theorem d_M_duplicate_31 : xd b_M_duplicate 31 (.baload) 1 32 := ⟨by decide +kernel, rfl⟩
theorem d_M_duplicate_32 : xb b_M_duplicate 32 (.ifCond .ne 6) 6 35 38 := ⟨by decide +kernel, rfl, by decide⟩
theorem d_M_duplicate_35 : xd b_M_duplicate 35 (.bipush (-3)) 2 37 := ⟨by decide +kernel, rfl⟩
theorem d_M_duplicate_37 : xd b_M_duplicate 37 (.ireturn) 1 38 := ⟨by decide +kernel, rfl⟩
theorem d_M_duplicate_38 : xd b_M_duplicate 38 (.aload_n 0) 1 39 := ⟨by decide +kernel, rfl⟩
theorem d_M_duplicate_39 : xd b_M_duplicate 39 (.getfield 7) 3 42 := ⟨by decide +kernel, rfl⟩
theorem d_M_duplicate_42 : xd b_M_duplicate 42 (.bipush 32) 2 44 := ⟨by decide +kernel, rfl⟩
theorem d_M_duplicate_44 : xd b_M_duplicate 44 (.iconst 1) 1 45 := ⟨by decide +kernel, rfl⟩
theorem d_M_duplicate_45 : xd b_M_duplicate 45 (.iload_n 1) 1 46 := ⟨by decide +kernel, rfl⟩
theorem d_M_duplicate_46 : xd b_M_duplicate 46 (.isub) 1 47 := ⟨by decide +kernel, rfl⟩
theorem d_M_duplicate_47 : xd b_M_duplicate 47 (.imul) 1 48 := ⟨by decide +kernel, rfl⟩
theorem d_M_duplicate_48 : xd b_M_duplicate 48 (.iload_n 2) 1 49 := ⟨by decide +kernel, rfl⟩
theorem d_M_duplicate_49 : xd b_M_duplicate 49 (.iadd) 1 50 := ⟨by decide +kernel, rfl⟩
theorem d_M_duplicate_50 : xd b_M_duplicate 50 (.baload) 1 51 := ⟨by decide +kernel, rfl⟩
theorem d_M_duplicate_51 : xb b_M_duplicate 51 (.ifCond .eq 6) 6 54 57 := ⟨by decide +kernel, rfl, by decide⟩
theorem d_M_duplicate_54 : xd b_M_duplicate 54 (.bipush (-4)) 2 56 := ⟨by decide +kernel, rfl⟩
theorem d_M_duplicate_56 : xd b_M_duplicate 56 (.ireturn) 1 57 := ⟨by decide +kernel, rfl⟩
theorem d_M_duplicate_57 : xd b_M_duplicate 57 (.aload_n 0) 1 58 := ⟨by decide +kernel, rfl⟩
theorem d_M_duplicate_58 : xd b_M_duplicate 58 (.invokevirtual 32) 3 61 := ⟨by decide +kernel, rfl⟩
theorem d_M_duplicate_61 : xd b_M_duplicate 61 (.aload_n 0) 1 62 := ⟨by decide +kernel, rfl⟩
theorem d_M_duplicate_62 : xd b_M_duplicate 62 (.getfield 20) 3 65 := ⟨by decide +kernel, rfl⟩
theorem d_M_duplicate_65 : xb b_M_duplicate 65 (.if_icmp .ne 6) 6 68 71 := ⟨by decide +kernel, rfl, by decide⟩
theorem d_M_duplicate_68 : xd b_M_duplicate 68 (.bipush (-5)) 2 70 := ⟨by decide +kernel, rfl⟩
theorem d_M_duplicate_70 : xd b_M_duplicate 70 (.ireturn) 1 71 := ⟨by decide +kernel, rfl⟩
theorem d_M_duplicate_71 : xd b_M_duplicate 71 (.aload_n 0) 1 72 := ⟨by decide +kernel, rfl⟩
theorem d_M_duplicate_72 : xd b_M_duplicate 72 (.bipush 32) 2 74 := ⟨by decide +kernel, rfl⟩
theorem d_M_duplicate_74 : xd b_M_duplicate 74 (.iload_n 1) 1 75 := ⟨by decide +kernel, rfl⟩
theorem d_M_duplicate_75 : xd b_M_duplicate 75 (.imul) 1 76 := ⟨by decide +kernel, rfl⟩
theorem d_M_duplicate_76 : xd b_M_duplicate 76 (.iload_n 2) 1 77 := ⟨by decide +kernel, rfl⟩
theorem d_M_duplicate_77 : xd b_M_duplicate 77 (.iadd) 1 78 := ⟨by decide +kernel, rfl⟩
theorem d_M_duplicate_78 : xd b_M_duplicate 78 (.bipush 32) 2 80 := ⟨by decide +kernel, rfl⟩
theorem d_M_duplicate_80 : xd b_M_duplicate 80 (.iconst 1) 1 81 := ⟨by decide +kernel, rfl⟩
theorem d_M_duplicate_81 : xd b_M_duplicate 81 (.iload_n 1) 1 82 := ⟨by decide +kernel, rfl⟩
theorem d_M_duplicate_82 : xd b_M_duplicate 82 (.isub) 1 83 := ⟨by decide +kernel, rfl⟩
theorem d_M_duplicate_83 : xd b_M_duplicate 83 (.imul) 1 84 := ⟨by decide +kernel, rfl⟩
theorem d_M_duplicate_84 : xd b_M_duplicate 84 (.iload_n 2) 1 85 := ⟨by decide +kernel, rfl⟩
theorem d_M_duplicate_85 : xd b_M_duplicate 85 (.iadd) 1 86 := ⟨by decide +kernel, rfl⟩
theorem d_M_duplicate_86 : xd b_M_duplicate 86 (.invokevirtual 43) 3 89 := ⟨by decide +kernel, rfl⟩
theorem d_M_duplicate_89 : xd b_M_duplicate 89 (.iconst 0) 1 90 := ⟨by decide +kernel, rfl⟩
theorem d_M_duplicate_90 : xd b_M_duplicate 90 (.ireturn) 1 91 := ⟨by decide +kernel, rfl⟩
theorem d_M_exchange_0 : xd b_M_exchange 0 (.aload_n 0) 1 1 := ⟨by decide +kernel, rfl⟩
theorem d_M_exchange_1 : xd b_M_exchange 1 (.iload_n 1) 1 2 := ⟨by decide +kernel, rfl⟩
theorem d_M_exchange_2 : xd b_M_exchange 2 (.invokevirtual 40) 3 5 := ⟨by decide +kernel, rfl⟩
theorem d_M_exchange_5 : xb b_M_exchange 5 (.ifCond .eq 5) 5 8 10 := ⟨by decide +kernel, rfl, by decide⟩
theorem d_M_exchange_8 : xd b_M_exchange 8 (.iconst (-1)) 1 9 := ⟨by decide +kernel, rfl⟩
theorem d_M_exchange_9 : xd b_M_exchange 9 (.ireturn) 1 10 := ⟨by decide +kernel, rfl⟩
theorem d_M_exchange_10 : xd b_M_exchange 10 (.aload_n 0) 1 11 := ⟨by decide +kernel, rfl⟩
theorem d_M_exchange_11 : xd b_M_exchange 11 (.getfield 7) 3 14 := ⟨by decide +kernel, rfl⟩
theorem d_M_exchange_14 : xd b_M_exchange 14 (.iload_n 1) 1 15 := ⟨by decide +kernel, rfl⟩
theorem d_M_exchange_15 : xd b_M_exchange 15 (.baload) 1 16 := ⟨by decide +kernel, rfl⟩
theorem d_M_exchange_16 : xd b_M_exchange 16 (.istore_n 2) 1 17 := ⟨by decide +kernel, rfl⟩
theorem d_M_exchange_17 : xd b_M_exchange 17 (.aload_n 0) 1 18 := ⟨by decide +kernel, rfl⟩
theorem d_M_exchange_18 : xd b_M_exchange 18 (.getfield 13) 3 21 := ⟨by decide +kernel, rfl⟩
theorem d_M_exchange_21 : xd b_M_exchange 21 (.iload_n 1) 1 22 := ⟨by decide +kernel, rfl⟩
theorem d_M_exchange_22 : xd b_M_exchange 22 (.baload) 1 23 := ⟨by decide +kernel, rfl⟩
theorem d_M_exchange_23 : xd b_M_exchange 23 (.istore_n 3) 1 24 := ⟨by decide +kernel, rfl⟩
theorem d_M_exchange_24 : xd b_M_exchange 24 (.aload_n 0) 1 25 := ⟨by decide +kernel, rfl⟩
theorem d_M_exchange_25 : xd b_M_exchange 25 (.getfield 16) 3 28 := ⟨by decide +kernel, rfl⟩
theorem d_M_exchange_28 : xd b_M_exchange 28 (.iload_n 1) 1 29 := ⟨by decide +kernel, rfl⟩
theorem d_M_exchange_29 : xd b_M_exchange 29 (.iaload) 1 30 := ⟨by decide +kernel, rfl⟩
theorem d_M_exchange_30 : xd b_M_exchange 30 (.istore 4) 2 32 := ⟨by decide +kernel, rfl⟩
theorem d_M_exchange_32 : xd b_M_exchange 32 (.aload_n 0) 1 33 := ⟨by decide +kernel, rfl⟩
theorem d_M_exchange_33 : xd b_M_exchange 33 (.bipush 32) 2 35 := ⟨by decide +kernel, rfl⟩
theorem d_M_exchange_35 : xd b_M_exchange 35 (.iload_n 1) 1 36 := ⟨by decide +kernel, rfl⟩
theorem d_M_exchange_36 : xd b_M_exchange 36 (.iadd) 1 37 := ⟨by decide +kernel, rfl⟩
theorem d_M_exchange_37 : xd b_M_exchange 37 (.iload_n 1) 1 38 := ⟨by decide +kernel, rfl⟩
theorem d_M_exchange_38 : xd b_M_exchange 38 (.invokevirtual 43) 3 41 := ⟨by decide +kernel, rfl⟩
theorem d_M_exchange_41 : xd b_M_exchange 41 (.aload_n 0) 1 42 := ⟨by decide +kernel, rfl⟩
theorem d_M_exchange_42 : xd b_M_exchange 42 (.getfield 7) 3 45 := ⟨by decide +kernel, rfl⟩
theorem d_M_exchange_45 : xd b_M_exchange 45 (.bipush 32) 2 47 := ⟨by decide +kernel, rfl⟩
theorem d_M_exchange_47 : xd b_M_exchange 47 (.iload_n 1) 1 48 := ⟨by decide +kernel, rfl⟩
theorem d_M_exchange_48 : xd b_M_exchange 48 (.iadd) 1 49 := ⟨by decide +kernel, rfl⟩
theorem d_M_exchange_49 : xd b_M_exchange 49 (.iload_n 2) 1 50 := ⟨by decide +kernel, rfl⟩
theorem d_M_exchange_50 : xd b_M_exchange 50 (.bastore) 1 51 := ⟨by decide +kernel, rfl⟩
theorem d_M_exchange_51 : xd b_M_exchange 51 (.aload_n 0) 1 52 := ⟨by decide +kernel, rfl⟩
theorem d_M_exchange_52 : xd b_M_exchange 52 (.getfield 13) 3 55 := ⟨by decide +kernel, rfl⟩
theorem d_M_exchange_55 : xd b_M_exchange 55 (.bipush 32) 2 57 := ⟨by decide +kernel, rfl⟩
theorem d_M_exchange_57 : xd b_M_exchange 57 (.iload_n 1) 1 58 := ⟨by decide +kernel, rfl⟩
theorem d_M_exchange_58 : xd b_M_exchange 58 (.iadd) 1 59 := ⟨by decide +kernel, rfl⟩
theorem d_M_exchange_59 : xd b_M_exchange 59 (.iload_n 3) 1 60 := ⟨by decide +kernel, rfl⟩
theorem d_M_exchange_60 : xd b_M_exchange 60 (.bastore) 1 61 := ⟨by decide +kernel, rfl⟩
theorem d_M_exchange_61 : xd b_M_exchange 61 (.aload_n 0) 1 62 := ⟨by decide +kernel, rfl⟩
theorem d_M_exchange_62 : xd b_M_exchange 62 (.getfield 16) 3 65 := ⟨by decide +kernel, rfl⟩
theorem d_M_exchange_65 : xd b_M_exchange 65 (.bipush 32) 2 67 := ⟨by decide +kernel, rfl⟩
theorem d_M_exchange_67 : xd b_M_exchange 67 (.iload_n 1) 1 68 := ⟨by decide +kernel, rfl⟩
theorem d_M_exchange_68 : xd b_M_exchange 68 (.iadd) 1 69 := ⟨by decide +kernel, rfl⟩
theorem d_M_exchange_69 : xd b_M_exchange 69 (.iload 4) 2 71 := ⟨by decide +kernel, rfl⟩
theorem d_M_exchange_71 : xd b_M_exchange 71 (.iastore) 1 72 := ⟨by decide +kernel, rfl⟩
theorem d_M_exchange_72 : xd b_M_exchange 72 (.iconst 0) 1 73 := ⟨by decide +kernel, rfl⟩
theorem d_M_exchange_73 : xd b_M_exchange 73 (.ireturn) 1 74 := ⟨by decide +kernel, rfl⟩
theorem d_M_sum_0 : xd b_M_sum 0 (.aload_n 0) 1 1 := ⟨by decide +kernel, rfl⟩
theorem d_M_sum_1 : xd b_M_sum 1 (.iload_n 1) 1 2 := ⟨by decide +kernel, rfl⟩
theorem d_M_sum_2 : xd b_M_sum 2 (.invokevirtual 24) 3 5 := ⟨by decide +kernel, rfl⟩
theorem d_M_sum_5 : xb b_M_sum 5 (.ifCond .eq 5) 5 8 10 := ⟨by decide +kernel, rfl, by decide⟩
theorem d_M_sum_8 : xd b_M_sum 8 (.iconst 0) 1 9 := ⟨by decide +kernel, rfl⟩
theorem d_M_sum_9 : xd b_M_sum 9 (.ireturn) 1 10 := ⟨by decide +kernel, rfl⟩
theorem d_M_sum_10 : xd b_M_sum 10 (.iconst 0) 1 11 := ⟨by decide +kernel, rfl⟩
theorem d_M_sum_11 : xd b_M_sum 11 (.istore_n 2) 1 12 := ⟨by decide +kernel, rfl⟩
theorem d_M_sum_12 : xd b_M_sum 12 (.iconst 0) 1 13 := ⟨by decide +kernel, rfl⟩
theorem d_M_sum_13 : xd b_M_sum 13 (.istore_n 3) 1 14 := ⟨by decide +kernel, rfl⟩
theorem d_M_sum_14 : xd b_M_sum 14 (.iload_n 3) 1 15 := ⟨by decide +kernel, rfl⟩
theorem d_M_sum_15 : xd b_M_sum 15 (.bipush 32) 2 17 := ⟨by decide +kernel, rfl⟩
theorem d_M_sum_17 : xb b_M_sum 17 (.if_icmp .ge 37) 37 20 54 := ⟨by decide +kernel, rfl, by decide⟩
theorem d_M_sum_20 : xd b_M_sum 20 (.aload_n 0) 1 21 := ⟨by decide +kernel, rfl⟩
theorem d_M_sum_21 : xd b_M_sum 21 (.getfield 7) 3 24 := ⟨by decide +kernel, rfl⟩
theorem d_M_sum_24 : xd b_M_sum 24 (.bipush 32) 2 26 := ⟨by decide +kernel, rfl⟩
theorem d_M_sum_26 : xd b_M_sum 26 (.iload_n 1) 1 27 := ⟨by decide +kernel, rfl⟩
theorem d_M_sum_27 : xd b_M_sum 27 (.imul) 1 28 := ⟨by decide +kernel, rfl⟩
theorem d_M_sum_28 : xd b_M_sum 28 (.iload_n 3) 1 29 := ⟨by decide +kernel, rfl⟩
theorem d_M_sum_29 : xd b_M_sum 29 (.iadd) 1 30 := ⟨by decide +kernel, rfl⟩
theorem d_M_sum_30 : xd b_M_sum 30 (.baload) 1 31 := ⟨by decide +kernel, rfl⟩
theorem d_M_sum_31 : xb b_M_sum 31 (.ifCond .eq 17) 17 34 48 := ⟨by decide +kernel, rfl, by decide⟩
theorem d_M_sum_34 : xd b_M_sum 34 (.iload_n 2) 1 35 := ⟨by decide +kernel, rfl⟩
theorem d_M_sum_35 : xd b_M_sum 35 (.aload_n 0) 1 36 := ⟨by decide +kernel, rfl⟩
theorem d_M_sum_36 : xd b_M_sum 36 (.getfield 16) 3 39 := ⟨by decide +kernel, rfl⟩
theorem d_M_sum_39 : xd b_M_sum 39 (.bipush 32) 2 41 := ⟨by decide +kernel, rfl⟩
theorem d_M_sum_41 : xd b_M_sum 41 (.iload_n 1) 1 42 := ⟨by decide +kernel, rfl⟩
theorem d_M_sum_42 : xd b_M_sum 42 (.imul) 1 43 := ⟨by decide +kernel, rfl⟩
theorem d_M_sum_43 : xd b_M_sum 43 (.iload_n 3) 1 44 := ⟨by decide +kernel, rfl⟩
theorem d_M_sum_44 : xd b_M_sum 44 (.iadd) 1 45 := ⟨by decide +kernel, rfl⟩
theorem d_M_sum_45 : xd b_M_sum 45 (.iaload) 1 46 := ⟨by decide +kernel, rfl⟩
theorem d_M_sum_46 : xd b_M_sum 46 (.iadd) 1 47 := ⟨by decide +kernel, rfl⟩
theorem d_M_sum_47 : xd b_M_sum 47 (.istore_n 2) 1 48 := ⟨by decide +kernel, rfl⟩
theorem d_M_sum_48 : xd b_M_sum 48 (.iinc 3 1) 3 51 := ⟨by decide +kernel, rfl⟩
theorem d_M_sum_51 : xb b_M_sum 51 (.goto (-37)) (-37) 54 14 := ⟨by decide +kernel, rfl, by decide⟩
theorem d_M_sum_54 : xd b_M_sum 54 (.iload_n 2) 1 55 := ⟨by decide +kernel, rfl⟩
theorem d_M_sum_55 : xd b_M_sum 55 (.ireturn) 1 56 := ⟨by decide +kernel, rfl⟩
theorem d_M_nextMapped_0 : xd b_M_nextMapped 0 (.aload_n 0) 1 1 := ⟨by decide +kernel, rfl⟩
theorem d_M_nextMapped_1 : xd b_M_nextMapped 1 (.iload_n 1) 1 2 := ⟨by decide +kernel, rfl⟩
theorem d_M_nextMapped_2 : xd b_M_nextMapped 2 (.invokevirtual 24) 3 5 := ⟨by decide +kernel, rfl⟩
theorem d_M_nextMapped_5 : xb b_M_nextMapped 5 (.ifCond .eq 5) 5 8 10 := ⟨by decide +kernel, rfl, by decide⟩
theorem d_M_nextMapped_8 : xd b_M_nextMapped 8 (.iconst (-1)) 1 9 := ⟨by decide +kernel, rfl⟩
theorem d_M_nextMapped_9 : xd b_M_nextMapped 9 (.ireturn) 1 10 := ⟨by decide +kernel, rfl⟩
theorem d_M_nextMapped_10 : xd b_M_nextMapped 10 (.aload_n 0) 1 11 := ⟨by decide +kernel, rfl⟩
theorem d_M_nextMapped_11 : xd b_M_nextMapped 11 (.iload_n 2) 1 12 := ⟨by decide +kernel, rfl⟩
theorem d_M_nextMapped_12 : xd b_M_nextMapped 12 (.invokevirtual 40) 3 15 := ⟨by decide +kernel, rfl⟩
theorem d_M_nextMapped_15 : xb b_M_nextMapped 15 (.ifCond .eq 6) 6 18 21 := ⟨by decide +kernel, rfl, by decide⟩
theorem d_M_nextMapped_18 : xd b_M_nextMapped 18 (.bipush (-2)) 2 20 := ⟨by decide +kernel, rfl⟩
theorem d_M_nextMapped_20 : xd b_M_nextMapped 20 (.ireturn) 1 21 := ⟨by decide +kernel, rfl⟩
theorem d_M_nextMapped_21 : xd b_M_nextMapped 21 (.iload_n 2) 1 22 := ⟨by decide +kernel, rfl⟩
theorem d_M_nextMapped_22 : xd b_M_nextMapped 22 (.istore_n 3) 1 23 := ⟨by decide +kernel, rfl⟩
theorem d_M_nextMapped_23 : xd b_M_nextMapped 23 (.iload_n 3) 1 24 := ⟨by decide +kernel, rfl⟩
theorem d_M_nextMapped_24 : xd b_M_nextMapped 24 (.bipush 32) 2 26 := ⟨by decide +kernel, rfl⟩
theorem d_M_nextMapped_26 : xb b_M_nextMapped 26 (.if_icmp .ge 25) 25 29 51 := ⟨by decide +kernel, rfl, by decide⟩
theorem d_M_nextMapped_29 : xd b_M_nextMapped 29 (.aload_n 0) 1 30 := ⟨by decide +kernel, rfl⟩
theorem d_M_nextMapped_30 : xd b_M_nextMapped 30 (.getfield 7) 3 33 := ⟨by decide +kernel, rfl⟩
theorem d_M_nextMapped_33 : xd b_M_nextMapped 33 (.bipush 32) 2 35 := ⟨by decide +kernel, rfl⟩
theorem d_M_nextMapped_35 : xd b_M_nextMapped 35 (.iload_n 1) 1 36 := ⟨by decide +kernel, rfl⟩
theorem d_M_nextMapped_36 : xd b_M_nextMapped 36 (.imul) 1 37 := ⟨by decide +kernel, rfl⟩
theorem d_M_nextMapped_37 : xd b_M_nextMapped 37 (.iload_n 3) 1 38 := ⟨by decide +kernel, rfl⟩
theorem d_M_nextMapped_38 : xd b_M_nextMapped 38 (.iadd) 1 39 := ⟨by decide +kernel, rfl⟩
theorem d_M_nextMapped_39 : xd b_M_nextMapped 39 (.baload) 1 40 := ⟨by decide +kernel, rfl⟩
theorem d_M_nextMapped_40 : xb b_M_nextMapped 40 (.ifCond .eq 5) 5 43 45 := ⟨by decide +kernel, rfl, by decide⟩
theorem d_M_nextMapped_43 : xd b_M_nextMapped 43 (.iload_n 3) 1 44 := ⟨by decide +kernel, rfl⟩
theorem d_M_nextMapped_44 : xd b_M_nextMapped 44 (.ireturn) 1 45 := ⟨by decide +kernel, rfl⟩
theorem d_M_nextMapped_45 : xd b_M_nextMapped 45 (.iinc 3 1) 3 48 := ⟨by decide +kernel, rfl⟩
theorem d_M_nextMapped_48 : xb b_M_nextMapped 48 (.goto (-25)) (-25) 51 23 := ⟨by decide +kernel, rfl, by decide⟩
theorem d_M_nextMapped_51 : xd b_M_nextMapped 51 (.bipush (-3)) 2 53 := ⟨by decide +kernel, rfl⟩
theorem d_M_nextMapped_53 : xd b_M_nextMapped 53 (.ireturn) 1 54 := ⟨by decide +kernel, rfl⟩
end
section
/-! decode rows of the law (printed by gen.py) -/
theorem d_L_cell_0 : xd b_L_cell 0 (.iload_n 1) 1 1 := ⟨by decide +kernel, rfl⟩
theorem d_L_cell_1 : xd b_L_cell 1 (.aload_n 0) 1 2 := ⟨by decide +kernel, rfl⟩
theorem d_L_cell_2 : xd b_L_cell 2 (.arraylength) 1 3 := ⟨by decide +kernel, rfl⟩
theorem d_L_cell_3 : xb b_L_cell 3 (.if_icmp .ge 9) 9 6 12 := ⟨by decide +kernel, rfl, by decide⟩
theorem d_L_cell_6 : xd b_L_cell 6 (.aload_n 0) 1 7 := ⟨by decide +kernel, rfl⟩
theorem d_L_cell_7 : xd b_L_cell 7 (.iload_n 1) 1 8 := ⟨by decide +kernel, rfl⟩
theorem d_L_cell_8 : xd b_L_cell 8 (.iaload) 1 9 := ⟨by decide +kernel, rfl⟩
theorem d_L_cell_9 : xb b_L_cell 9 (.goto 4) 4 12 13 := ⟨by decide +kernel, rfl, by decide⟩
theorem d_L_cell_12 : xd b_L_cell 12 (.iconst 0) 1 13 := ⟨by decide +kernel, rfl⟩
theorem d_L_cell_13 : xd b_L_cell 13 (.ireturn) 1 14 := ⟨by decide +kernel, rfl⟩
theorem d_L_law_0 : xd code 0 (.new 7) 3 3 := ⟨by decide +kernel, rfl⟩
theorem d_L_law_3 : xd code 3 (.dup) 1 4 := ⟨by decide +kernel, rfl⟩
theorem d_L_law_4 : xd code 4 (.aload_n 0) 1 5 := ⟨by decide +kernel, rfl⟩
theorem d_L_law_5 : xd code 5 (.iconst 0) 1 6 := ⟨by decide +kernel, rfl⟩
theorem d_L_law_6 : xd code 6 (.invokestatic 9) 3 9 := ⟨by decide +kernel, rfl⟩
theorem d_L_law_9 : xd code 9 (.invokespecial 15) 3 12 := ⟨by decide +kernel, rfl⟩
theorem d_L_law_12 : xd code 12 (.astore_n 1) 1 13 := ⟨by decide +kernel, rfl⟩
theorem d_L_law_13 : xd code 13 (.new 18) 3 16 := ⟨by decide +kernel, rfl⟩
theorem d_L_law_16 : xd code 16 (.dup) 1 17 := ⟨by decide +kernel, rfl⟩
theorem d_L_law_17 : xd code 17 (.aload_n 0) 1 18 := ⟨by decide +kernel, rfl⟩
theorem d_L_law_18 : xd code 18 (.iconst 0) 1 19 := ⟨by decide +kernel, rfl⟩
theorem d_L_law_19 : xd code 19 (.invokestatic 9) 3 22 := ⟨by decide +kernel, rfl⟩
theorem d_L_law_22 : xd code 22 (.invokespecial 20) 3 25 := ⟨by decide +kernel, rfl⟩
theorem d_L_law_25 : xd code 25 (.astore_n 2) 1 26 := ⟨by decide +kernel, rfl⟩
theorem d_L_law_26 : xd code 26 (.iconst 1) 1 27 := ⟨by decide +kernel, rfl⟩
theorem d_L_law_27 : xd code 27 (.istore_n 3) 1 28 := ⟨by decide +kernel, rfl⟩
theorem d_L_law_28 : xd code 28 (.iload_n 3) 1 29 := ⟨by decide +kernel, rfl⟩
theorem d_L_law_29 : xd code 29 (.aload_n 0) 1 30 := ⟨by decide +kernel, rfl⟩
theorem d_L_law_30 : xd code 30 (.arraylength) 1 31 := ⟨by decide +kernel, rfl⟩
theorem d_L_law_31 : xd code 31 (.iconst 5) 1 32 := ⟨by decide +kernel, rfl⟩
theorem d_L_law_32 : xd code 32 (.isub) 1 33 := ⟨by decide +kernel, rfl⟩
theorem d_L_law_33 : xb code 33 (.if_icmp .gt 668) 668 36 701 := ⟨by decide +kernel, rfl, by decide⟩
theorem d_L_law_36 : xd code 36 (.aload_n 0) 1 37 := ⟨by decide +kernel, rfl⟩
theorem d_L_law_37 : xd code 37 (.iload_n 3) 1 38 := ⟨by decide +kernel, rfl⟩
theorem d_L_law_38 : xd code 38 (.iaload) 1 39 := ⟨by decide +kernel, rfl⟩
theorem d_L_law_39 : xd code 39 (.bipush 31) 2 41 := ⟨by decide +kernel, rfl⟩
theorem d_L_law_41 : xd code 41 (.iand) 1 42 := ⟨by decide +kernel, rfl⟩
theorem d_L_law_124 : xd code 124 (.aload_n 1) 1 125 := ⟨by decide +kernel, rfl⟩
theorem d_L_law_125 : xd code 125 (.invokevirtual 21) 3 128 := ⟨by decide +kernel, rfl⟩
theorem d_L_law_128 : xd code 128 (.aload_n 2) 1 129 := ⟨by decide +kernel, rfl⟩
theorem d_L_law_129 : xd code 129 (.invokevirtual 25) 3 132 := ⟨by decide +kernel, rfl⟩
theorem d_L_law_132 : xb code 132 (.if_icmp .eq 563) 563 135 695 := ⟨by decide +kernel, rfl, by decide⟩
theorem d_L_law_135 : xd code 135 (.iconst 0) 1 136 := ⟨by decide +kernel, rfl⟩
theorem d_L_law_136 : xd code 136 (.ireturn) 1 137 := ⟨by decide +kernel, rfl⟩
theorem d_L_law_137 : xd code 137 (.aload_n 1) 1 138 := ⟨by decide +kernel, rfl⟩
theorem d_L_law_138 : xd code 138 (.invokevirtual 26) 3 141 := ⟨by decide +kernel, rfl⟩
theorem d_L_law_141 : xd code 141 (.aload_n 2) 1 142 := ⟨by decide +kernel, rfl⟩
theorem d_L_law_142 : xd code 142 (.invokevirtual 29) 3 145 := ⟨by decide +kernel, rfl⟩
theorem d_L_law_145 : xb code 145 (.if_icmp .eq 550) 550 148 695 := ⟨by decide +kernel, rfl, by decide⟩
theorem d_L_law_148 : xd code 148 (.iconst 0) 1 149 := ⟨by decide +kernel, rfl⟩
theorem d_L_law_149 : xd code 149 (.ireturn) 1 150 := ⟨by decide +kernel, rfl⟩
theorem d_L_law_150 : xd code 150 (.aload_n 1) 1 151 := ⟨by decide +kernel, rfl⟩
theorem d_L_law_151 : xd code 151 (.aload_n 0) 1 152 := ⟨by decide +kernel, rfl⟩
theorem d_L_law_152 : xd code 152 (.iload_n 3) 1 153 := ⟨by decide +kernel, rfl⟩
theorem d_L_law_153 : xd code 153 (.iconst 1) 1 154 := ⟨by decide +kernel, rfl⟩
theorem d_L_law_154 : xd code 154 (.iadd) 1 155 := ⟨by decide +kernel, rfl⟩
theorem d_L_law_155 : xd code 155 (.iaload) 1 156 := ⟨by decide +kernel, rfl⟩
theorem d_L_law_156 : xd code 156 (.invokevirtual 30) 3 159 := ⟨by decide +kernel, rfl⟩
theorem d_L_law_159 : xd code 159 (.aload_n 2) 1 160 := ⟨by decide +kernel, rfl⟩
theorem d_L_law_160 : xd code 160 (.aload_n 0) 1 161 := ⟨by decide +kernel, rfl⟩
theorem d_L_law_161 : xd code 161 (.iload_n 3) 1 162 := ⟨by decide +kernel, rfl⟩
theorem d_L_law_162 : xd code 162 (.iconst 1) 1 163 := ⟨by decide +kernel, rfl⟩
theorem d_L_law_163 : xd code 163 (.iadd) 1 164 := ⟨by decide +kernel, rfl⟩
theorem d_L_law_164 : xd code 164 (.iaload) 1 165 := ⟨by decide +kernel, rfl⟩
theorem d_L_law_165 : xd code 165 (.invokevirtual 34) 3 168 := ⟨by decide +kernel, rfl⟩
theorem d_L_law_168 : xb code 168 (.if_icmp .eq 527) 527 171 695 := ⟨by decide +kernel, rfl, by decide⟩
theorem d_L_law_171 : xd code 171 (.iconst 0) 1 172 := ⟨by decide +kernel, rfl⟩
theorem d_L_law_172 : xd code 172 (.ireturn) 1 173 := ⟨by decide +kernel, rfl⟩
theorem d_L_law_173 : xd code 173 (.aload_n 1) 1 174 := ⟨by decide +kernel, rfl⟩
theorem d_L_law_174 : xd code 174 (.aload_n 0) 1 175 := ⟨by decide +kernel, rfl⟩
theorem d_L_law_175 : xd code 175 (.iload_n 3) 1 176 := ⟨by decide +kernel, rfl⟩
theorem d_L_law_176 : xd code 176 (.iconst 1) 1 177 := ⟨by decide +kernel, rfl⟩
theorem d_L_law_177 : xd code 177 (.iadd) 1 178 := ⟨by decide +kernel, rfl⟩
theorem d_L_law_178 : xd code 178 (.iaload) 1 179 := ⟨by decide +kernel, rfl⟩
theorem d_L_law_179 : xd code 179 (.aload_n 0) 1 180 := ⟨by decide +kernel, rfl⟩
theorem d_L_law_180 : xd code 180 (.iload_n 3) 1 181 := ⟨by decide +kernel, rfl⟩
theorem d_L_law_181 : xd code 181 (.iconst 2) 1 182 := ⟨by decide +kernel, rfl⟩
theorem d_L_law_182 : xd code 182 (.iadd) 1 183 := ⟨by decide +kernel, rfl⟩
theorem d_L_law_183 : xd code 183 (.iaload) 1 184 := ⟨by decide +kernel, rfl⟩
theorem d_L_law_184 : xd code 184 (.aload_n 0) 1 185 := ⟨by decide +kernel, rfl⟩
theorem d_L_law_185 : xd code 185 (.iload_n 3) 1 186 := ⟨by decide +kernel, rfl⟩
theorem d_L_law_186 : xd code 186 (.iconst 3) 1 187 := ⟨by decide +kernel, rfl⟩
theorem d_L_law_187 : xd code 187 (.iadd) 1 188 := ⟨by decide +kernel, rfl⟩
theorem d_L_law_188 : xd code 188 (.iaload) 1 189 := ⟨by decide +kernel, rfl⟩
theorem d_L_law_189 : xd code 189 (.invokevirtual 35) 3 192 := ⟨by decide +kernel, rfl⟩
theorem d_L_law_192 : xd code 192 (.aload_n 2) 1 193 := ⟨by decide +kernel, rfl⟩
theorem d_L_law_193 : xd code 193 (.aload_n 0) 1 194 := ⟨by decide +kernel, rfl⟩
theorem d_L_law_194 : xd code 194 (.iload_n 3) 1 195 := ⟨by decide +kernel, rfl⟩
theorem d_L_law_195 : xd code 195 (.iconst 1) 1 196 := ⟨by decide +kernel, rfl⟩
theorem d_L_law_196 : xd code 196 (.iadd) 1 197 := ⟨by decide +kernel, rfl⟩
theorem d_L_law_197 : xd code 197 (.iaload) 1 198 := ⟨by decide +kernel, rfl⟩
theorem d_L_law_198 : xd code 198 (.aload_n 0) 1 199 := ⟨by decide +kernel, rfl⟩
theorem d_L_law_199 : xd code 199 (.iload_n 3) 1 200 := ⟨by decide +kernel, rfl⟩
theorem d_L_law_200 : xd code 200 (.iconst 2) 1 201 := ⟨by decide +kernel, rfl⟩
theorem d_L_law_201 : xd code 201 (.iadd) 1 202 := ⟨by decide +kernel, rfl⟩
theorem d_L_law_202 : xd code 202 (.iaload) 1 203 := ⟨by decide +kernel, rfl⟩
theorem d_L_law_203 : xd code 203 (.aload_n 0) 1 204 := ⟨by decide +kernel, rfl⟩
theorem d_L_law_204 : xd code 204 (.iload_n 3) 1 205 := ⟨by decide +kernel, rfl⟩
theorem d_L_law_205 : xd code 205 (.iconst 3) 1 206 := ⟨by decide +kernel, rfl⟩
theorem d_L_law_206 : xd code 206 (.iadd) 1 207 := ⟨by decide +kernel, rfl⟩
theorem d_L_law_207 : xd code 207 (.iaload) 1 208 := ⟨by decide +kernel, rfl⟩
theorem d_L_law_208 : xd code 208 (.invokevirtual 39) 3 211 := ⟨by decide +kernel, rfl⟩
theorem d_L_law_211 : xb code 211 (.if_icmp .eq 484) 484 214 695 := ⟨by decide +kernel, rfl, by decide⟩
theorem d_L_law_214 : xd code 214 (.iconst 0) 1 215 := ⟨by decide +kernel, rfl⟩
theorem d_L_law_215 : xd code 215 (.ireturn) 1 216 := ⟨by decide +kernel, rfl⟩
theorem d_L_law_216 : xd code 216 (.aload_n 1) 1 217 := ⟨by decide +kernel, rfl⟩
theorem d_L_law_217 : xd code 217 (.aload_n 0) 1 218 := ⟨by decide +kernel, rfl⟩
theorem d_L_law_218 : xd code 218 (.iload_n 3) 1 219 := ⟨by decide +kernel, rfl⟩
theorem d_L_law_219 : xd code 219 (.iconst 1) 1 220 := ⟨by decide +kernel, rfl⟩
theorem d_L_law_220 : xd code 220 (.iadd) 1 221 := ⟨by decide +kernel, rfl⟩
theorem d_L_law_221 : xd code 221 (.iaload) 1 222 := ⟨by decide +kernel, rfl⟩
theorem d_L_law_222 : xd code 222 (.aload_n 0) 1 223 := ⟨by decide +kernel, rfl⟩
theorem d_L_law_223 : xd code 223 (.iload_n 3) 1 224 := ⟨by decide +kernel, rfl⟩
theorem d_L_law_224 : xd code 224 (.iconst 2) 1 225 := ⟨by decide +kernel, rfl⟩
theorem d_L_law_225 : xd code 225 (.iadd) 1 226 := ⟨by decide +kernel, rfl⟩
theorem d_L_law_226 : xd code 226 (.iaload) 1 227 := ⟨by decide +kernel, rfl⟩
theorem d_L_law_227 : xd code 227 (.aload_n 0) 1 228 := ⟨by decide +kernel, rfl⟩
theorem d_L_law_228 : xd code 228 (.iload_n 3) 1 229 := ⟨by decide +kernel, rfl⟩
theorem d_L_law_229 : xd code 229 (.iconst 3) 1 230 := ⟨by decide +kernel, rfl⟩
theorem d_L_law_230 : xd code 230 (.iadd) 1 231 := ⟨by decide +kernel, rfl⟩
theorem d_L_law_231 : xd code 231 (.iaload) 1 232 := ⟨by decide +kernel, rfl⟩
theorem d_L_law_232 : xd code 232 (.invokevirtual 40) 3 235 := ⟨by decide +kernel, rfl⟩
theorem d_L_law_235 : xd code 235 (.aload_n 2) 1 236 := ⟨by decide +kernel, rfl⟩
theorem d_L_law_236 : xd code 236 (.aload_n 0) 1 237 := ⟨by decide +kernel, rfl⟩
theorem d_L_law_237 : xd code 237 (.iload_n 3) 1 238 := ⟨by decide +kernel, rfl⟩
theorem d_L_law_238 : xd code 238 (.iconst 1) 1 239 := ⟨by decide +kernel, rfl⟩
theorem d_L_law_239 : xd code 239 (.iadd) 1 240 := ⟨by decide +kernel, rfl⟩
theorem d_L_law_240 : xd code 240 (.iaload) 1 241 := ⟨by decide +kernel, rfl⟩
theorem d_L_law_241 : xd code 241 (.aload_n 0) 1 242 := ⟨by decide +kernel, rfl⟩
theorem d_L_law_242 : xd code 242 (.iload_n 3) 1 243 := ⟨by decide +kernel, rfl⟩
theorem d_L_law_243 : xd code 243 (.iconst 2) 1 244 := ⟨by decide +kernel, rfl⟩
theorem d_L_law_244 : xd code 244 (.iadd) 1 245 := ⟨by decide +kernel, rfl⟩
theorem d_L_law_245 : xd code 245 (.iaload) 1 246 := ⟨by decide +kernel, rfl⟩
theorem d_L_law_246 : xd code 246 (.aload_n 0) 1 247 := ⟨by decide +kernel, rfl⟩
theorem d_L_law_247 : xd code 247 (.iload_n 3) 1 248 := ⟨by decide +kernel, rfl⟩
theorem d_L_law_248 : xd code 248 (.iconst 3) 1 249 := ⟨by decide +kernel, rfl⟩
theorem d_L_law_249 : xd code 249 (.iadd) 1 250 := ⟨by decide +kernel, rfl⟩
theorem d_L_law_250 : xd code 250 (.iaload) 1 251 := ⟨by decide +kernel, rfl⟩
theorem d_L_law_251 : xd code 251 (.invokevirtual 43) 3 254 := ⟨by decide +kernel, rfl⟩
theorem d_L_law_254 : xb code 254 (.if_icmp .eq 441) 441 257 695 := ⟨by decide +kernel, rfl, by decide⟩
theorem d_L_law_257 : xd code 257 (.iconst 0) 1 258 := ⟨by decide +kernel, rfl⟩
theorem d_L_law_258 : xd code 258 (.ireturn) 1 259 := ⟨by decide +kernel, rfl⟩
theorem d_L_law_259 : xd code 259 (.aload_n 1) 1 260 := ⟨by decide +kernel, rfl⟩
theorem d_L_law_260 : xd code 260 (.aload_n 0) 1 261 := ⟨by decide +kernel, rfl⟩
theorem d_L_law_261 : xd code 261 (.iload_n 3) 1 262 := ⟨by decide +kernel, rfl⟩
theorem d_L_law_262 : xd code 262 (.iconst 1) 1 263 := ⟨by decide +kernel, rfl⟩
theorem d_L_law_263 : xd code 263 (.iadd) 1 264 := ⟨by decide +kernel, rfl⟩
theorem d_L_law_264 : xd code 264 (.iaload) 1 265 := ⟨by decide +kernel, rfl⟩
theorem d_L_law_265 : xd code 265 (.aload_n 0) 1 266 := ⟨by decide +kernel, rfl⟩
theorem d_L_law_266 : xd code 266 (.iload_n 3) 1 267 := ⟨by decide +kernel, rfl⟩
theorem d_L_law_267 : xd code 267 (.iconst 2) 1 268 := ⟨by decide +kernel, rfl⟩
theorem d_L_law_268 : xd code 268 (.iadd) 1 269 := ⟨by decide +kernel, rfl⟩
theorem d_L_law_269 : xd code 269 (.iaload) 1 270 := ⟨by decide +kernel, rfl⟩
theorem d_L_law_270 : xd code 270 (.aload_n 0) 1 271 := ⟨by decide +kernel, rfl⟩
theorem d_L_law_271 : xd code 271 (.iload_n 3) 1 272 := ⟨by decide +kernel, rfl⟩
theorem d_L_law_272 : xd code 272 (.iconst 3) 1 273 := ⟨by decide +kernel, rfl⟩
theorem d_L_law_273 : xd code 273 (.iadd) 1 274 := ⟨by decide +kernel, rfl⟩
theorem d_L_law_274 : xd code 274 (.iaload) 1 275 := ⟨by decide +kernel, rfl⟩
theorem d_L_law_275 : xd code 275 (.aload_n 0) 1 276 := ⟨by decide +kernel, rfl⟩
theorem d_L_law_276 : xd code 276 (.iload_n 3) 1 277 := ⟨by decide +kernel, rfl⟩
theorem d_L_law_277 : xd code 277 (.iconst 4) 1 278 := ⟨by decide +kernel, rfl⟩
theorem d_L_law_278 : xd code 278 (.iadd) 1 279 := ⟨by decide +kernel, rfl⟩
theorem d_L_law_279 : xd code 279 (.iaload) 1 280 := ⟨by decide +kernel, rfl⟩
theorem d_L_law_280 : xd code 280 (.invokevirtual 44) 3 283 := ⟨by decide +kernel, rfl⟩
theorem d_L_law_283 : xd code 283 (.aload_n 2) 1 284 := ⟨by decide +kernel, rfl⟩
theorem d_L_law_284 : xd code 284 (.aload_n 0) 1 285 := ⟨by decide +kernel, rfl⟩
theorem d_L_law_285 : xd code 285 (.iload_n 3) 1 286 := ⟨by decide +kernel, rfl⟩
theorem d_L_law_286 : xd code 286 (.iconst 1) 1 287 := ⟨by decide +kernel, rfl⟩
theorem d_L_law_287 : xd code 287 (.iadd) 1 288 := ⟨by decide +kernel, rfl⟩
theorem d_L_law_288 : xd code 288 (.iaload) 1 289 := ⟨by decide +kernel, rfl⟩
theorem d_L_law_289 : xd code 289 (.aload_n 0) 1 290 := ⟨by decide +kernel, rfl⟩
theorem d_L_law_290 : xd code 290 (.iload_n 3) 1 291 := ⟨by decide +kernel, rfl⟩
theorem d_L_law_291 : xd code 291 (.iconst 2) 1 292 := ⟨by decide +kernel, rfl⟩
theorem d_L_law_292 : xd code 292 (.iadd) 1 293 := ⟨by decide +kernel, rfl⟩
theorem d_L_law_293 : xd code 293 (.iaload) 1 294 := ⟨by decide +kernel, rfl⟩
theorem d_L_law_294 : xd code 294 (.aload_n 0) 1 295 := ⟨by decide +kernel, rfl⟩
theorem d_L_law_295 : xd code 295 (.iload_n 3) 1 296 := ⟨by decide +kernel, rfl⟩
theorem d_L_law_296 : xd code 296 (.iconst 3) 1 297 := ⟨by decide +kernel, rfl⟩
theorem d_L_law_297 : xd code 297 (.iadd) 1 298 := ⟨by decide +kernel, rfl⟩
theorem d_L_law_298 : xd code 298 (.iaload) 1 299 := ⟨by decide +kernel, rfl⟩
theorem d_L_law_299 : xd code 299 (.aload_n 0) 1 300 := ⟨by decide +kernel, rfl⟩
theorem d_L_law_300 : xd code 300 (.iload_n 3) 1 301 := ⟨by decide +kernel, rfl⟩
theorem d_L_law_301 : xd code 301 (.iconst 4) 1 302 := ⟨by decide +kernel, rfl⟩
theorem d_L_law_302 : xd code 302 (.iadd) 1 303 := ⟨by decide +kernel, rfl⟩
theorem d_L_law_303 : xd code 303 (.iaload) 1 304 := ⟨by decide +kernel, rfl⟩
theorem d_L_law_304 : xd code 304 (.invokevirtual 48) 3 307 := ⟨by decide +kernel, rfl⟩
theorem d_L_law_307 : xb code 307 (.if_icmp .eq 388) 388 310 695 := ⟨by decide +kernel, rfl, by decide⟩
theorem d_L_law_310 : xd code 310 (.iconst 0) 1 311 := ⟨by decide +kernel, rfl⟩
theorem d_L_law_311 : xd code 311 (.ireturn) 1 312 := ⟨by decide +kernel, rfl⟩
theorem d_L_law_312 : xd code 312 (.aload_n 1) 1 313 := ⟨by decide +kernel, rfl⟩
theorem d_L_law_313 : xd code 313 (.aload_n 0) 1 314 := ⟨by decide +kernel, rfl⟩
theorem d_L_law_314 : xd code 314 (.iload_n 3) 1 315 := ⟨by decide +kernel, rfl⟩
theorem d_L_law_315 : xd code 315 (.iconst 1) 1 316 := ⟨by decide +kernel, rfl⟩
theorem d_L_law_316 : xd code 316 (.iadd) 1 317 := ⟨by decide +kernel, rfl⟩
theorem d_L_law_317 : xd code 317 (.iaload) 1 318 := ⟨by decide +kernel, rfl⟩
theorem d_L_law_318 : xd code 318 (.aload_n 0) 1 319 := ⟨by decide +kernel, rfl⟩
theorem d_L_law_319 : xd code 319 (.iload_n 3) 1 320 := ⟨by decide +kernel, rfl⟩
theorem d_L_law_320 : xd code 320 (.iconst 2) 1 321 := ⟨by decide +kernel, rfl⟩
theorem d_L_law_321 : xd code 321 (.iadd) 1 322 := ⟨by decide +kernel, rfl⟩
theorem d_L_law_322 : xd code 322 (.iaload) 1 323 := ⟨by decide +kernel, rfl⟩
theorem d_L_law_323 : xd code 323 (.invokevirtual 49) 3 326 := ⟨by decide +kernel, rfl⟩
theorem d_L_law_326 : xd code 326 (.aload_n 2) 1 327 := ⟨by decide +kernel, rfl⟩
theorem d_L_law_327 : xd code 327 (.aload_n 0) 1 328 := ⟨by decide +kernel, rfl⟩
theorem d_L_law_328 : xd code 328 (.iload_n 3) 1 329 := ⟨by decide +kernel, rfl⟩
theorem d_L_law_329 : xd code 329 (.iconst 1) 1 330 := ⟨by decide +kernel, rfl⟩
theorem d_L_law_330 : xd code 330 (.iadd) 1 331 := ⟨by decide +kernel, rfl⟩
theorem d_L_law_331 : xd code 331 (.iaload) 1 332 := ⟨by decide +kernel, rfl⟩
theorem d_L_law_332 : xd code 332 (.aload_n 0) 1 333 := ⟨by decide +kernel, rfl⟩
theorem d_L_law_333 : xd code 333 (.iload_n 3) 1 334 := ⟨by decide +kernel, rfl⟩
theorem d_L_law_334 : xd code 334 (.iconst 2) 1 335 := ⟨by decide +kernel, rfl⟩
theorem d_L_law_335 : xd code 335 (.iadd) 1 336 := ⟨by decide +kernel, rfl⟩
theorem d_L_law_336 : xd code 336 (.iaload) 1 337 := ⟨by decide +kernel, rfl⟩
theorem d_L_law_337 : xd code 337 (.invokevirtual 53) 3 340 := ⟨by decide +kernel, rfl⟩
theorem d_L_law_340 : xb code 340 (.if_icmp .eq 355) 355 343 695 := ⟨by decide +kernel, rfl, by decide⟩
theorem d_L_law_343 : xd code 343 (.iconst 0) 1 344 := ⟨by decide +kernel, rfl⟩
theorem d_L_law_344 : xd code 344 (.ireturn) 1 345 := ⟨by decide +kernel, rfl⟩
theorem d_L_law_345 : xd code 345 (.aload_n 1) 1 346 := ⟨by decide +kernel, rfl⟩
theorem d_L_law_346 : xd code 346 (.aload_n 0) 1 347 := ⟨by decide +kernel, rfl⟩
theorem d_L_law_347 : xd code 347 (.iload_n 3) 1 348 := ⟨by decide +kernel, rfl⟩
theorem d_L_law_348 : xd code 348 (.iconst 1) 1 349 := ⟨by decide +kernel, rfl⟩
theorem d_L_law_349 : xd code 349 (.iadd) 1 350 := ⟨by decide +kernel, rfl⟩
theorem d_L_law_350 : xd code 350 (.iaload) 1 351 := ⟨by decide +kernel, rfl⟩
theorem d_L_law_351 : xd code 351 (.aload_n 0) 1 352 := ⟨by decide +kernel, rfl⟩
theorem d_L_law_352 : xd code 352 (.iload_n 3) 1 353 := ⟨by decide +kernel, rfl⟩
theorem d_L_law_353 : xd code 353 (.iconst 2) 1 354 := ⟨by decide +kernel, rfl⟩
theorem d_L_law_354 : xd code 354 (.iadd) 1 355 := ⟨by decide +kernel, rfl⟩
theorem d_L_law_355 : xd code 355 (.iaload) 1 356 := ⟨by decide +kernel, rfl⟩
theorem d_L_law_356 : xd code 356 (.invokevirtual 54) 3 359 := ⟨by decide +kernel, rfl⟩
theorem d_L_law_359 : xd code 359 (.aload_n 2) 1 360 := ⟨by decide +kernel, rfl⟩
theorem d_L_law_360 : xd code 360 (.aload_n 0) 1 361 := ⟨by decide +kernel, rfl⟩
theorem d_L_law_361 : xd code 361 (.iload_n 3) 1 362 := ⟨by decide +kernel, rfl⟩
theorem d_L_law_362 : xd code 362 (.iconst 1) 1 363 := ⟨by decide +kernel, rfl⟩
theorem d_L_law_363 : xd code 363 (.iadd) 1 364 := ⟨by decide +kernel, rfl⟩
theorem d_L_law_364 : xd code 364 (.iaload) 1 365 := ⟨by decide +kernel, rfl⟩
theorem d_L_law_365 : xd code 365 (.aload_n 0) 1 366 := ⟨by decide +kernel, rfl⟩
theorem d_L_law_366 : xd code 366 (.iload_n 3) 1 367 := ⟨by decide +kernel, rfl⟩
theorem d_L_law_367 : xd code 367 (.iconst 2) 1 368 := ⟨by decide +kernel, rfl⟩
theorem d_L_law_368 : xd code 368 (.iadd) 1 369 := ⟨by decide +kernel, rfl⟩
theorem d_L_law_369 : xd code 369 (.iaload) 1 370 := ⟨by decide +kernel, rfl⟩
theorem d_L_law_370 : xd code 370 (.invokevirtual 57) 3 373 := ⟨by decide +kernel, rfl⟩
theorem d_L_law_373 : xb code 373 (.if_icmp .eq 322) 322 376 695 := ⟨by decide +kernel, rfl, by decide⟩
theorem d_L_law_376 : xd code 376 (.iconst 0) 1 377 := ⟨by decide +kernel, rfl⟩
theorem d_L_law_377 : xd code 377 (.ireturn) 1 378 := ⟨by decide +kernel, rfl⟩
theorem d_L_law_378 : xd code 378 (.aload_n 1) 1 379 := ⟨by decide +kernel, rfl⟩
theorem d_L_law_379 : xd code 379 (.aload_n 0) 1 380 := ⟨by decide +kernel, rfl⟩
theorem d_L_law_380 : xd code 380 (.iload_n 3) 1 381 := ⟨by decide +kernel, rfl⟩
theorem d_L_law_381 : xd code 381 (.iconst 1) 1 382 := ⟨by decide +kernel, rfl⟩
theorem d_L_law_382 : xd code 382 (.iadd) 1 383 := ⟨by decide +kernel, rfl⟩
theorem d_L_law_383 : xd code 383 (.iaload) 1 384 := ⟨by decide +kernel, rfl⟩
theorem d_L_law_384 : xd code 384 (.aload_n 0) 1 385 := ⟨by decide +kernel, rfl⟩
theorem d_L_law_385 : xd code 385 (.iload_n 3) 1 386 := ⟨by decide +kernel, rfl⟩
theorem d_L_law_386 : xd code 386 (.iconst 2) 1 387 := ⟨by decide +kernel, rfl⟩
theorem d_L_law_387 : xd code 387 (.iadd) 1 388 := ⟨by decide +kernel, rfl⟩
theorem d_L_law_388 : xd code 388 (.iaload) 1 389 := ⟨by decide +kernel, rfl⟩
theorem d_L_law_389 : xd code 389 (.invokevirtual 58) 3 392 := ⟨by decide +kernel, rfl⟩
theorem d_L_law_392 : xd code 392 (.aload_n 2) 1 393 := ⟨by decide +kernel, rfl⟩
theorem d_L_law_393 : xd code 393 (.aload_n 0) 1 394 := ⟨by decide +kernel, rfl⟩
theorem d_L_law_394 : xd code 394 (.iload_n 3) 1 395 := ⟨by decide +kernel, rfl⟩
theorem d_L_law_395 : xd code 395 (.iconst 1) 1 396 := ⟨by decide +kernel, rfl⟩
theorem d_L_law_396 : xd code 396 (.iadd) 1 397 := ⟨by decide +kernel, rfl⟩
theorem d_L_law_397 : xd code 397 (.iaload) 1 398 := ⟨by decide +kernel, rfl⟩
theorem d_L_law_398 : xd code 398 (.aload_n 0) 1 399 := ⟨by decide +kernel, rfl⟩
theorem d_L_law_399 : xd code 399 (.iload_n 3) 1 400 := ⟨by decide +kernel, rfl⟩
theorem d_L_law_400 : xd code 400 (.iconst 2) 1 401 := ⟨by decide +kernel, rfl⟩
theorem d_L_law_401 : xd code 401 (.iadd) 1 402 := ⟨by decide +kernel, rfl⟩
theorem d_L_law_402 : xd code 402 (.iaload) 1 403 := ⟨by decide +kernel, rfl⟩
theorem d_L_law_403 : xd code 403 (.invokevirtual 61) 3 406 := ⟨by decide +kernel, rfl⟩
theorem d_L_law_406 : xb code 406 (.if_icmp .eq 289) 289 409 695 := ⟨by decide +kernel, rfl, by decide⟩
theorem d_L_law_409 : xd code 409 (.iconst 0) 1 410 := ⟨by decide +kernel, rfl⟩
theorem d_L_law_410 : xd code 410 (.ireturn) 1 411 := ⟨by decide +kernel, rfl⟩
theorem d_L_law_411 : xd code 411 (.aload_n 1) 1 412 := ⟨by decide +kernel, rfl⟩
theorem d_L_law_412 : xd code 412 (.aload_n 0) 1 413 := ⟨by decide +kernel, rfl⟩
theorem d_L_law_413 : xd code 413 (.iload_n 3) 1 414 := ⟨by decide +kernel, rfl⟩
theorem d_L_law_414 : xd code 414 (.iconst 1) 1 415 := ⟨by decide +kernel, rfl⟩
theorem d_L_law_415 : xd code 415 (.iadd) 1 416 := ⟨by decide +kernel, rfl⟩
theorem d_L_law_416 : xd code 416 (.iaload) 1 417 := ⟨by decide +kernel, rfl⟩
theorem d_L_law_417 : xd code 417 (.aload_n 0) 1 418 := ⟨by decide +kernel, rfl⟩
theorem d_L_law_418 : xd code 418 (.iload_n 3) 1 419 := ⟨by decide +kernel, rfl⟩
theorem d_L_law_419 : xd code 419 (.iconst 2) 1 420 := ⟨by decide +kernel, rfl⟩
theorem d_L_law_420 : xd code 420 (.iadd) 1 421 := ⟨by decide +kernel, rfl⟩
theorem d_L_law_421 : xd code 421 (.iaload) 1 422 := ⟨by decide +kernel, rfl⟩
theorem d_L_law_422 : xd code 422 (.aload_n 0) 1 423 := ⟨by decide +kernel, rfl⟩
theorem d_L_law_423 : xd code 423 (.iload_n 3) 1 424 := ⟨by decide +kernel, rfl⟩
theorem d_L_law_424 : xd code 424 (.iconst 3) 1 425 := ⟨by decide +kernel, rfl⟩
theorem d_L_law_425 : xd code 425 (.iadd) 1 426 := ⟨by decide +kernel, rfl⟩
theorem d_L_law_426 : xd code 426 (.iaload) 1 427 := ⟨by decide +kernel, rfl⟩
theorem d_L_law_427 : xd code 427 (.invokevirtual 62) 3 430 := ⟨by decide +kernel, rfl⟩
theorem d_L_law_430 : xd code 430 (.aload_n 2) 1 431 := ⟨by decide +kernel, rfl⟩
theorem d_L_law_431 : xd code 431 (.aload_n 0) 1 432 := ⟨by decide +kernel, rfl⟩
theorem d_L_law_432 : xd code 432 (.iload_n 3) 1 433 := ⟨by decide +kernel, rfl⟩
theorem d_L_law_433 : xd code 433 (.iconst 1) 1 434 := ⟨by decide +kernel, rfl⟩
theorem d_L_law_434 : xd code 434 (.iadd) 1 435 := ⟨by decide +kernel, rfl⟩
theorem d_L_law_435 : xd code 435 (.iaload) 1 436 := ⟨by decide +kernel, rfl⟩
theorem d_L_law_436 : xd code 436 (.aload_n 0) 1 437 := ⟨by decide +kernel, rfl⟩
theorem d_L_law_437 : xd code 437 (.iload_n 3) 1 438 := ⟨by decide +kernel, rfl⟩
theorem d_L_law_438 : xd code 438 (.iconst 2) 1 439 := ⟨by decide +kernel, rfl⟩
theorem d_L_law_439 : xd code 439 (.iadd) 1 440 := ⟨by decide +kernel, rfl⟩
theorem d_L_law_440 : xd code 440 (.iaload) 1 441 := ⟨by decide +kernel, rfl⟩
theorem d_L_law_441 : xd code 441 (.aload_n 0) 1 442 := ⟨by decide +kernel, rfl⟩
theorem d_L_law_442 : xd code 442 (.iload_n 3) 1 443 := ⟨by decide +kernel, rfl⟩
theorem d_L_law_443 : xd code 443 (.iconst 3) 1 444 := ⟨by decide +kernel, rfl⟩
theorem d_L_law_444 : xd code 444 (.iadd) 1 445 := ⟨by decide +kernel, rfl⟩
theorem d_L_law_445 : xd code 445 (.iaload) 1 446 := ⟨by decide +kernel, rfl⟩
theorem d_L_law_446 : xd code 446 (.invokevirtual 65) 3 449 := ⟨by decide +kernel, rfl⟩
theorem d_L_law_449 : xb code 449 (.if_icmp .eq 246) 246 452 695 := ⟨by decide +kernel, rfl, by decide⟩
theorem d_L_law_452 : xd code 452 (.iconst 0) 1 453 := ⟨by decide +kernel, rfl⟩
theorem d_L_law_453 : xd code 453 (.ireturn) 1 454 := ⟨by decide +kernel, rfl⟩
theorem d_L_law_454 : xd code 454 (.aload_n 1) 1 455 := ⟨by decide +kernel, rfl⟩
theorem d_L_law_455 : xd code 455 (.aload_n 0) 1 456 := ⟨by decide +kernel, rfl⟩
theorem d_L_law_456 : xd code 456 (.iload_n 3) 1 457 := ⟨by decide +kernel, rfl⟩
theorem d_L_law_457 : xd code 457 (.iconst 1) 1 458 := ⟨by decide +kernel, rfl⟩
theorem d_L_law_458 : xd code 458 (.iadd) 1 459 := ⟨by decide +kernel, rfl⟩
theorem d_L_law_459 : xd code 459 (.iaload) 1 460 := ⟨by decide +kernel, rfl⟩
theorem d_L_law_460 : xd code 460 (.aload_n 0) 1 461 := ⟨by decide +kernel, rfl⟩
theorem d_L_law_461 : xd code 461 (.iload_n 3) 1 462 := ⟨by decide +kernel, rfl⟩
theorem d_L_law_462 : xd code 462 (.iconst 2) 1 463 := ⟨by decide +kernel, rfl⟩
theorem d_L_law_463 : xd code 463 (.iadd) 1 464 := ⟨by decide +kernel, rfl⟩
theorem d_L_law_464 : xd code 464 (.iaload) 1 465 := ⟨by decide +kernel, rfl⟩
theorem d_L_law_465 : xd code 465 (.aload_n 0) 1 466 := ⟨by decide +kernel, rfl⟩
theorem d_L_law_466 : xd code 466 (.iload_n 3) 1 467 := ⟨by decide +kernel, rfl⟩
theorem d_L_law_467 : xd code 467 (.iconst 3) 1 468 := ⟨by decide +kernel, rfl⟩
theorem d_L_law_468 : xd code 468 (.iadd) 1 469 := ⟨by decide +kernel, rfl⟩
theorem d_L_law_469 : xd code 469 (.iaload) 1 470 := ⟨by decide +kernel, rfl⟩
theorem d_L_law_470 : xd code 470 (.invokevirtual 66) 3 473 := ⟨by decide +kernel, rfl⟩
theorem d_L_law_473 : xd code 473 (.aload_n 2) 1 474 := ⟨by decide +kernel, rfl⟩
theorem d_L_law_474 : xd code 474 (.aload_n 0) 1 475 := ⟨by decide +kernel, rfl⟩
theorem d_L_law_475 : xd code 475 (.iload_n 3) 1 476 := ⟨by decide +kernel, rfl⟩
theorem d_L_law_476 : xd code 476 (.iconst 1) 1 477 := ⟨by decide +kernel, rfl⟩
theorem d_L_law_477 : xd code 477 (.iadd) 1 478 := ⟨by decide +kernel, rfl⟩
theorem d_L_law_478 : xd code 478 (.iaload) 1 479 := ⟨by decide +kernel, rfl⟩
theorem d_L_law_479 : xd code 479 (.aload_n 0) 1 480 := ⟨by decide +kernel, rfl⟩
theorem d_L_law_480 : xd code 480 (.iload_n 3) 1 481 := ⟨by decide +kernel, rfl⟩
theorem d_L_law_481 : xd code 481 (.iconst 2) 1 482 := ⟨by decide +kernel, rfl⟩
theorem d_L_law_482 : xd code 482 (.iadd) 1 483 := ⟨by decide +kernel, rfl⟩
theorem d_L_law_483 : xd code 483 (.iaload) 1 484 := ⟨by decide +kernel, rfl⟩
theorem d_L_law_484 : xd code 484 (.aload_n 0) 1 485 := ⟨by decide +kernel, rfl⟩
theorem d_L_law_485 : xd code 485 (.iload_n 3) 1 486 := ⟨by decide +kernel, rfl⟩
theorem d_L_law_486 : xd code 486 (.iconst 3) 1 487 := ⟨by decide +kernel, rfl⟩
theorem d_L_law_487 : xd code 487 (.iadd) 1 488 := ⟨by decide +kernel, rfl⟩
theorem d_L_law_488 : xd code 488 (.iaload) 1 489 := ⟨by decide +kernel, rfl⟩
theorem d_L_law_489 : xd code 489 (.invokevirtual 69) 3 492 := ⟨by decide +kernel, rfl⟩
theorem d_L_law_492 : xb code 492 (.if_icmp .eq 203) 203 495 695 := ⟨by decide +kernel, rfl, by decide⟩
theorem d_L_law_495 : xd code 495 (.iconst 0) 1 496 := ⟨by decide +kernel, rfl⟩
theorem d_L_law_496 : xd code 496 (.ireturn) 1 497 := ⟨by decide +kernel, rfl⟩
theorem d_L_law_497 : xd code 497 (.aload_n 1) 1 498 := ⟨by decide +kernel, rfl⟩
theorem d_L_law_498 : xd code 498 (.aload_n 0) 1 499 := ⟨by decide +kernel, rfl⟩
theorem d_L_law_499 : xd code 499 (.iload_n 3) 1 500 := ⟨by decide +kernel, rfl⟩
theorem d_L_law_500 : xd code 500 (.iconst 1) 1 501 := ⟨by decide +kernel, rfl⟩
theorem d_L_law_501 : xd code 501 (.iadd) 1 502 := ⟨by decide +kernel, rfl⟩
theorem d_L_law_502 : xd code 502 (.iaload) 1 503 := ⟨by decide +kernel, rfl⟩
theorem d_L_law_503 : xd code 503 (.aload_n 0) 1 504 := ⟨by decide +kernel, rfl⟩
theorem d_L_law_504 : xd code 504 (.iload_n 3) 1 505 := ⟨by decide +kernel, rfl⟩
theorem d_L_law_505 : xd code 505 (.iconst 2) 1 506 := ⟨by decide +kernel, rfl⟩
theorem d_L_law_506 : xd code 506 (.iadd) 1 507 := ⟨by decide +kernel, rfl⟩
theorem d_L_law_507 : xd code 507 (.iaload) 1 508 := ⟨by decide +kernel, rfl⟩
theorem d_L_law_508 : xd code 508 (.aload_n 0) 1 509 := ⟨by decide +kernel, rfl⟩
theorem d_L_law_509 : xd code 509 (.iload_n 3) 1 510 := ⟨by decide +kernel, rfl⟩
theorem d_L_law_510 : xd code 510 (.iconst 3) 1 511 := ⟨by decide +kernel, rfl⟩
theorem d_L_law_511 : xd code 511 (.iadd) 1 512 := ⟨by decide +kernel, rfl⟩
theorem d_L_law_512 : xd code 512 (.iaload) 1 513 := ⟨by decide +kernel, rfl⟩
theorem d_L_law_513 : xd code 513 (.invokevirtual 70) 3 516 := ⟨by decide +kernel, rfl⟩
theorem d_L_law_516 : xd code 516 (.aload_n 2) 1 517 := ⟨by decide +kernel, rfl⟩
theorem d_L_law_517 : xd code 517 (.aload_n 0) 1 518 := ⟨by decide +kernel, rfl⟩
theorem d_L_law_518 : xd code 518 (.iload_n 3) 1 519 := ⟨by decide +kernel, rfl⟩
theorem d_L_law_519 : xd code 519 (.iconst 1) 1 520 := ⟨by decide +kernel, rfl⟩
theorem d_L_law_520 : xd code 520 (.iadd) 1 521 := ⟨by decide +kernel, rfl⟩
theorem d_L_law_521 : xd code 521 (.iaload) 1 522 := ⟨by decide +kernel, rfl⟩
theorem d_L_law_522 : xd code 522 (.aload_n 0) 1 523 := ⟨by decide +kernel, rfl⟩
theorem d_L_law_523 : xd code 523 (.iload_n 3) 1 524 := ⟨by decide +kernel, rfl⟩
theorem d_L_law_524 : xd code 524 (.iconst 2) 1 525 := ⟨by decide +kernel, rfl⟩
theorem d_L_law_525 : xd code 525 (.iadd) 1 526 := ⟨by decide +kernel, rfl⟩
theorem d_L_law_526 : xd code 526 (.iaload) 1 527 := ⟨by decide +kernel, rfl⟩
theorem d_L_law_527 : xd code 527 (.aload_n 0) 1 528 := ⟨by decide +kernel, rfl⟩
theorem d_L_law_528 : xd code 528 (.iload_n 3) 1 529 := ⟨by decide +kernel, rfl⟩
theorem d_L_law_529 : xd code 529 (.iconst 3) 1 530 := ⟨by decide +kernel, rfl⟩
theorem d_L_law_530 : xd code 530 (.iadd) 1 531 := ⟨by decide +kernel, rfl⟩
theorem d_L_law_531 : xd code 531 (.iaload) 1 532 := ⟨by decide +kernel, rfl⟩
theorem d_L_law_532 : xd code 532 (.invokevirtual 73) 3 535 := ⟨by decide +kernel, rfl⟩
theorem d_L_law_535 : xb code 535 (.if_icmp .eq 160) 160 538 695 := ⟨by decide +kernel, rfl, by decide⟩
theorem d_L_law_538 : xd code 538 (.iconst 0) 1 539 := ⟨by decide +kernel, rfl⟩
theorem d_L_law_539 : xd code 539 (.ireturn) 1 540 := ⟨by decide +kernel, rfl⟩
theorem d_L_law_540 : xd code 540 (.aload_n 1) 1 541 := ⟨by decide +kernel, rfl⟩
theorem d_L_law_541 : xd code 541 (.aload_n 0) 1 542 := ⟨by decide +kernel, rfl⟩
theorem d_L_law_542 : xd code 542 (.iload_n 3) 1 543 := ⟨by decide +kernel, rfl⟩
theorem d_L_law_543 : xd code 543 (.iconst 1) 1 544 := ⟨by decide +kernel, rfl⟩
theorem d_L_law_544 : xd code 544 (.iadd) 1 545 := ⟨by decide +kernel, rfl⟩
theorem d_L_law_545 : xd code 545 (.iaload) 1 546 := ⟨by decide +kernel, rfl⟩
theorem d_L_law_546 : xd code 546 (.aload_n 0) 1 547 := ⟨by decide +kernel, rfl⟩
theorem d_L_law_547 : xd code 547 (.iload_n 3) 1 548 := ⟨by decide +kernel, rfl⟩
theorem d_L_law_548 : xd code 548 (.iconst 2) 1 549 := ⟨by decide +kernel, rfl⟩
theorem d_L_law_549 : xd code 549 (.iadd) 1 550 := ⟨by decide +kernel, rfl⟩
theorem d_L_law_550 : xd code 550 (.iaload) 1 551 := ⟨by decide +kernel, rfl⟩
theorem d_L_law_551 : xd code 551 (.aload_n 0) 1 552 := ⟨by decide +kernel, rfl⟩
theorem d_L_law_552 : xd code 552 (.iload_n 3) 1 553 := ⟨by decide +kernel, rfl⟩
theorem d_L_law_553 : xd code 553 (.iconst 3) 1 554 := ⟨by decide +kernel, rfl⟩
theorem d_L_law_554 : xd code 554 (.iadd) 1 555 := ⟨by decide +kernel, rfl⟩
theorem d_L_law_555 : xd code 555 (.iaload) 1 556 := ⟨by decide +kernel, rfl⟩
theorem d_L_law_556 : xd code 556 (.invokevirtual 74) 3 559 := ⟨by decide +kernel, rfl⟩
theorem d_L_law_559 : xd code 559 (.aload_n 2) 1 560 := ⟨by decide +kernel, rfl⟩
theorem d_L_law_560 : xd code 560 (.aload_n 0) 1 561 := ⟨by decide +kernel, rfl⟩
theorem d_L_law_561 : xd code 561 (.iload_n 3) 1 562 := ⟨by decide +kernel, rfl⟩
theorem d_L_law_562 : xd code 562 (.iconst 1) 1 563 := ⟨by decide +kernel, rfl⟩
theorem d_L_law_563 : xd code 563 (.iadd) 1 564 := ⟨by decide +kernel, rfl⟩
theorem d_L_law_564 : xd code 564 (.iaload) 1 565 := ⟨by decide +kernel, rfl⟩
theorem d_L_law_565 : xd code 565 (.aload_n 0) 1 566 := ⟨by decide +kernel, rfl⟩
theorem d_L_law_566 : xd code 566 (.iload_n 3) 1 567 := ⟨by decide +kernel, rfl⟩
theorem d_L_law_567 : xd code 567 (.iconst 2) 1 568 := ⟨by decide +kernel, rfl⟩
theorem d_L_law_568 : xd code 568 (.iadd) 1 569 := ⟨by decide +kernel, rfl⟩
theorem d_L_law_569 : xd code 569 (.iaload) 1 570 := ⟨by decide +kernel, rfl⟩
theorem d_L_law_570 : xd code 570 (.aload_n 0) 1 571 := ⟨by decide +kernel, rfl⟩
theorem d_L_law_571 : xd code 571 (.iload_n 3) 1 572 := ⟨by decide +kernel, rfl⟩
theorem d_L_law_572 : xd code 572 (.iconst 3) 1 573 := ⟨by decide +kernel, rfl⟩
theorem d_L_law_573 : xd code 573 (.iadd) 1 574 := ⟨by decide +kernel, rfl⟩
theorem d_L_law_574 : xd code 574 (.iaload) 1 575 := ⟨by decide +kernel, rfl⟩
theorem d_L_law_575 : xd code 575 (.invokevirtual 77) 3 578 := ⟨by decide +kernel, rfl⟩
theorem d_L_law_578 : xb code 578 (.if_icmp .eq 117) 117 581 695 := ⟨by decide +kernel, rfl, by decide⟩
theorem d_L_law_581 : xd code 581 (.iconst 0) 1 582 := ⟨by decide +kernel, rfl⟩
theorem d_L_law_582 : xd code 582 (.ireturn) 1 583 := ⟨by decide +kernel, rfl⟩
theorem d_L_law_583 : xd code 583 (.aload_n 1) 1 584 := ⟨by decide +kernel, rfl⟩
theorem d_L_law_584 : xd code 584 (.aload_n 0) 1 585 := ⟨by decide +kernel, rfl⟩
theorem d_L_law_585 : xd code 585 (.iload_n 3) 1 586 := ⟨by decide +kernel, rfl⟩
theorem d_L_law_586 : xd code 586 (.iconst 1) 1 587 := ⟨by decide +kernel, rfl⟩
theorem d_L_law_587 : xd code 587 (.iadd) 1 588 := ⟨by decide +kernel, rfl⟩
theorem d_L_law_588 : xd code 588 (.iaload) 1 589 := ⟨by decide +kernel, rfl⟩
theorem d_L_law_589 : xd code 589 (.aload_n 0) 1 590 := ⟨by decide +kernel, rfl⟩
theorem d_L_law_590 : xd code 590 (.iload_n 3) 1 591 := ⟨by decide +kernel, rfl⟩
theorem d_L_law_591 : xd code 591 (.iconst 2) 1 592 := ⟨by decide +kernel, rfl⟩
theorem d_L_law_592 : xd code 592 (.iadd) 1 593 := ⟨by decide +kernel, rfl⟩
theorem d_L_law_593 : xd code 593 (.iaload) 1 594 := ⟨by decide +kernel, rfl⟩
theorem d_L_law_594 : xd code 594 (.invokevirtual 78) 3 597 := ⟨by decide +kernel, rfl⟩
theorem d_L_law_597 : xd code 597 (.aload_n 2) 1 598 := ⟨by decide +kernel, rfl⟩
theorem d_L_law_598 : xd code 598 (.aload_n 0) 1 599 := ⟨by decide +kernel, rfl⟩
theorem d_L_law_599 : xd code 599 (.iload_n 3) 1 600 := ⟨by decide +kernel, rfl⟩
theorem d_L_law_600 : xd code 600 (.iconst 1) 1 601 := ⟨by decide +kernel, rfl⟩
theorem d_L_law_601 : xd code 601 (.iadd) 1 602 := ⟨by decide +kernel, rfl⟩
theorem d_L_law_602 : xd code 602 (.iaload) 1 603 := ⟨by decide +kernel, rfl⟩
theorem d_L_law_603 : xd code 603 (.aload_n 0) 1 604 := ⟨by decide +kernel, rfl⟩
theorem d_L_law_604 : xd code 604 (.iload_n 3) 1 605 := ⟨by decide +kernel, rfl⟩
theorem d_L_law_605 : xd code 605 (.iconst 2) 1 606 := ⟨by decide +kernel, rfl⟩
theorem d_L_law_606 : xd code 606 (.iadd) 1 607 := ⟨by decide +kernel, rfl⟩
theorem d_L_law_607 : xd code 607 (.iaload) 1 608 := ⟨by decide +kernel, rfl⟩
theorem d_L_law_608 : xd code 608 (.invokevirtual 81) 3 611 := ⟨by decide +kernel, rfl⟩
theorem d_L_law_611 : xb code 611 (.if_icmp .eq 84) 84 614 695 := ⟨by decide +kernel, rfl, by decide⟩
theorem d_L_law_614 : xd code 614 (.iconst 0) 1 615 := ⟨by decide +kernel, rfl⟩
theorem d_L_law_615 : xd code 615 (.ireturn) 1 616 := ⟨by decide +kernel, rfl⟩
theorem d_L_law_616 : xd code 616 (.aload_n 1) 1 617 := ⟨by decide +kernel, rfl⟩
theorem d_L_law_617 : xd code 617 (.aload_n 0) 1 618 := ⟨by decide +kernel, rfl⟩
theorem d_L_law_618 : xd code 618 (.iload_n 3) 1 619 := ⟨by decide +kernel, rfl⟩
theorem d_L_law_619 : xd code 619 (.iconst 1) 1 620 := ⟨by decide +kernel, rfl⟩
theorem d_L_law_620 : xd code 620 (.iadd) 1 621 := ⟨by decide +kernel, rfl⟩
theorem d_L_law_621 : xd code 621 (.iaload) 1 622 := ⟨by decide +kernel, rfl⟩
theorem d_L_law_622 : xd code 622 (.invokevirtual 82) 3 625 := ⟨by decide +kernel, rfl⟩
theorem d_L_law_625 : xd code 625 (.aload_n 2) 1 626 := ⟨by decide +kernel, rfl⟩
theorem d_L_law_626 : xd code 626 (.aload_n 0) 1 627 := ⟨by decide +kernel, rfl⟩
theorem d_L_law_627 : xd code 627 (.iload_n 3) 1 628 := ⟨by decide +kernel, rfl⟩
theorem d_L_law_628 : xd code 628 (.iconst 1) 1 629 := ⟨by decide +kernel, rfl⟩
theorem d_L_law_629 : xd code 629 (.iadd) 1 630 := ⟨by decide +kernel, rfl⟩
theorem d_L_law_630 : xd code 630 (.iaload) 1 631 := ⟨by decide +kernel, rfl⟩
theorem d_L_law_631 : xd code 631 (.invokevirtual 85) 3 634 := ⟨by decide +kernel, rfl⟩
theorem d_L_law_634 : xb code 634 (.if_icmp .eq 61) 61 637 695 := ⟨by decide +kernel, rfl, by decide⟩
theorem d_L_law_637 : xd code 637 (.iconst 0) 1 638 := ⟨by decide +kernel, rfl⟩
theorem d_L_law_638 : xd code 638 (.ireturn) 1 639 := ⟨by decide +kernel, rfl⟩
theorem d_L_law_639 : xd code 639 (.aload_n 1) 1 640 := ⟨by decide +kernel, rfl⟩
theorem d_L_law_640 : xd code 640 (.aload_n 0) 1 641 := ⟨by decide +kernel, rfl⟩
theorem d_L_law_641 : xd code 641 (.iload_n 3) 1 642 := ⟨by decide +kernel, rfl⟩
theorem d_L_law_642 : xd code 642 (.iconst 1) 1 643 := ⟨by decide +kernel, rfl⟩
theorem d_L_law_643 : xd code 643 (.iadd) 1 644 := ⟨by decide +kernel, rfl⟩
theorem d_L_law_644 : xd code 644 (.iaload) 1 645 := ⟨by decide +kernel, rfl⟩
theorem d_L_law_645 : xd code 645 (.invokevirtual 86) 3 648 := ⟨by decide +kernel, rfl⟩
theorem d_L_law_648 : xd code 648 (.aload_n 2) 1 649 := ⟨by decide +kernel, rfl⟩
theorem d_L_law_649 : xd code 649 (.aload_n 0) 1 650 := ⟨by decide +kernel, rfl⟩
theorem d_L_law_650 : xd code 650 (.iload_n 3) 1 651 := ⟨by decide +kernel, rfl⟩
theorem d_L_law_651 : xd code 651 (.iconst 1) 1 652 := ⟨by decide +kernel, rfl⟩
theorem d_L_law_652 : xd code 652 (.iadd) 1 653 := ⟨by decide +kernel, rfl⟩
theorem d_L_law_653 : xd code 653 (.iaload) 1 654 := ⟨by decide +kernel, rfl⟩
theorem d_L_law_654 : xd code 654 (.invokevirtual 89) 3 657 := ⟨by decide +kernel, rfl⟩
theorem d_L_law_657 : xb code 657 (.if_icmp .eq 38) 38 660 695 := ⟨by decide +kernel, rfl, by decide⟩
theorem d_L_law_660 : xd code 660 (.iconst 0) 1 661 := ⟨by decide +kernel, rfl⟩
theorem d_L_law_661 : xd code 661 (.ireturn) 1 662 := ⟨by decide +kernel, rfl⟩
theorem d_L_law_662 : xd code 662 (.aload_n 1) 1 663 := ⟨by decide +kernel, rfl⟩
theorem d_L_law_663 : xd code 663 (.aload_n 0) 1 664 := ⟨by decide +kernel, rfl⟩
theorem d_L_law_664 : xd code 664 (.iload_n 3) 1 665 := ⟨by decide +kernel, rfl⟩
theorem d_L_law_665 : xd code 665 (.iconst 1) 1 666 := ⟨by decide +kernel, rfl⟩
theorem d_L_law_666 : xd code 666 (.iadd) 1 667 := ⟨by decide +kernel, rfl⟩
theorem d_L_law_667 : xd code 667 (.iaload) 1 668 := ⟨by decide +kernel, rfl⟩
theorem d_L_law_668 : xd code 668 (.aload_n 0) 1 669 := ⟨by decide +kernel, rfl⟩
theorem d_L_law_669 : xd code 669 (.iload_n 3) 1 670 := ⟨by decide +kernel, rfl⟩
theorem d_L_law_670 : xd code 670 (.iconst 2) 1 671 := ⟨by decide +kernel, rfl⟩
theorem d_L_law_671 : xd code 671 (.iadd) 1 672 := ⟨by decide +kernel, rfl⟩
theorem d_L_law_672 : xd code 672 (.iaload) 1 673 := ⟨by decide +kernel, rfl⟩
theorem d_L_law_673 : xd code 673 (.invokevirtual 90) 3 676 := ⟨by decide +kernel, rfl⟩
theorem d_L_law_676 : xd code 676 (.aload_n 2) 1 677 := ⟨by decide +kernel, rfl⟩
theorem d_L_law_677 : xd code 677 (.aload_n 0) 1 678 := ⟨by decide +kernel, rfl⟩
theorem d_L_law_678 : xd code 678 (.iload_n 3) 1 679 := ⟨by decide +kernel, rfl⟩
theorem d_L_law_679 : xd code 679 (.iconst 1) 1 680 := ⟨by decide +kernel, rfl⟩
theorem d_L_law_680 : xd code 680 (.iadd) 1 681 := ⟨by decide +kernel, rfl⟩
theorem d_L_law_681 : xd code 681 (.iaload) 1 682 := ⟨by decide +kernel, rfl⟩
theorem d_L_law_682 : xd code 682 (.aload_n 0) 1 683 := ⟨by decide +kernel, rfl⟩
theorem d_L_law_683 : xd code 683 (.iload_n 3) 1 684 := ⟨by decide +kernel, rfl⟩
theorem d_L_law_684 : xd code 684 (.iconst 2) 1 685 := ⟨by decide +kernel, rfl⟩
theorem d_L_law_685 : xd code 685 (.iadd) 1 686 := ⟨by decide +kernel, rfl⟩
theorem d_L_law_686 : xd code 686 (.iaload) 1 687 := ⟨by decide +kernel, rfl⟩
theorem d_L_law_687 : xd code 687 (.invokevirtual 93) 3 690 := ⟨by decide +kernel, rfl⟩
theorem d_L_law_690 : xb code 690 (.if_icmp .eq 5) 5 693 695 := ⟨by decide +kernel, rfl, by decide⟩
theorem d_L_law_693 : xd code 693 (.iconst 0) 1 694 := ⟨by decide +kernel, rfl⟩
theorem d_L_law_694 : xd code 694 (.ireturn) 1 695 := ⟨by decide +kernel, rfl⟩
theorem d_L_law_695 : xd code 695 (.iinc 3 5) 3 698 := ⟨by decide +kernel, rfl⟩
theorem d_L_law_698 : xb code 698 (.goto (-670)) (-670) 701 28 := ⟨by decide +kernel, rfl, by decide⟩
theorem d_L_law_701 : xd code 701 (.iconst 1) 1 702 := ⟨by decide +kernel, rfl⟩
theorem d_L_law_702 : xd code 702 (.ireturn) 1 703 := ⟨by decide +kernel, rfl⟩
theorem d_law_sw : decode code 42 = .ok (.tableswitch 653 0 16 #[82, 95, 108, 131, 174, 217, 270, 303, 336, 369, 412, 455, 498, 541, 574, 597, 620], 82) := by decide +kernel
end
section
/-! PageRangeStore: the small methods -/
def bI (b : Bool) : Int32 := nI b.toNat
theorem bI_t {c : Prop} [Decidable c] (h : c) : nI 1 = bI (decide c) := by rw [decide_eq_true h]; rfl
theorem bI_f {c : Prop} [Decidable c] (h : ¬ c) : nI 0 = bI (decide c) := by rw [decide_eq_false h]; rfl
theorem bI_0 {b : Bool} : bI b = 0 ↔ b = false := by cases b <;> decide +kernel
theorem bI_1 {b : Bool} : bI b = nI 1 ↔ b = true := by cases b <;> decide +kernel
theorem nI0 : nI 0 = (0 : Int32) := by decide +kernel
theorem nI1 : nI 1 = (1 : Int32) := by decide +kernel
/-- page p is mapped -/
def hasB (σ : xT) (p : Nat) : Bool := decide ((σ 5 (p / 4) >>> (nI (p % 4) &&& 31)) &&& nI 1 = nI 1)
theorem sh2 {p : Nat} (h : p < 64) : nI p >>> (nI 2 &&& 31) = nI (p / 4) := pk_shrN (by omega) _ 2 (by decide +kernel)
theorem an3 {p : Nat} (h : p < 64) : nI p &&& nI 3 = nI (p % 4) := pk_andN (by omega) 2 (by decide +kernel)
theorem zb_bI (b : Bool) : zb (bI b) := by cases b <;> simp [zb, bI]
theorem c_X_has (a : xA) (σ : xT) {p : Nat} (hp : p < 64) : MI a (xP a) y_X_has b_X_has 2 (some .boolean) 0 [.ref (a.2.2.2 0), .int (nI p)] σ (fun r u => u = σ ∧ r = bI (hasB σ p)) := by
  refine MI.ofZ (L0 := [some (.ref (a.2.2.2 0)), some (.int (nI p))]) (by decide) (by simp [Value.category]) (Nat.le_of_ble_eq_true rfl) rfl (fun _ => rfl) (fun Γ C E => ?_)
  refine x_aload0 C d_X_has_0 ?_
  refine x_g5 C d_X_has_1 ?_
  refine x_iload1 C d_X_has_4 ?_
  refine x_iconst C d_X_has_5 kI_2 ?_
  refine x_ishr C d_X_has_6 (sh2 hp) ?_
  refine x_ld5 C d_X_has_7 (by omega) ?_
  refine x_iload1 C d_X_has_8 ?_
  refine x_iconst C d_X_has_9 kI_3 ?_
  refine x_iand C d_X_has_10 (an3 hp) ?_
  refine x_ishr C d_X_has_11 rfl ?_
  refine x_iconst C d_X_has_12 kI_1 ?_
  refine x_iand C d_X_has_13 rfl ?_
  refine x_iconst C d_X_has_14 kI_1 ?_
  refine x_icmp_ne C d_X_has_15 (fun h => ?_) (fun h => ?_)
  · refine x_iconst C d_X_has_22 kI_0 ?_
    exact E d_X_has_23 ⟨zb_0, rfl, bI_f h⟩
  · refine x_iconst C d_X_has_18 kI_1 ?_
    refine x_goto C d_X_has_19 ?_
    exact E d_X_has_23 ⟨zb_1, rfl, bI_t h⟩
def spB (s : Int32) : Bool := decide (s = 0 ∨ s = nI 1)
def pgB (g : Int32) : Bool := decide (¬ g < 0 ∧ ¬ nI 32 ≤ g)
def rgB (g c : Int32) : Bool := decide (¬ c < nI 1 ∧ ¬ nI 32 < c ∧ ¬ g < 0 ∧ ¬ nI 32 - c < g)
section Statics
variable {S : Type} {wf : S → va_W}
theorem c_X_isSpace (a : xA) (hadr : ∀ u v : S, (wf u).map Prod.fst = (wf v).map Prod.fst) (σ : S) (s : Int32) : MI a wf y_X_isSpace b_X_isSpace 1 (some .boolean) 0 [.int s] σ (fun r u => u = σ ∧ r = bI (spB s)) := by
  refine MI.ofZ (L0 := [some (.int s)]) (by decide) (by simp [Value.category]) (Nat.le_of_ble_eq_true rfl) rfl (fun _ => hadr _ _) (fun Γ C E => ?_)
  refine x_iload0 C d_X_isSpace_0 ?_
  refine x_if_eq C d_X_isSpace_1 (fun h => ?_) (fun h => ?_)
  · refine x_iconst C d_X_isSpace_9 kI_1 ?_
    refine x_goto C d_X_isSpace_10 ?_
    exact E d_X_isSpace_14 ⟨zb_1, rfl, bI_t (Or.inl h)⟩
  · refine x_iload0 C d_X_isSpace_4 ?_
    refine x_iconst C d_X_isSpace_5 kI_1 ?_
    refine x_icmp_ne C d_X_isSpace_6 (fun h2 => ?_) (fun h2 => ?_)
    · refine x_iconst C d_X_isSpace_13 kI_0 ?_
      exact E d_X_isSpace_14 ⟨zb_0, rfl, bI_f (fun q => q.elim h h2)⟩
    · refine x_iconst C d_X_isSpace_9 kI_1 ?_
      refine x_goto C d_X_isSpace_10 ?_
      exact E d_X_isSpace_14 ⟨zb_1, rfl, bI_t (Or.inr h2)⟩
theorem c_X_isPage (a : xA) (hadr : ∀ u v : S, (wf u).map Prod.fst = (wf v).map Prod.fst) (σ : S) (g : Int32) : MI a wf y_X_isPage b_X_isPage 1 (some .boolean) 0 [.int g] σ (fun r u => u = σ ∧ r = bI (pgB g)) := by
  refine MI.ofZ (L0 := [some (.int g)]) (by decide) (by simp [Value.category]) (Nat.le_of_ble_eq_true rfl) rfl (fun _ => hadr _ _) (fun Γ C E => ?_)
  refine x_iload0 C d_X_isPage_0 ?_
  refine x_if_lt C d_X_isPage_1 (fun h => ?_) (fun h => ?_)
  · refine x_iconst C d_X_isPage_14 kI_0 ?_
    exact E d_X_isPage_15 ⟨zb_0, rfl, bI_f (fun q => q.1 h)⟩
  · refine x_iload0 C d_X_isPage_4 ?_
    refine x_bipush C d_X_isPage_5 kB_32 ?_
    refine x_icmp_ge C d_X_isPage_7 (fun h2 => ?_) (fun h2 => ?_)
    · refine x_iconst C d_X_isPage_14 kI_0 ?_
      exact E d_X_isPage_15 ⟨zb_0, rfl, bI_f (fun q => q.2 h2)⟩
    · refine x_iconst C d_X_isPage_10 kI_1 ?_
      refine x_goto C d_X_isPage_11 ?_
      exact E d_X_isPage_15 ⟨zb_1, rfl, bI_t ⟨h, h2⟩⟩
theorem c_X_isRange (a : xA) (hadr : ∀ u v : S, (wf u).map Prod.fst = (wf v).map Prod.fst) (σ : S) (g k : Int32) : MI a wf y_X_isRange b_X_isRange 2 (some .boolean) 0 [.int g, .int k] σ (fun r u => u = σ ∧ r = bI (rgB g k)) := by
  refine MI.ofZ (L0 := [some (.int g), some (.int k)]) (by decide) (by simp [Value.category]) (Nat.le_of_ble_eq_true rfl) rfl (fun _ => hadr _ _) (fun Γ C E => ?_)
  refine x_iload1 C d_X_isRange_0 ?_
  refine x_iconst C d_X_isRange_1 kI_1 ?_
  refine x_icmp_lt C d_X_isRange_2 (fun h => ?_) (fun h => ?_)
  · refine x_iconst C d_X_isRange_27 kI_0 ?_
    exact E d_X_isRange_28 ⟨zb_0, rfl, bI_f (fun q => q.1 h)⟩
  · refine x_iload1 C d_X_isRange_5 ?_
    refine x_bipush C d_X_isRange_6 kB_32 ?_
    refine x_icmp_gt C d_X_isRange_8 (fun h2 => ?_) (fun h2 => ?_)
    · refine x_iconst C d_X_isRange_27 kI_0 ?_
      exact E d_X_isRange_28 ⟨zb_0, rfl, bI_f (fun q => q.2.1 h2)⟩
    · refine x_iload0 C d_X_isRange_11 ?_
      refine x_if_lt C d_X_isRange_12 (fun h3 => ?_) (fun h3 => ?_)
      · refine x_iconst C d_X_isRange_27 kI_0 ?_
        exact E d_X_isRange_28 ⟨zb_0, rfl, bI_f (fun q => q.2.2.1 h3)⟩
      · refine x_iload0 C d_X_isRange_15 ?_
        refine x_bipush C d_X_isRange_16 kB_32 ?_
        refine x_iload1 C d_X_isRange_18 ?_
        refine x_isub C d_X_isRange_19 rfl ?_
        refine x_icmp_gt C d_X_isRange_20 (fun h4 => ?_) (fun h4 => ?_)
        · refine x_iconst C d_X_isRange_27 kI_0 ?_
          exact E d_X_isRange_28 ⟨zb_0, rfl, bI_f (fun q => q.2.2.2 h4)⟩
        · refine x_iconst C d_X_isRange_23 kI_1 ?_
          refine x_goto C d_X_isRange_24 ?_
          exact E d_X_isRange_28 ⟨zb_1, rfl, bI_t ⟨h, h2, h3, h4⟩⟩
def btS (x : Int32) : Nat → Int32
  | 0 => nI 0
  | k + 1 => btS x k + ((x >>> (nI k &&& 31)) &&& nI 1)
theorem c_X_bits (a : xA) (hadr : ∀ u v : S, (wf u).map Prod.fst = (wf v).map Prod.fst) (σ : S) (x : Int32) : MI a wf y_X_bits b_X_bits 3 (some .int) 0 [.int x] σ (fun r u => u = σ ∧ r = btS x 4) := by
  refine MI.ofI (L0 := [some (.int x), none, none]) (by decide) (by simp [Value.category]) (Nat.le_of_ble_eq_true rfl) rfl (fun _ => hadr _ _) (fun Γ C E => ?_)
  have loop : ∀ n k, k + n = 4 → xW Γ a wf σ 4 [some (.int x), some (.int (btS x k)), some (.int (nI k))] [] := by
    intro n
    induction n with
    | zero =>
      intro k hk
      have hk : k = 4 := by omega
      subst hk
      refine x_iload2 C d_X_bits_4 ?_
      refine x_iconst C d_X_bits_5 kI_4 ?_
      refine x_icmp_geN C d_X_bits_6 (by omega) (by omega) (fun h => ?_) (fun h => ?_)
      · refine x_iload1 C d_X_bits_23 ?_
        exact E d_X_bits_24 ⟨rfl, rfl⟩
      · exact absurd h (by omega)
    | succ n ih =>
      intro k hk
      refine x_iload2 C d_X_bits_4 ?_
      refine x_iconst C d_X_bits_5 kI_4 ?_
      refine x_icmp_geN C d_X_bits_6 (by omega) (by omega) (fun h => ?_) (fun h => ?_)
      · exact absurd h (by omega)
      · refine x_iload1 C d_X_bits_9 ?_
        refine x_iload0 C d_X_bits_10 ?_
        refine x_iload2 C d_X_bits_11 ?_
        refine x_ishr C d_X_bits_12 rfl ?_
        refine x_iconst C d_X_bits_13 kI_1 ?_
        refine x_iand C d_X_bits_14 rfl ?_
        refine x_iadd C d_X_bits_15 rfl ?_
        refine x_istore1 C d_X_bits_16 ?_
        refine x_iincN2 C d_X_bits_17 ?_
        refine x_goto C d_X_bits_20 ?_
        exact ih (k + 1) (by omega)
  refine x_iconst C d_X_bits_0 kI_0 ?_
  refine x_istore1 C d_X_bits_1 ?_
  refine x_iconst C d_X_bits_2 kI_0 ?_
  refine x_istore2 C d_X_bits_3 ?_
  exact loop 4 0 rfl
end Statics
/-- the frame behind a page, and its right to be written -/
def trF (σ : xT) (p : Nat) : Int32 := if σ 6 (p / 4) = 0 then σ 2 p else σ 4 (p / 4) + nI (p % 4)
def mwF (σ : xT) (p : Nat) : Int32 := if σ 6 (p / 4) = 0 then σ 3 p else σ 7 (p / 4)
theorem c_X_translate (a : xA) (σ : xT) {p : Nat} (hp : p < 64) : MI a (xP a) y_X_translate b_X_translate 3 (some .int) 0 [.ref (a.2.2.2 0), .int (nI p)] σ (fun r u => u = σ ∧ r = trF σ p) := by
  refine MI.ofI (L0 := [some (.ref (a.2.2.2 0)), some (.int (nI p)), none]) (by decide) (by simp [Value.category]) (Nat.le_of_ble_eq_true rfl) rfl (fun _ => rfl) (fun Γ C E => ?_)
  refine x_iload1 C d_X_translate_0 ?_
  refine x_iconst C d_X_translate_1 kI_2 ?_
  refine x_ishr C d_X_translate_2 (sh2 hp) ?_
  refine x_istore2 C d_X_translate_3 ?_
  refine x_aload0 C d_X_translate_4 ?_
  refine x_g6 C d_X_translate_5 ?_
  refine x_iload2 C d_X_translate_8 ?_
  refine x_ld6 C d_X_translate_9 (by omega) ?_
  refine x_if_eq C d_X_translate_10 (fun h => ?_) (fun h => ?_)
  · refine x_aload0 C d_X_translate_26 ?_
    refine x_g2 C d_X_translate_27 ?_
    refine x_iload1 C d_X_translate_30 ?_
    refine x_ld2 C d_X_translate_31 (by omega) ?_
    exact E d_X_translate_32 ⟨rfl, by rw [trF, if_pos h]⟩
  · refine x_aload0 C d_X_translate_13 ?_
    refine x_g4 C d_X_translate_14 ?_
    refine x_iload2 C d_X_translate_17 ?_
    refine x_ld4 C d_X_translate_18 (by omega) ?_
    refine x_iload1 C d_X_translate_19 ?_
    refine x_iconst C d_X_translate_20 kI_3 ?_
    refine x_iand C d_X_translate_21 (an3 hp) ?_
    refine x_iadd C d_X_translate_22 rfl ?_
    refine x_goto C d_X_translate_23 ?_
    exact E d_X_translate_32 ⟨rfl, by rw [trF, if_neg h]⟩
theorem c_X_mayWrite (a : xA) (σ : xT) {p : Nat} (hp : p < 64) (hz : zb (mwF σ p)) : MI a (xP a) y_X_mayWrite b_X_mayWrite 2 (some .boolean) 0 [.ref (a.2.2.2 0), .int (nI p)] σ (fun r u => u = σ ∧ r = mwF σ p) := by
  refine MI.ofZ (L0 := [some (.ref (a.2.2.2 0)), some (.int (nI p))]) (by decide) (by simp [Value.category]) (Nat.le_of_ble_eq_true rfl) rfl (fun _ => rfl) (fun Γ C E => ?_)
  refine x_aload0 C d_X_mayWrite_0 ?_
  refine x_g6 C d_X_mayWrite_1 ?_
  refine x_iload1 C d_X_mayWrite_4 ?_
  refine x_iconst C d_X_mayWrite_5 kI_2 ?_
  refine x_ishr C d_X_mayWrite_6 (sh2 hp) ?_
  refine x_ld6 C d_X_mayWrite_7 (by omega) ?_
  refine x_if_eq C d_X_mayWrite_8 (fun h => ?_) (fun h => ?_)
  · refine x_aload0 C d_X_mayWrite_22 ?_
    refine x_g3 C d_X_mayWrite_23 ?_
    refine x_iload1 C d_X_mayWrite_26 ?_
    refine x_ld3 C d_X_mayWrite_27 (by omega) ?_
    have e : mwF σ p = σ 3 p := by rw [mwF, if_pos h]
    exact E d_X_mayWrite_28 ⟨e ▸ hz, rfl, e.symm⟩
  · refine x_aload0 C d_X_mayWrite_11 ?_
    refine x_g7 C d_X_mayWrite_12 ?_
    refine x_iload1 C d_X_mayWrite_15 ?_
    refine x_iconst C d_X_mayWrite_16 kI_2 ?_
    refine x_ishr C d_X_mayWrite_17 (sh2 hp) ?_
    refine x_ld7 C d_X_mayWrite_18 (by omega) ?_
    refine x_goto C d_X_mayWrite_19 ?_
    have e : mwF σ p = σ 7 (p / 4) := by rw [mwF, if_neg h]
    exact E d_X_mayWrite_28 ⟨e ▸ hz, rfl, e.symm⟩
theorem c_X_content (a : xA) (σ : xT) {p f : Nat} (hp : p < 64) (hf : trF σ p = nI f) (hf2 : f < 48) : MI a (xP a) y_X_content b_X_content 3 (some .int) 1 [.ref (a.2.2.2 0), .int (nI p)] σ (fun r u => u = σ ∧ r = σ 0 f) := by
  refine MI.ofI (L0 := [some (.ref (a.2.2.2 0)), some (.int (nI p)), none]) (by decide) (by simp [Value.category]) (Nat.le_of_ble_eq_true rfl) rfl (fun _ => rfl) (fun Γ C E => ?_)
  refine x_aload0 C d_X_content_0 ?_
  refine x_iload1 C d_X_content_1 ?_
  refine x_cI1 C k_X_88 d_X_content_2 (c_X_translate a σ hp) (fun r u hw => ?_)
  obtain ⟨rfl, rfl⟩ := hw
  rw [hf]
  refine x_istore2 C d_X_content_5 ?_
  refine x_aload0 C d_X_content_6 ?_
  refine x_g0 C d_X_content_7 ?_
  refine x_iload2 C d_X_content_10 ?_
  refine x_ld0 C d_X_content_11 (by omega) ?_
  exact E d_X_content_12 ⟨rfl, rfl⟩
def useF (σ : xT) (b : Nat) : xT := sS (sS σ 11 0 (σ 11 0 + nI 1)) 8 b (σ 11 0 + nI 1)
theorem c_X_use (a : xA) (σ : xT) {b : Nat} (hb : b < 16) : MV a (xP a) y_X_use b_X_use 2 none 0 [.ref (a.2.2.2 0), .int (nI b)] σ (fun u => u = useF σ b) := by
  refine MV.of (L0 := [some (.ref (a.2.2.2 0)), some (.int (nI b))]) (by decide) (by simp [Value.category]) (Nat.le_of_ble_eq_true rfl) rfl (fun _ => rfl) (fun Γ C E => ?_)
  refine x_aload0 C d_X_use_0 ?_
  refine x_dup C d_X_use_1 rfl ?_
  refine x_g11 C d_X_use_2 ?_
  refine x_iconst C d_X_use_5 kI_1 ?_
  refine x_iadd C d_X_use_6 rfl ?_
  refine x_p11 C d_X_use_7 ?_
  refine x_aload0 C d_X_use_10 ?_
  refine x_g8 C d_X_use_11 ?_
  refine x_iload1 C d_X_use_14 ?_
  refine x_aload0 C d_X_use_15 ?_
  refine x_g11 C d_X_use_16 ?_
  refine x_st8 C d_X_use_19 (by omega) ?_
  exact E d_X_use_20 rfl
theorem c_X_setContent (a : xA) (σ : xT) {p f : Nat} (v : Int32) (hp : p < 64) (hf : trF σ p = nI f) (hf2 : f < 48) : MV a (xP a) y_X_setContent b_X_setContent 4 none 1 [.ref (a.2.2.2 0), .int (nI p), .int v] σ (fun u => u = useF (sS σ 0 f v) (p / 4)) := by
  refine MV.of (L0 := [some (.ref (a.2.2.2 0)), some (.int (nI p)), some (.int v), none]) (by decide) (by simp [Value.category]) (Nat.le_of_ble_eq_true rfl) rfl (fun _ => rfl) (fun Γ C E => ?_)
  refine x_aload0 C d_X_setContent_0 ?_
  refine x_iload1 C d_X_setContent_1 ?_
  refine x_cI1 C k_X_88 d_X_setContent_2 (c_X_translate a σ hp) (fun r u hw => ?_)
  obtain ⟨rfl, rfl⟩ := hw
  rw [hf]
  refine x_istore3 C d_X_setContent_5 ?_
  refine x_aload0 C d_X_setContent_6 ?_
  refine x_g0 C d_X_setContent_7 ?_
  refine x_iload3 C d_X_setContent_10 ?_
  refine x_iload2 C d_X_setContent_11 ?_
  refine x_st0 C d_X_setContent_12 (by omega) ?_
  refine x_aload0 C d_X_setContent_13 ?_
  refine x_iload1 C d_X_setContent_14 ?_
  refine x_iconst C d_X_setContent_15 kI_2 ?_
  refine x_ishr C d_X_setContent_16 (sh2 hp) ?_
  refine x_cV1 C k_X_91 d_X_setContent_17 (c_X_use a _ (by omega)) (fun u hw => ?_)
  subst hw
  exact E d_X_setContent_20 rfl
end
section
/-! PageRangeStore: breakUp, joinUp -/
def bkL (σ : xT) (b i : Nat) : xT := fun k j => if k = 2 ∧ 4 * b ≤ j ∧ j < 4 * b + i then σ 4 b + nI (j - 4 * b) else if k = 3 ∧ 4 * b ≤ j ∧ j < 4 * b + i then σ 7 b else σ k j
def bkF (σ : xT) (b : Nat) : xT := sS (bkL σ b 4) 6 b (nI 0)
theorem bkL_0 (σ : xT) (b : Nat) : bkL σ b 0 = σ := by
  funext k j
  unfold bkL
  rw [if_neg (by omega), if_neg (by omega)]
theorem bkL_s (σ : xT) (b i : Nat) : sS (sS (bkL σ b i) 2 (4 * b + i) (σ 4 b + nI i)) 3 (4 * b + i) (σ 7 b) = bkL σ b (i + 1) := by
  funext k j
  simp only [sS_at, bkL]
  grind
theorem c_X_breakUp (a : xA) (σ : xT) {b : Nat} (hb : b < 16) (hz : zb (σ 7 b)) : MV a (xP a) y_X_breakUp b_X_breakUp 3 none 0 [.ref (a.2.2.2 0), .int (nI b)] σ (fun u => (σ 6 b = 0 ∧ u = σ) ∨ (¬ σ 6 b = 0 ∧ u = bkF σ b)) := by
  refine MV.of (L0 := [some (.ref (a.2.2.2 0)), some (.int (nI b)), none]) (by decide) (by simp [Value.category]) (Nat.le_of_ble_eq_true rfl) rfl (fun _ => rfl) (fun Γ C E => ?_)
  refine x_aload0 C d_X_breakUp_0 ?_
  refine x_g6 C d_X_breakUp_1 ?_
  refine x_iload1 C d_X_breakUp_4 ?_
  refine x_ld6 C d_X_breakUp_5 (by omega) ?_
  refine x_if_ne C d_X_breakUp_6 (fun h => ?_) (fun h => ?_)
  · have loop : ∀ n i, i + n = 4 → xW Γ a (xP a) (bkL σ b i) 12 [some (.ref (a.2.2.2 0)), some (.int (nI b)), some (.int (nI i))] [] := by
      intro n
      induction n with
      | zero =>
        intro i hi
        have hi : i = 4 := by omega
        subst hi
        refine x_iload2 C d_X_breakUp_12 ?_
        refine x_iconst C d_X_breakUp_13 kI_4 ?_
        refine x_icmp_geN C d_X_breakUp_14 (by omega) (by omega) (fun h2 => ?_) (fun h2 => ?_)
        · refine x_aload0 C d_X_breakUp_57 ?_
          refine x_g6 C d_X_breakUp_58 ?_
          refine x_iload1 C d_X_breakUp_61 ?_
          refine x_iconst C d_X_breakUp_62 kI_0 ?_
          refine x_st6 C d_X_breakUp_63 (by omega) (zb_nar zb_0) ?_
          exact E d_X_breakUp_64 (Or.inr ⟨h, rfl⟩)
        · exact absurd h2 (by omega)
      | succ n ih =>
        intro i hi
        refine x_iload2 C d_X_breakUp_12 ?_
        refine x_iconst C d_X_breakUp_13 kI_4 ?_
        refine x_icmp_geN C d_X_breakUp_14 (by omega) (by omega) (fun h2 => ?_) (fun h2 => ?_)
        · exact absurd h2 (by omega)
        · refine x_aload0 C d_X_breakUp_17 ?_
          refine x_g2 C d_X_breakUp_18 ?_
          refine x_iconst C d_X_breakUp_21 kI_4 ?_
          refine x_iload1 C d_X_breakUp_22 ?_
          refine x_imulN C d_X_breakUp_23 ?_
          refine x_iload2 C d_X_breakUp_24 ?_
          refine x_iaddN C d_X_breakUp_25 ?_
          refine x_aload0 C d_X_breakUp_26 ?_
          refine x_g4 C d_X_breakUp_27 ?_
          refine x_iload1 C d_X_breakUp_30 ?_
          refine x_ld4 C d_X_breakUp_31 (by omega) ?_
          refine x_iload2 C d_X_breakUp_32 ?_
          refine x_iadd C d_X_breakUp_33 rfl ?_
          refine x_st2 C d_X_breakUp_34 (by omega) ?_
          refine x_aload0 C d_X_breakUp_35 ?_
          refine x_g3 C d_X_breakUp_36 ?_
          refine x_iconst C d_X_breakUp_39 kI_4 ?_
          refine x_iload1 C d_X_breakUp_40 ?_
          refine x_imulN C d_X_breakUp_41 ?_
          refine x_iload2 C d_X_breakUp_42 ?_
          refine x_iaddN C d_X_breakUp_43 ?_
          refine x_aload0 C d_X_breakUp_44 ?_
          refine x_g7 C d_X_breakUp_45 ?_
          refine x_iload1 C d_X_breakUp_48 ?_
          refine x_ld7 C d_X_breakUp_49 (by omega) ?_
          refine x_top (y := σ 7 b) rfl ?_
          refine x_st3 C d_X_breakUp_50 (by omega) (zb_nar hz) ?_
          refine x_iincN2 C d_X_breakUp_51 ?_
          refine x_goto C d_X_breakUp_54 ?_
          refine x_st (bkL_s σ b i) ?_
          exact ih (i + 1) (by omega)
    refine x_iconst C d_X_breakUp_10 kI_0 ?_
    refine x_istore2 C d_X_breakUp_11 ?_
    have h0 := loop 4 0 rfl
    rw [bkL_0] at h0
    exact h0
  · exact E d_X_breakUp_9 (Or.inl ⟨h, rfl⟩)
/-- a block that may get a large mapping, and what it then is -/
def jnC (σ : xT) (b : Nat) : Prop := ¬ σ 4 b = -1 ∧ σ 5 b = nI 15 ∧ σ 6 b = 0 ∧ ∀ k, k < 4 → σ 3 (4 * b + k) = σ 3 (4 * b)
def jnL (σ : xT) (b i : Nat) : xT := fun k j => if k = 2 ∧ 4 * b ≤ j ∧ j < 4 * b + i then -1 else σ k j
def jnF (σ : xT) (b : Nat) : xT := jnL (sS (sS σ 6 b (nI 1)) 7 b (σ 3 (4 * b))) b 4
theorem jnL_0 (σ : xT) (b : Nat) : jnL σ b 0 = σ := by
  funext k j
  unfold jnL
  rw [if_neg (by omega)]
theorem jnL_s (σ : xT) (b i : Nat) : sS (jnL σ b i) 2 (4 * b + i) (-1) = jnL σ b (i + 1) := by
  funext k j
  simp only [sS_at, jnL]
  grind
theorem c_X_joinUp (a : xA) (σ : xT) {b : Nat} (hb : b < 16) (hz : zb (σ 3 (4 * b))) : MV a (xP a) y_X_joinUp b_X_joinUp 3 none 0 [.ref (a.2.2.2 0), .int (nI b)] σ (fun u => u = σ ∨ (jnC σ b ∧ u = jnF σ b)) := by
  refine MV.of (L0 := [some (.ref (a.2.2.2 0)), some (.int (nI b)), none]) (by decide) (by simp [Value.category]) (Nat.le_of_ble_eq_true rfl) rfl (fun _ => rfl) (fun Γ C E => ?_)
  refine x_aload0 C d_X_joinUp_0 ?_
  refine x_g4 C d_X_joinUp_1 ?_
  refine x_iload1 C d_X_joinUp_4 ?_
  refine x_ld4 C d_X_joinUp_5 (by omega) ?_
  refine x_iconst C d_X_joinUp_6 kI_m1 ?_
  refine x_icmp_eq C d_X_joinUp_7 (fun h1 => ?_) (fun h1 => ?_)
  · exact E d_X_joinUp_30 (Or.inl rfl)
  refine x_aload0 C d_X_joinUp_10 ?_
  refine x_g5 C d_X_joinUp_11 ?_
  refine x_iload1 C d_X_joinUp_14 ?_
  refine x_ld5 C d_X_joinUp_15 (by omega) ?_
  refine x_bipush C d_X_joinUp_16 kB_15 ?_
  refine x_icmp_ne C d_X_joinUp_18 (fun h2 => ?_) (fun h2 => ?_)
  · exact E d_X_joinUp_30 (Or.inl rfl)
  refine x_aload0 C d_X_joinUp_21 ?_
  refine x_g6 C d_X_joinUp_22 ?_
  refine x_iload1 C d_X_joinUp_25 ?_
  refine x_ld6 C d_X_joinUp_26 (by omega) ?_
  refine x_if_eq C d_X_joinUp_27 (fun h3 => ?_) (fun h3 => ?_)
  rotate_left
  · exact E d_X_joinUp_30 (Or.inl rfl)
  have loop2 : jnC σ b → ∀ n i, i + n = 4 → xW Γ a (xP a) (jnL (sS (sS σ 6 b (nI 1)) 7 b (σ 3 (4 * b))) b i) 89 [some (.ref (a.2.2.2 0)), some (.int (nI b)), some (.int (nI i))] [] := by
    intro hj n
    induction n with
    | zero =>
      intro i hi
      have hi : i = 4 := by omega
      subst hi
      refine x_iload2 C d_X_joinUp_89 ?_
      refine x_iconst C d_X_joinUp_90 kI_4 ?_
      refine x_icmp_geN C d_X_joinUp_91 (by omega) (by omega) (fun h => ?_) (fun h => ?_)
      · exact E d_X_joinUp_111 (Or.inr ⟨hj, rfl⟩)
      · exact absurd h (by omega)
    | succ n ih =>
      intro i hi
      refine x_iload2 C d_X_joinUp_89 ?_
      refine x_iconst C d_X_joinUp_90 kI_4 ?_
      refine x_icmp_geN C d_X_joinUp_91 (by omega) (by omega) (fun h => ?_) (fun h => ?_)
      · exact absurd h (by omega)
      · refine x_aload0 C d_X_joinUp_94 ?_
        refine x_g2 C d_X_joinUp_95 ?_
        refine x_iconst C d_X_joinUp_98 kI_4 ?_
        refine x_iload1 C d_X_joinUp_99 ?_
        refine x_imulN C d_X_joinUp_100 ?_
        refine x_iload2 C d_X_joinUp_101 ?_
        refine x_iaddN C d_X_joinUp_102 ?_
        refine x_iconst C d_X_joinUp_103 kI_m1 ?_
        refine x_st2 C d_X_joinUp_104 (by omega) ?_
        refine x_iincN2 C d_X_joinUp_105 ?_
        refine x_goto C d_X_joinUp_108 ?_
        refine x_st (jnL_s _ b i) ?_
        exact ih (i + 1) (by omega)
  have loop1 : ∀ n i, i + n = 4 → 1 ≤ i → (∀ k, k < i → σ 3 (4 * b + k) = σ 3 (4 * b)) → xW Γ a (xP a) σ 33 [some (.ref (a.2.2.2 0)), some (.int (nI b)), some (.int (nI i))] [] := by
    intro n
    induction n with
    | zero =>
      intro i hi h1i hall
      have hi : i = 4 := by omega
      subst hi
      refine x_iload2 C d_X_joinUp_33 ?_
      refine x_iconst C d_X_joinUp_34 kI_4 ?_
      refine x_icmp_geN C d_X_joinUp_35 (by omega) (by omega) (fun h => ?_) (fun h => ?_)
      · refine x_aload0 C d_X_joinUp_66 ?_
        refine x_g6 C d_X_joinUp_67 ?_
        refine x_iload1 C d_X_joinUp_70 ?_
        refine x_iconst C d_X_joinUp_71 kI_1 ?_
        refine x_st6 C d_X_joinUp_72 (by omega) (zb_nar zb_1) ?_
        refine x_aload0 C d_X_joinUp_73 ?_
        refine x_g7 C d_X_joinUp_74 ?_
        refine x_iload1 C d_X_joinUp_77 ?_
        refine x_aload0 C d_X_joinUp_78 ?_
        refine x_g3 C d_X_joinUp_79 ?_
        refine x_iconst C d_X_joinUp_82 kI_4 ?_
        refine x_iload1 C d_X_joinUp_83 ?_
        refine x_imulN C d_X_joinUp_84 ?_
        refine x_ld3 C d_X_joinUp_85 (by omega) ?_
        refine x_top (y := σ 3 (4 * b)) rfl ?_
        refine x_st7 C d_X_joinUp_86 (by omega) (zb_nar hz) ?_
        refine x_iconst C d_X_joinUp_87 kI_0 ?_
        refine x_istore2 C d_X_joinUp_88 ?_
        have h0 := loop2 ⟨h1, h2, h3, hall⟩ 4 0 rfl
        rw [jnL_0] at h0
        exact h0
      · exact absurd h (by omega)
    | succ n ih =>
      intro i hi h1i hall
      refine x_iload2 C d_X_joinUp_33 ?_
      refine x_iconst C d_X_joinUp_34 kI_4 ?_
      refine x_icmp_geN C d_X_joinUp_35 (by omega) (by omega) (fun h => ?_) (fun h => ?_)
      · exact absurd h (by omega)
      · refine x_aload0 C d_X_joinUp_38 ?_
        refine x_g3 C d_X_joinUp_39 ?_
        refine x_iconst C d_X_joinUp_42 kI_4 ?_
        refine x_iload1 C d_X_joinUp_43 ?_
        refine x_imulN C d_X_joinUp_44 ?_
        refine x_iload2 C d_X_joinUp_45 ?_
        refine x_iaddN C d_X_joinUp_46 ?_
        refine x_ld3 C d_X_joinUp_47 (by omega) ?_
        refine x_aload0 C d_X_joinUp_48 ?_
        refine x_g3 C d_X_joinUp_49 ?_
        refine x_iconst C d_X_joinUp_52 kI_4 ?_
        refine x_iload1 C d_X_joinUp_53 ?_
        refine x_imulN C d_X_joinUp_54 ?_
        refine x_ld3 C d_X_joinUp_55 (by omega) ?_
        refine x_icmp_eq C d_X_joinUp_56 (fun h5 => ?_) (fun h5 => ?_)
        · refine x_iincN2 C d_X_joinUp_60 ?_
          refine x_goto C d_X_joinUp_63 ?_
          exact ih (i + 1) (by omega) (by omega) (fun k hk => by
            rcases Nat.lt_succ_iff_lt_or_eq.mp hk with h6 | h6
            · exact hall k h6
            · subst h6; exact h5)
        · exact E d_X_joinUp_59 (Or.inl rfl)
  refine x_iconst C d_X_joinUp_31 kI_1 ?_
  refine x_istore2 C d_X_joinUp_32 ?_
  exact loop1 3 1 rfl (Nat.le_refl 1) (fun k hk => by
    have : k = 0 := by omega
    subst this; rfl)
end
section
/-! PageRangeStore: the free runs. FI g n F: the free array g holds runs, apart, aligned, below n, which cover just the frames F -/
def FI (g : Nat → Int32) (n : Nat) (F : Nat → Prop) : Prop :=
  (∀ o s, o < 4 → s < 48 → ¬ g (48 * o + s) = 0 → s % 2 ^ o = 0 ∧ s + 2 ^ o ≤ n ∧ ∀ f, s ≤ f → f < s + 2 ^ o → F f) ∧
  (∀ f, F f → ∃ o s, o < 4 ∧ s < 48 ∧ ¬ g (48 * o + s) = 0 ∧ s ≤ f ∧ f < s + 2 ^ o) ∧
  (∀ o s o' s' f, o < 4 → s < 48 → o' < 4 → s' < 48 → ¬ g (48 * o + s) = 0 → ¬ g (48 * o' + s') = 0 → s ≤ f → f < s + 2 ^ o → s' ≤ f → f < s' + 2 ^ o' → o = o' ∧ s = s')
theorem FI.to {g : Nat → Int32} {n : Nat} {F F' : Nat → Prop} (h : FI g n F) (e : ∀ f, F f ↔ F' f) : FI g n F' := by
  have : F = F' := funext fun f => propext (e f)
  exact this ▸ h
theorem FI.lt {g : Nat → Int32} {n : Nat} {F : Nat → Prop} (h : FI g n F) {f : Nat} (hf : F f) : f < n := by
  obtain ⟨o, s, ho, hs, hg, h1, h2⟩ := h.2.1 f hf
  have := (h.1 o s ho hs hg).2.1
  omega
theorem FI.del {g : Nat → Int32} {n : Nat} {F : Nat → Prop} (h : FI g n F) {o s : Nat} (ho : o < 4) (hs : s < 48) (hg : ¬ g (48 * o + s) = 0) : FI (upd g (48 * o + s) (nI 0)) n (fun f => F f ∧ ¬ (s ≤ f ∧ f < s + 2 ^ o)) := by
  have key : ∀ o' s', o' < 4 → s' < 48 → ¬ upd g (48 * o + s) (nI 0) (48 * o' + s') = 0 → ¬ g (48 * o' + s') = 0 ∧ ¬ (o' = o ∧ s' = s) := by
    intro o' s' ho' hs' hg'
    unfold upd at hg'
    by_cases he : 48 * o' + s' = 48 * o + s
    · rw [if_pos he] at hg'
      exact absurd nI0 hg'
    · rw [if_neg he] at hg'
      exact ⟨hg', fun q => he (by rw [q.1, q.2])⟩
  refine ⟨fun o' s' ho' hs' hg' => ?_, fun f hf => ?_, fun o1 s1 o2 s2 f h1 h2 h3 h4 h5 h6 => h.2.2 o1 s1 o2 s2 f h1 h2 h3 h4 (key o1 s1 h1 h2 h5).1 (key o2 s2 h3 h4 h6).1⟩
  · obtain ⟨k1, k2⟩ := key o' s' ho' hs' hg'
    obtain ⟨r1, r2, r3⟩ := h.1 o' s' ho' hs' k1
    refine ⟨r1, r2, fun f f1 f2 => ⟨r3 f f1 f2, fun q => k2 (h.2.2 o' s' o s f ho' hs' ho hs k1 hg f1 f2 q.1 q.2)⟩⟩
  · obtain ⟨o', s', ho', hs', hg', f1, f2⟩ := h.2.1 f hf.1
    refine ⟨o', s', ho', hs', ?_, f1, f2⟩
    unfold upd
    rw [if_neg]
    · exact hg'
    · intro he
      have e1 : o' = o := by omega
      subst e1
      have e2 : s' = s := by omega
      subst e2
      exact hf.2 ⟨f1, f2⟩
theorem FI.add {g : Nat → Int32} {n : Nat} {F : Nat → Prop} (h : FI g n F) {o s : Nat} (ho : o < 4) (hn : n ≤ 48) (ha : s % 2 ^ o = 0) (hs : s + 2 ^ o ≤ n) (hd : ∀ f, s ≤ f → f < s + 2 ^ o → ¬ F f) : FI (upd g (48 * o + s) (nI 1)) n (fun f => F f ∨ (s ≤ f ∧ f < s + 2 ^ o)) := by
  have hp : 0 < 2 ^ o := Nat.two_pow_pos o
  have key : ∀ o' s', o' < 4 → s' < 48 → ¬ upd g (48 * o + s) (nI 1) (48 * o' + s') = 0 → (o' = o ∧ s' = s) ∨ ¬ g (48 * o' + s') = 0 := by
    intro o' s' ho' hs' hg'
    unfold upd at hg'
    by_cases he : 48 * o' + s' = 48 * o + s
    · exact Or.inl (by constructor <;> omega)
    · rw [if_neg he] at hg'
      exact Or.inr hg'
  have apart : ∀ o' s' f, o' < 4 → s' < 48 → ¬ g (48 * o' + s') = 0 → s' ≤ f → f < s' + 2 ^ o' → s ≤ f → f < s + 2 ^ o → False := fun o' s' f h1 h2 h3 h4 h5 h6 h7 => hd f h6 h7 ((h.1 o' s' h1 h2 h3).2.2 f h4 h5)
  refine ⟨fun o' s' ho' hs' hg' => ?_, fun f hf => ?_, fun o1 s1 o2 s2 f h1 h2 h3 h4 h5 h6 f1 f2 f3 f4 => ?_⟩
  · rcases key o' s' ho' hs' hg' with ⟨rfl, rfl⟩ | k
    · exact ⟨ha, hs, fun f f1 f2 => Or.inr ⟨f1, f2⟩⟩
    · obtain ⟨r1, r2, r3⟩ := h.1 o' s' ho' hs' k
      exact ⟨r1, r2, fun f f1 f2 => Or.inl (r3 f f1 f2)⟩
  · rcases hf with hf | hf
    · obtain ⟨o', s', ho', hs', hg', f1, f2⟩ := h.2.1 f hf
      refine ⟨o', s', ho', hs', ?_, f1, f2⟩
      unfold upd
      split
      · decide +kernel
      · exact hg'
    · refine ⟨o, s, ho, by omega, ?_, hf.1, hf.2⟩
      unfold upd
      rw [if_pos rfl]
      decide +kernel
  · rcases key o1 s1 h1 h2 h5 with ⟨rfl, rfl⟩ | k1 <;> rcases key o2 s2 h3 h4 h6 with ⟨rfl, rfl⟩ | k2
    · exact ⟨rfl, rfl⟩
    · exact (apart o2 s2 f h3 h4 k2 f3 f4 f1 f2).elim
    · exact (apart o1 s1 f h1 h2 k1 f1 f2 f3 f4).elim
    · exact h.2.2 o1 s1 o2 s2 f h1 h2 h3 h4 k1 k2 f1 f2 f3 f4
theorem sh1 {o : Nat} (h : o < 4) : nI 1 <<< (nI o &&& 31) = nI (2 ^ o) := by
  have : ∀ o, o < 4 → nI 1 <<< (nI o &&& 31) = nI (2 ^ o) := by decide +kernel
  exact this o h
theorem pw4 {o : Nat} (h : o < 4) : (o = 0 ∧ 2 ^ o = 1) ∨ (o = 1 ∧ 2 ^ o = 2) ∨ (o = 2 ∧ 2 ^ o = 4) ∨ (o = 3 ∧ 2 ^ o = 8) := by
  have : o = 0 ∨ o = 1 ∨ o = 2 ∨ o = 3 := by omega
  rcases this with rfl | rfl | rfl | rfl <;> simp
theorem sA_sA (σ : xT) (k : Nat) (g h : Nat → Int32) : sA (sA σ k g) k h = sA σ k h := by
  funext b
  unfold sA
  split <;> rfl
theorem sA_self (σ : xT) (k : Nat) : sA σ k (σ k) = σ := by
  funext b
  unfold sA
  split
  · next h => rw [h]
  · rfl
theorem sS_sA (σ : xT) (k i : Nat) (g : Nat → Int32) (v : Int32) : sS (sA σ k g) k i v = sA σ k (upd g i v) := by
  unfold sS
  rw [sA_sA]
  congr 1
  unfold sA
  rw [if_pos rfl]
theorem xInd {α : Type} (μ : α → Nat) {P : α → Prop} (h : ∀ x, (∀ y, μ y < μ x → P y) → P x) : ∀ x, P x := by
  have : ∀ n x, μ x < n → P x := by
    intro n
    induction n with
    | zero => intro x hx; omega
    | succ n ih => intro x hx; exact h x (fun y hy => ih y (by omega))
  exact fun x => this (μ x + 1) x (Nat.lt_succ_self _)
theorem dec1 (x : Int32) : x + Int32.ofInt (-1) = x - nI 1 := by
  rw [Int32.sub_eq_add_neg, show Int32.ofInt (-1) = - nI 1 by decide +kernel]
theorem pw_le {c d : Nat} (h : c ≤ d) : 2 ^ c ≤ 2 ^ d := Nat.pow_le_pow_right (by decide) h
theorem pw_mod {s c d : Nat} (h : c ≤ d) (hs : s % 2 ^ d = 0) : s % 2 ^ c = 0 := Nat.mod_eq_zero_of_dvd (Nat.dvd_trans (Nat.pow_dvd_pow 2 h) (Nat.dvd_of_mod_eq_zero hs))
theorem pw_8 {c : Nat} (h : c < 4) : 2 ^ c ≤ 8 := pw_le (d := 3) (by omega)
theorem c_X_split (a : xA) (σ : xT) {n s fr to : Nat} {F : Nat → Prop} (hF : FI (σ 1) n F) (hn : n ≤ 48) (hfr : fr < 4) (hto : to ≤ fr) (ha : s % 2 ^ fr = 0) (hs : s + 2 ^ fr ≤ n) (hd : ∀ f, s ≤ f → f < s + 2 ^ fr → ¬ F f) :
    MV a (xP a) y_X_split b_X_split 5 none 0 [.ref (a.2.2.2 0), .int (nI s), .int (nI fr), .int (nI to)] σ (fun u => ∃ g, u = sA σ 1 g ∧ FI g n (fun f => F f ∨ (s + 2 ^ to ≤ f ∧ f < s + 2 ^ fr))) := by
  refine MV.of (L0 := [some (.ref (a.2.2.2 0)), some (.int (nI s)), some (.int (nI fr)), some (.int (nI to)), none]) (by decide) (by simp [Value.category]) (Nat.le_of_ble_eq_true rfl) rfl (fun _ => rfl) (fun Γ C E => ?_)
  have loop : ∀ m c g, c = to + m → c ≤ fr → FI g n (fun f => F f ∨ (s + 2 ^ c ≤ f ∧ f < s + 2 ^ fr)) → xW Γ a (xP a) (sA σ 1 g) 5 [some (.ref (a.2.2.2 0)), some (.int (nI s)), some (.int (nI fr)), some (.int (nI to)), some (.int (nI c - nI 1))] [] := by
    intro m
    induction m with
    | zero =>
      intro c g hc hcf hg
      have hc : c = to := by omega
      subst hc
      refine x_iload4 C d_X_split_5 ?_
      refine x_iload3 C d_X_split_7 ?_
      refine x_icmp_lt C d_X_split_8 (fun h => ?_) (fun h => ?_)
      · exact E d_X_split_35 ⟨g, rfl, hg⟩
      · exfalso
        apply h
        rw [Int32.lt_iff_toInt_lt, nI_toInt (by omega), pk_sub_toInt (by omega) (by omega)]
        omega
    | succ m ih =>
      intro c g hc hcf hg
      obtain ⟨o, rfl⟩ : ∃ o, c = o + 1 := ⟨c - 1, by omega⟩
      have e1 : nI (o + 1) - nI 1 = nI o := pk_sub (by omega)
      have hp := Nat.pow_succ (n := 2) (m := o)
      have h8 := pw_8 (c := o) (by omega)
      have hle := pw_le hcf
      have h3 : 48 * o ≤ 96 := by omega
      rw [e1]
      refine x_iload4 C d_X_split_5 ?_
      refine x_iload3 C d_X_split_7 ?_
      refine x_icmp_ltN C d_X_split_8 (by omega) (by omega) (fun h => ?_) (fun h => ?_)
      · exact absurd h (by omega)
      · refine x_aload0 C d_X_split_11 ?_
        refine x_g1 C d_X_split_12 ?_
        refine x_bipush C d_X_split_15 kB_48 ?_
        refine x_iload4 C d_X_split_17 ?_
        refine x_imulN C d_X_split_19 ?_
        refine x_iload1 C d_X_split_20 ?_
        refine x_iaddN C d_X_split_21 ?_
        refine x_iconst C d_X_split_22 kI_1 ?_
        refine x_iload4 C d_X_split_23 ?_
        refine x_ishl C d_X_split_25 (sh1 (by omega)) ?_
        refine x_iaddN C d_X_split_26 ?_
        refine x_iconst C d_X_split_27 kI_1 ?_
        refine x_st1 C d_X_split_28 (by omega) (zb_nar zb_1) ?_
        refine x_iinc4 C d_X_split_29 (dec1 _) ?_
        refine x_goto C d_X_split_32 ?_
        rw [sS_sA, Nat.add_assoc]
        refine ih o _ (by omega) (by omega) ((hg.add (o := o) (s := s + 2 ^ o) (by omega) hn ?_ (by omega) ?_).to (fun f => ?_))
        · rw [Nat.add_mod_right]
          exact pw_mod (by omega) ha
        · intro f f1 f2 q
          rcases q with q | q
          · exact hd f (by omega) (by omega) q
          · omega
        · constructor
          · rintro ((q | q) | q)
            · exact Or.inl q
            · exact Or.inr (by omega)
            · exact Or.inr (by omega)
          · rintro (q | q)
            · exact Or.inl (Or.inl q)
            · by_cases hf : f < s + 2 ^ o + 2 ^ o
              · exact Or.inr (by omega)
              · exact Or.inl (Or.inr (by omega))
  refine x_iload2 C d_X_split_0 ?_
  refine x_iconst C d_X_split_1 kI_1 ?_
  refine x_isub C d_X_split_2 rfl ?_
  refine x_istore4 C d_X_split_3 ?_
  have h0 := loop (fr - to) fr (σ 1) (by omega) (Nat.le_refl _) (hF.to (fun f => ⟨Or.inl, fun q => q.elim id (fun q => by omega)⟩))
  rw [sA_self] at h0
  exact h0
/-- what allocate answers -/
def alP (σ : xT) (n od : Nat) (F : Nat → Prop) (r : Int32) (u : xT) : Prop :=
  (r = -1 ∧ u = σ ∧ ∀ o s, od ≤ o → o < 4 → s < 48 → σ 1 (48 * o + s) = 0) ∨
  (∃ s g, r = nI s ∧ s % 2 ^ od = 0 ∧ s + 2 ^ od ≤ n ∧ u = sA σ 1 g ∧ FI g n (fun f => F f ∧ ¬ (s ≤ f ∧ f < s + 2 ^ od)) ∧ ∀ f, s ≤ f → f < s + 2 ^ od → F f)
theorem c_X_allocate (a : xA) (σ : xT) {n od : Nat} {F : Nat → Prop} (hF : FI (σ 1) n F) (hc : σ 9 0 = nI n) (hn : n ≤ 48) (hod : od < 4) :
    MI a (xP a) y_X_allocate b_X_allocate 4 (some .int) 1 [.ref (a.2.2.2 0), .int (nI od)] σ (alP σ n od F) := by
  refine MI.ofI (L0 := [some (.ref (a.2.2.2 0)), some (.int (nI od)), none, none]) (by decide) (by simp [Value.category]) (Nat.le_of_ble_eq_true rfl) rfl (fun _ => rfl) (fun Γ C E => ?_)
  have outer : ∀ m o w, o + m = 4 → od ≤ o → (∀ o' s, od ≤ o' → o' < o → s < 48 → σ 1 (48 * o' + s) = 0) → xW Γ a (xP a) σ 2 [some (.ref (a.2.2.2 0)), some (.int (nI od)), some (.int (nI o)), w] [] := by
    intro m
    induction m with
    | zero =>
      intro o w ho hod2 hz
      have ho : o = 4 := by omega
      subst ho
      refine x_iload2 C d_X_allocate_2 ?_
      refine x_iconst C d_X_allocate_3 kI_3 ?_
      refine x_icmp_gtN C d_X_allocate_4 (by omega) (by omega) (fun h => ?_) (fun h => ?_)
      · refine x_iconst C d_X_allocate_67 kI_m1 ?_
        exact E d_X_allocate_68 (Or.inl ⟨rfl, rfl, fun o s h1 h2 h3 => hz o s h1 h2 h3⟩)
      · exact absurd h (by omega)
    | succ m ihm =>
      intro o w ho hod2 hz
      have hp : 0 < 2 ^ o := Nat.two_pow_pos o
      have hp8 := pw_8 (c := o) (by omega)
      have inner : ∀ f, f ≤ 56 → f % 2 ^ o = 0 → (∀ s, s < f → s < 48 → σ 1 (48 * o + s) = 0) → xW Γ a (xP a) σ 9 [some (.ref (a.2.2.2 0)), some (.int (nI od)), some (.int (nI o)), some (.int (nI f))] [] := by
        refine xInd (fun f => 48 - f) (fun f ih hf56 hfa hfz => ?_)
        refine x_iload3 C d_X_allocate_9 ?_
        refine x_aload0 C d_X_allocate_10 ?_
        refine x_g9 C d_X_allocate_11 ?_
        rw [hc]
        refine x_icmp_geN C d_X_allocate_14 (by omega) (by omega) (fun h => ?_) (fun h => ?_)
        · refine x_iincN2 C d_X_allocate_61 ?_
          refine x_goto C d_X_allocate_64 ?_
          refine ihm (o + 1) _ (by omega) (by omega) (fun o' s h1 h2 h3 => ?_)
          by_cases ho' : o' = o
          · subst ho'
            by_cases hsf : s < f
            · exact hfz s hsf h3
            · refine Classical.byContradiction (fun q => ?_)
              have := (hF.1 o' s (by omega) h3 q).2.1
              omega
          · exact hz o' s h1 (by omega) h3
        · refine x_aload0 C d_X_allocate_17 ?_
          refine x_g1 C d_X_allocate_18 ?_
          refine x_bipush C d_X_allocate_21 kB_48 ?_
          refine x_iload2 C d_X_allocate_23 ?_
          refine x_imulN C d_X_allocate_24 ?_
          refine x_iload3 C d_X_allocate_25 ?_
          refine x_iaddN C d_X_allocate_26 ?_
          refine x_ld1 C d_X_allocate_27 (by omega) ?_
          refine x_if_eq C d_X_allocate_28 (fun hx => ?_) (fun hx => ?_)
          · refine x_iload3 C d_X_allocate_52 ?_
            refine x_iconst C d_X_allocate_53 kI_1 ?_
            refine x_iload2 C d_X_allocate_54 ?_
            refine x_ishl C d_X_allocate_55 (sh1 (by omega)) ?_
            refine x_iaddN C d_X_allocate_56 ?_
            refine x_istore3 C d_X_allocate_57 ?_
            refine x_goto C d_X_allocate_58 ?_
            refine ih (f + 2 ^ o) (by omega) (by omega) (by rw [Nat.add_mod_right]; exact hfa) (fun s h1 h2 => ?_)
            by_cases hsf : s < f
            · exact hfz s hsf h2
            · by_cases hse : s = f
              · rw [hse]; exact hx
              · refine Classical.byContradiction (fun q => ?_)
                have hsa := (hF.1 o s (by omega) h2 q).1
                have e1 := Nat.div_add_mod s (2 ^ o)
                have e2 := Nat.div_add_mod f (2 ^ o)
                rw [hsa] at e1
                rw [hfa] at e2
                have h7 : s / 2 ^ o = f / 2 ^ o := by
                  apply Nat.le_antisymm
                  · apply Nat.le_of_lt_succ
                    rw [Nat.div_lt_iff_lt_mul hp, Nat.succ_mul, Nat.mul_comm]
                    omega
                  · exact Nat.div_le_div_right (by omega)
                rw [h7] at e1
                omega
          · have hrun := hF.1 o f (by omega) (by omega) hx
            refine x_aload0 C d_X_allocate_31 ?_
            refine x_g1 C d_X_allocate_32 ?_
            refine x_bipush C d_X_allocate_35 kB_48 ?_
            refine x_iload2 C d_X_allocate_37 ?_
            refine x_imulN C d_X_allocate_38 ?_
            refine x_iload3 C d_X_allocate_39 ?_
            refine x_iaddN C d_X_allocate_40 ?_
            refine x_iconst C d_X_allocate_41 kI_0 ?_
            refine x_st1 C d_X_allocate_42 (by omega) (zb_nar zb_0) ?_
            refine x_aload0 C d_X_allocate_43 ?_
            refine x_iload3 C d_X_allocate_44 ?_
            refine x_iload2 C d_X_allocate_45 ?_
            refine x_iload1 C d_X_allocate_46 ?_
            refine x_cV3 C k_X_112 d_X_allocate_47 (c_X_split a _ (F := fun x => F x ∧ ¬ (f ≤ x ∧ x < f + 2 ^ o)) (hF.del (by omega) (by omega) hx) hn (by omega) hod2 hfa hrun.2.1 (fun x h1 h2 q => q.2 ⟨h1, h2⟩)) (fun u hw => ?_)
            obtain ⟨g, rfl, hg⟩ := hw
            refine x_iload3 C d_X_allocate_50 ?_
            have hle := pw_le hod2
            have hp2 : 0 < 2 ^ od := Nat.two_pow_pos od
            refine E d_X_allocate_51 (Or.inr ⟨f, g, rfl, pw_mod hod2 hfa, by omega, ?_, hg.to (fun x => ?_), fun x h1 h2 => hrun.2.2 x h1 (by omega)⟩)
            · unfold sS
              rw [sA_sA]
            · constructor
              · rintro (q | q)
                · exact ⟨q.1, fun q2 => q.2 (by omega)⟩
                · exact ⟨hrun.2.2 x (by omega) q.2, by omega⟩
              · rintro ⟨q1, q2⟩
                by_cases hx2 : f ≤ x ∧ x < f + 2 ^ o
                · exact Or.inr (by omega)
                · exact Or.inl ⟨q1, hx2⟩
      refine x_iload2 C d_X_allocate_2 ?_
      refine x_iconst C d_X_allocate_3 kI_3 ?_
      refine x_icmp_gtN C d_X_allocate_4 (by omega) (by omega) (fun h => ?_) (fun h => ?_)
      · exact absurd h (by omega)
      · refine x_iconst C d_X_allocate_7 kI_0 ?_
        refine x_istore3 C d_X_allocate_8 ?_
        exact inner 0 (by omega) (Nat.zero_mod _) (fun s h1 => absurd h1 (Nat.not_lt_zero s))
  refine x_iload1 C d_X_allocate_0 ?_
  refine x_istore2 C d_X_allocate_1 ?_
  exact outer (4 - od) od _ (by omega) (Nat.le_refl _) (fun o' s h1 h2 => absurd h2 (by omega))
theorem bud : ∀ o, o < 3 → ∀ s, s < 48 → s % 2 ^ o = 0 → (s ^^^ 2 ^ o) < 48 ∧ nI s ^^^ nI (2 ^ o) = nI (s ^^^ 2 ^ o) ∧ (((s ^^^ 2 ^ o) = s + 2 ^ o ∧ s % 2 ^ (o + 1) = 0) ∨ ((s ^^^ 2 ^ o) + 2 ^ o = s ∧ (s ^^^ 2 ^ o) % 2 ^ (o + 1) = 0)) := by decide +kernel
theorem c_X_giveBack (a : xA) (σ : xT) {n f0 od : Nat} {F : Nat → Prop} (hF : FI (σ 1) n F) (hn : n ≤ 48) (hod : od < 4) (ha : f0 % 2 ^ od = 0) (hs : f0 + 2 ^ od ≤ n) (hd : ∀ f, f0 ≤ f → f < f0 + 2 ^ od → ¬ F f) :
    MV a (xP a) y_X_giveBack b_X_giveBack 7 none 0 [.ref (a.2.2.2 0), .int (nI f0), .int (nI od)] σ (fun u => ∃ g, u = sA σ 1 g ∧ FI g n (fun f => F f ∨ (f0 ≤ f ∧ f < f0 + 2 ^ od))) := by
  refine MV.of (L0 := [some (.ref (a.2.2.2 0)), some (.int (nI f0)), some (.int (nI od)), none, none, none, none]) (by decide) (by simp [Value.category]) (Nat.le_of_ble_eq_true rfl) rfl (fun _ => rfl) (fun Γ C E => ?_)
  have fin : ∀ (g : Nat → Int32) (G : Nat → Prop) (s o : Nat) w5 w6, FI g n G → o < 4 → s % 2 ^ o = 0 → s + 2 ^ o ≤ n → (∀ f, s ≤ f → f < s + 2 ^ o → ¬ G f) → (∀ f, (G f ∨ (s ≤ f ∧ f < s + 2 ^ o)) ↔ (F f ∨ (f0 ≤ f ∧ f < f0 + 2 ^ od))) →
      xW Γ a (xP a) (sA σ 1 g) 83 [some (.ref (a.2.2.2 0)), some (.int (nI f0)), some (.int (nI od)), some (.int (nI s)), some (.int (nI o)), w5, w6] [] := by
    intro g G s o w5 w6 hg ho hsa hsn hsd hiff
    have hp : 0 < 2 ^ o := Nat.two_pow_pos o
    refine x_aload0 C d_X_giveBack_83 ?_
    refine x_g1 C d_X_giveBack_84 ?_
    refine x_bipush C d_X_giveBack_87 kB_48 ?_
    refine x_iload4 C d_X_giveBack_89 ?_
    refine x_imulN C d_X_giveBack_91 ?_
    refine x_iload3 C d_X_giveBack_92 ?_
    refine x_iaddN C d_X_giveBack_93 ?_
    refine x_iconst C d_X_giveBack_94 kI_1 ?_
    refine x_st1 C d_X_giveBack_95 (by omega) (zb_nar zb_1) ?_
    rw [sS_sA]
    exact E d_X_giveBack_96 ⟨_, rfl, (hg.add ho hn hsa hsn hsd).to hiff⟩
  have loop : ∀ m k, k + m = 3 → ∀ (g : Nat → Int32) (G : Nat → Prop) (s o : Nat) w6, FI g n G → o < 4 → s % 2 ^ o = 0 → s + 2 ^ o ≤ n → (∀ f, s ≤ f → f < s + 2 ^ o → ¬ G f) → (∀ f, (G f ∨ (s ≤ f ∧ f < s + 2 ^ o)) ↔ (F f ∨ (f0 ≤ f ∧ f < f0 + 2 ^ od))) →
      xW Γ a (xP a) (sA σ 1 g) 8 [some (.ref (a.2.2.2 0)), some (.int (nI f0)), some (.int (nI od)), some (.int (nI s)), some (.int (nI o)), some (.int (nI k)), w6] [] := by
    intro m
    induction m with
    | zero =>
      intro k hk g G s o w6 hg ho hsa hsn hsd hiff
      refine x_iload5 C d_X_giveBack_8 ?_
      refine x_iconst C d_X_giveBack_10 kI_3 ?_
      refine x_icmp_geN C d_X_giveBack_11 (by omega) (by omega) (fun h => ?_) (fun h => ?_)
      · exact fin g G s o _ _ hg ho hsa hsn hsd hiff
      · exact absurd h (by omega)
    | succ m ih =>
      intro k hk g G s o w6 hg ho hsa hsn hsd hiff
      refine x_iload5 C d_X_giveBack_8 ?_
      refine x_iconst C d_X_giveBack_10 kI_3 ?_
      refine x_icmp_geN C d_X_giveBack_11 (by omega) (by omega) (fun h => ?_) (fun h => ?_)
      · exact absurd h (by omega)
      refine x_iload4 C d_X_giveBack_14 ?_
      refine x_iconst C d_X_giveBack_16 kI_3 ?_
      refine x_icmp_geN C d_X_giveBack_17 (by omega) (by omega) (fun h2 => ?_) (fun h2 => ?_)
      · exact fin g G s o _ _ hg ho hsa hsn hsd hiff
      have hp : 0 < 2 ^ o := Nat.two_pow_pos o
      have hpp := Nat.pow_succ (n := 2) (m := o)
      obtain ⟨b1, b2, b3⟩ := bud o h2 s (by omega) hsa
      generalize s ^^^ 2 ^ o = t at b1 b2 b3
      refine x_iload3 C d_X_giveBack_20 ?_
      refine x_iconst C d_X_giveBack_21 kI_1 ?_
      refine x_iload4 C d_X_giveBack_22 ?_
      refine x_ishl C d_X_giveBack_24 (sh1 (by omega)) ?_
      refine x_ixor C d_X_giveBack_25 b2 ?_
      refine x_istore6 C d_X_giveBack_26 ?_
      refine x_aload0 C d_X_giveBack_28 ?_
      refine x_g1 C d_X_giveBack_29 ?_
      refine x_bipush C d_X_giveBack_32 kB_48 ?_
      refine x_iload4 C d_X_giveBack_34 ?_
      refine x_imulN C d_X_giveBack_36 ?_
      refine x_iload6 C d_X_giveBack_37 ?_
      refine x_iaddN C d_X_giveBack_39 ?_
      refine x_ld1 C d_X_giveBack_40 (by omega) ?_
      refine x_top (y := g (48 * o + t)) rfl ?_
      refine x_if_ne C d_X_giveBack_41 (fun hx => ?_) (fun hx => ?_)
      · have hrun := hg.1 o t (by omega) b1 hx
        have hnext : xW Γ a (xP a) (sA σ 1 (upd g (48 * o + t) (nI 0))) 73 [some (.ref (a.2.2.2 0)), some (.int (nI f0)), some (.int (nI od)), some (.int (nI s)), some (.int (nI o)), some (.int (nI k)), some (.int (nI t))] [.int (nI (if s < t then s else t))] := by
          refine x_istore3 C d_X_giveBack_73 ?_
          refine x_iincN4 C d_X_giveBack_74 ?_
          refine x_iincN5 C d_X_giveBack_77 ?_
          refine x_goto C d_X_giveBack_80 ?_
          refine ih (k + 1) (by omega) _ (fun x => G x ∧ ¬ (t ≤ x ∧ x < t + 2 ^ o)) _ (o + 1) _ (hg.del (by omega) b1 hx) (by omega) ?_ ?_ ?_ ?_
          · split
            · rcases b3 with b3 | b3
              · exact b3.2
              · omega
            · rcases b3 with b3 | b3
              · omega
              · exact b3.2
          · split <;> omega
          · intro f f1 f2 q
            have : s ≤ f ∧ f < s + 2 ^ o := by
              split at f1 <;> split at f2 <;> omega
            exact hsd f this.1 this.2 q.1
          · intro f
            rw [← hiff f]
            have hr : ((if s < t then s else t) ≤ f ∧ f < (if s < t then s else t) + 2 ^ (o + 1)) ↔ ((s ≤ f ∧ f < s + 2 ^ o) ∨ (t ≤ f ∧ f < t + 2 ^ o)) := by
              split <;> omega
            rw [hr]
            constructor
            · rintro (q | q | q)
              · exact Or.inl q.1
              · exact Or.inr q
              · exact Or.inl (hrun.2.2 f q.1 q.2)
            · rintro (q | q)
              · by_cases hx2 : t ≤ f ∧ f < t + 2 ^ o
                · exact Or.inr (Or.inr hx2)
                · exact Or.inl ⟨q, hx2⟩
              · exact Or.inr (Or.inl q)
        refine x_aload0 C d_X_giveBack_47 ?_
        refine x_g1 C d_X_giveBack_48 ?_
        refine x_bipush C d_X_giveBack_51 kB_48 ?_
        refine x_iload4 C d_X_giveBack_53 ?_
        refine x_imulN C d_X_giveBack_55 ?_
        refine x_iload6 C d_X_giveBack_56 ?_
        refine x_iaddN C d_X_giveBack_58 ?_
        refine x_iconst C d_X_giveBack_59 kI_0 ?_
        refine x_st1 C d_X_giveBack_60 (by omega) (zb_nar zb_0) ?_
        rw [sS_sA]
        refine x_iload3 C d_X_giveBack_61 ?_
        refine x_iload6 C d_X_giveBack_62 ?_
        refine x_icmp_geN C d_X_giveBack_64 (by omega) (by omega) (fun h4 => ?_) (fun h4 => ?_)
        · refine x_iload6 C d_X_giveBack_71 ?_
          rw [if_neg (by omega)] at hnext
          exact hnext
        · refine x_iload3 C d_X_giveBack_67 ?_
          refine x_goto C d_X_giveBack_68 ?_
          rw [if_pos (by omega)] at hnext
          exact hnext
      · refine x_goto C d_X_giveBack_44 ?_
        exact fin g G s o _ _ hg ho hsa hsn hsd hiff
  refine x_iload1 C d_X_giveBack_0 ?_
  refine x_istore3 C d_X_giveBack_1 ?_
  refine x_iload2 C d_X_giveBack_2 ?_
  refine x_istore4 C d_X_giveBack_3 ?_
  refine x_iconst C d_X_giveBack_5 kI_0 ?_
  refine x_istore5 C d_X_giveBack_6 ?_
  have h0 := loop 3 0 rfl (σ 1) F f0 od none hF hod ha hs hd (fun f => Iff.rfl)
  rw [sA_self] at h0
  exact h0
end
section
/-! The pages' invariant, in plain Lean -/
def cnt (P : Nat → Bool) : Nat → Nat
  | 0 => 0
  | k + 1 => cnt P k + (P k).toNat
theorem cnt_congr {P Q : Nat → Bool} : ∀ {N : Nat}, (∀ q, q < N → P q = Q q) → cnt P N = cnt Q N
  | 0, _ => rfl
  | N + 1, h => by rw [cnt, cnt, cnt_congr (fun q hq => h q (by omega)), h N (by omega)]
theorem cnt_add {P Q : Nat → Bool} {p : Nat} : ∀ {N : Nat}, p < N → P p = false → Q p = true → (∀ q, q < N → q ≠ p → Q q = P q) → cnt Q N = cnt P N + 1
  | 0, h, _, _, _ => absurd h (by omega)
  | N + 1, h, h0, h1, hq => by
    rw [cnt, cnt]
    by_cases e : p = N
    · subst e
      rw [cnt_congr (P := Q) (Q := P) (fun q h2 => hq q (by omega) (by omega)), h0, h1]
      rfl
    · rw [cnt_add (by omega) h0 h1 (fun q h2 h3 => hq q (by omega) h3), hq N (by omega) (Ne.symm e)]
      omega
theorem cnt_inj {N : Nat} : ∀ (n : Nat) (P : Nat → Bool) (g : Nat → Nat), (∀ f, f < n → g f < N ∧ P (g f) = true) → (∀ f f', f < n → f' < n → g f = g f' → f = f') → n ≤ cnt P N
  | 0, _, _, _, _ => Nat.zero_le _
  | n + 1, P, g, h, hi => by
    have h1 := cnt_inj n (fun q => P q && !decide (q = g n)) g (fun f hf => ⟨(h f (by omega)).1, by
      have : g f ≠ g n := fun e => by have := hi f n (by omega) (by omega) e; omega
      simp [(h f (by omega)).2, this]⟩) (fun f f' hf hf' => hi f f' (by omega) (by omega))
    have h2 := cnt_add (P := fun q => P q && !decide (q = g n)) (Q := P) (p := g n) (h n (by omega)).1 (by simp) (h n (by omega)).2 (fun q _ hq => by simp [hq])
    omega
theorem cnt_le {P : Nat → Bool} : ∀ {N : Nat}, cnt P N ≤ N
  | 0 => Nat.le_refl _
  | N + 1 => by
    have := cnt_le (P := P) (N := N)
    have h2 : (P N).toNat ≤ 1 := by cases P N <;> simp
    rw [cnt]
    omega
/-! bits of a block's set -/
def btB (x : Int32) (k : Nat) : Bool := decide ((x >>> (nI k &&& 31)) &&& nI 1 = nI 1)
theorem bt_or : ∀ h, h < 16 → ∀ k, k < 4 → (nI h ||| (nI 1 <<< (nI k &&& 31))) = nI (h ||| 2 ^ k) ∧ (h ||| 2 ^ k) < 16 ∧ ¬ nI (h ||| 2 ^ k) = nI 0 ∧ ∀ j, j < 4 → btB (nI (h ||| 2 ^ k)) j = (btB (nI h) j || decide (j = k)) := by decide +kernel
theorem bt_an : ∀ h, h < 16 → ∀ k, k < 4 → (nI h &&& ((nI 1 <<< (nI k &&& 31)) ^^^ (-1))) = nI (h &&& (15 ^^^ 2 ^ k)) ∧ (h &&& (15 ^^^ 2 ^ k)) < 16 ∧ ∀ j, j < 4 → btB (nI (h &&& (15 ^^^ 2 ^ k))) j = (btB (nI h) j && !decide (j = k)) := by decide +kernel
theorem bt_15 : ∀ j, j < 4 → btB (nI 15) j = true := by decide +kernel
theorem bt_0 : ∀ j, j < 4 → btB (nI 0) j = false := by decide +kernel
theorem bt_n15 : ∀ h, h < 16 → ¬ nI h = nI 15 → ∃ j, j < 4 ∧ btB (nI h) j = false := by
  have : ∀ h, h < 16 → nI h = nI 15 ∨ btB (nI h) 0 = false ∨ btB (nI h) 1 = false ∨ btB (nI h) 2 = false ∨ btB (nI h) 3 = false := by decide +kernel
  intro h hh hn
  rcases this h hh with q | q | q | q | q
  · exact absurd q hn
  · exact ⟨0, by omega, q⟩
  · exact ⟨1, by omega, q⟩
  · exact ⟨2, by omega, q⟩
  · exact ⟨3, by omega, q⟩
theorem hb_d (σ : xT) (p : Nat) : hasB σ p = btB (σ 5 (p / 4)) (p % 4) := rfl
theorem hb_e (σ : xT) {b k : Nat} (hk : k < 4) : hasB σ (4 * b + k) = btB (σ 5 b) k := by
  rw [hb_d, show (4 * b + k) / 4 = b by omega, show (4 * b + k) % 4 = k by omega]
theorem hb_5 {σ u : xT} (h : u 5 = σ 5) : hasB u = hasB σ := by
  funext q
  rw [hb_d, hb_d, h]
theorem nIm {k : Nat} (h : k < 2 ^ 31) : ¬ nI k = -1 := by
  intro e
  have h1 := nI_toInt h
  rw [e] at h1
  have h2 : (-1 : Int32).toInt = -1 := by decide +kernel
  omega
theorem nIe {j k : Nat} (hj : j < 2 ^ 31) (hk : k < 2 ^ 31) (h : nI j = nI k) : j = k := (nI_eq hj hk).mp h
/-- the invariant; own says whose a frame is: 0 free, b + 1 reserved for block b, 100 + p page p's own, 1000 in hand. Block b0 may be reserved though it holds no page -/
def PIx (σ : xT) (n : Nat) (own : Nat → Nat) (b0 : Nat) : Prop :=
  (σ 9 0 = nI n ∧ n ≤ 48 ∧ n % 8 = 0) ∧
  FI (σ 1) n (fun f => own f = 0) ∧
  (∀ b, b < 16 → ∃ h, h < 16 ∧ σ 5 b = nI h) ∧
  (∀ b, b < 16 → ¬ σ 4 b = -1 → ∃ β, σ 4 b = nI β ∧ β % 4 = 0 ∧ β + 4 ≤ n ∧ (b ≠ b0 → ¬ σ 5 b = nI 0) ∧ ∀ f, β ≤ f → f < β + 4 → own f = b + 1) ∧
  (∀ b f, b < 16 → own f = b + 1 → ∃ β, σ 4 b = nI β ∧ β + 4 ≤ n ∧ β ≤ f ∧ f < β + 4) ∧
  (∀ p, p < 64 → hasB σ p = true → σ 4 (p / 4) = -1 → ∃ f, f < n ∧ σ 2 p = nI f ∧ own f = 100 + p) ∧
  (∀ p f, p < 64 → own f = 100 + p → f < n ∧ hasB σ p = true ∧ σ 4 (p / 4) = -1 ∧ σ 2 p = nI f) ∧
  (∀ b, b < 16 → ¬ σ 6 b = 0 → ¬ σ 4 b = -1 ∧ σ 5 b = nI 15) ∧
  (∀ p, p < 64 → hasB σ p = true → ¬ σ 4 (p / 4) = -1 → σ 6 (p / 4) = 0 → σ 2 p = σ 4 (p / 4) + nI (p % 4)) ∧
  ((∀ p, p < 64 → zb (σ 3 p)) ∧ ∀ b, b < 16 → zb (σ 7 b)) ∧
  σ 10 0 = nI (cnt (hasB σ) 64) ∧
  (∀ f, f < n → own f = 0 ∨ own f = 1000 ∨ (∃ b, b < 16 ∧ own f = b + 1) ∨ ∃ p, p < 64 ∧ own f = 100 + p)
theorem P_cong {σ u : xT} {n b0 : Nat} {own : Nat → Nat} (h : PIx σ n own b0) (e : ∀ k, k ≠ 0 → k ≠ 8 → k ≠ 11 → u k = σ k) : PIx u n own b0 := by
  have h5 := hb_5 (e 5 (by decide) (by decide) (by decide))
  unfold PIx at h ⊢
  rw [h5, e 1 (by decide) (by decide) (by decide), e 2 (by decide) (by decide) (by decide), e 3 (by decide) (by decide) (by decide), e 4 (by decide) (by decide) (by decide), e 5 (by decide) (by decide) (by decide), e 6 (by decide) (by decide) (by decide), e 7 (by decide) (by decide) (by decide), e 9 (by decide) (by decide) (by decide), e 10 (by decide) (by decide) (by decide)]
  exact h
/-- what a page shows: its right to be written and its content, if it is mapped -/
def ctF (σ : xT) (q : Nat) : Int32 := σ 0 (trF σ q).toNatClampNeg
def vwF (σ : xT) (q : Nat) : Option (Int32 × Int32) := if hasB σ q = true then some (mwF σ q, ctF σ q) else none
theorem P_tr {σ : xT} {n b0 q : Nat} {own : Nat → Nat} (h : PIx σ n own b0) (hq : q < 64) (hh : hasB σ q = true) :
    ∃ f, f < n ∧ trF σ q = nI f ∧ ((σ 4 (q / 4) = -1 ∧ own f = 100 + q) ∨ (∃ β, σ 4 (q / 4) = nI β ∧ β + 4 ≤ n ∧ f = β + q % 4 ∧ own f = q / 4 + 1)) := by
  obtain ⟨⟨h9, hn, h8⟩, hF, hhd, hb, hb', hs, hs', hl, hf, hz, hc, ht⟩ := h
  by_cases hbase : σ 4 (q / 4) = -1
  · have h6 : σ 6 (q / 4) = 0 := Classical.byContradiction fun q6 => (hl (q / 4) (by omega) q6).1 hbase
    obtain ⟨f, f1, f2, f3⟩ := hs q hq hh hbase
    exact ⟨f, f1, by rw [trF, if_pos h6, f2], Or.inl ⟨hbase, f3⟩⟩
  · obtain ⟨β, b1, b2, b3, b4, b5⟩ := hb (q / 4) (by omega) hbase
    refine ⟨β + q % 4, by omega, ?_, Or.inr ⟨β, b1, b3, rfl, b5 _ (by omega) (by omega)⟩⟩
    unfold trF
    split
    · next h6 => rw [hf q hq hh hbase h6, b1, nI_add]
    · rw [b1, nI_add]
theorem P_inj {σ : xT} {n b0 q q' : Nat} {own : Nat → Nat} (h : PIx σ n own b0) (hq : q < 64) (hh : hasB σ q = true) (hq' : q' < 64) (hh' : hasB σ q' = true) (e : trF σ q = trF σ q') : q = q' := by
  have hn := h.1.2.1
  obtain ⟨f, f1, f2, f3⟩ := P_tr h hq hh
  obtain ⟨g, g1, g2, g3⟩ := P_tr h hq' hh'
  have hfg : f = g := nIe (by omega) (by omega) (by rw [← f2, ← g2, e])
  subst hfg
  rcases f3 with ⟨a1, a2⟩ | ⟨β, a1, a2, a3, a4⟩ <;> rcases g3 with ⟨c1, c2⟩ | ⟨γ, c1, c2, c3, c4⟩
  · omega
  · omega
  · omega
  · have hb : q / 4 = q' / 4 := by omega
    rw [hb, c1] at a1
    have := nIe (by omega) (by omega) a1
    omega
/-- another free array, another word on whose the free frames and those in hand are -/
theorem P_own {σ : xT} {n b0 : Nat} {own own' : Nat → Nat} {g : Nat → Int32} (h : PIx σ n own b0) (hg : FI g n (fun f => own' f = 0)) (he : ∀ f c, c ≠ 0 → c ≠ 1000 → (own' f = c ↔ own f = c)) : PIx (sA σ 1 g) n own' b0 := by
  obtain ⟨h1, hF, hhd, hb, hb', hs, hs', hl, hf, hz, hc, ht⟩ := h
  have h5 : hasB (sA σ 1 g) = hasB σ := hb_5 rfl
  unfold PIx
  rw [h5]
  refine ⟨h1, hg, hhd, fun b hb1 hb2 => ?_, fun b f hb1 hb2 => ?_, fun p hp1 hp2 hp3 => ?_, fun p f hp1 hp2 => ?_, hl, hf, hz, hc, fun f hf => ?_⟩
  · obtain ⟨β, c1, c2, c3, c4, c5⟩ := hb b hb1 hb2
    exact ⟨β, c1, c2, c3, c4, fun f f1 f2 => (he f (b + 1) (by omega) (by omega)).mpr (c5 f f1 f2)⟩
  · exact hb' b f hb1 ((he f (b + 1) (by omega) (by omega)).mp hb2)
  · obtain ⟨f, f1, f2, f3⟩ := hs p hp1 hp2 hp3
    exact ⟨f, f1, f2, (he f (100 + p) (by omega) (by omega)).mpr f3⟩
  · exact hs' p f hp1 ((he f (100 + p) (by omega) (by omega)).mp hp2)
  · by_cases e0 : own' f = 0
    · exact Or.inl e0
    · by_cases e1 : own' f = 1000
      · exact Or.inr (Or.inl e1)
      · have e2 := (he f (own' f) e0 e1).mp rfl
        rw [← e2]
        rcases ht f hf with q | q | q | q
        · omega
        · omega
        · exact Or.inr (Or.inr (Or.inl q))
        · exact Or.inr (Or.inr (Or.inr q))
/-- an empty block is reserved the frames in hand -/
theorem P_res {σ : xT} {n b s b0 : Nat} {own : Nat → Nat} (h : PIx σ n own b0) (hb0 : 16 ≤ b0) (hb : b < 16) (h4 : σ 4 b = -1) (he : ∀ k, k < 4 → hasB σ (4 * b + k) = false) (ha : s % 4 = 0) (hsn : s + 4 ≤ n) (ho : ∀ f, own f = 1000 ↔ (s ≤ f ∧ f < s + 4)) :
    PIx (sS σ 4 b (nI s)) n (fun f => if own f = 1000 then b + 1 else own f) b := by
  obtain ⟨h1, hF, hhd, hba, hb', hs, hs', hl, hf, hz, hc, ht⟩ := h
  have h5 : hasB (sS σ 4 b (nI s)) = hasB σ := hb_5 rfl
  have hno : ∀ p, p < 64 → hasB σ p = true → p / 4 ≠ b := by
    intro p hp1 hp2 hp3
    have := he (p % 4) (by omega)
    rw [← hp3, show 4 * (p / 4) + p % 4 = p by omega, hp2] at this
    cases this
  have e4 : ∀ c, sS σ 4 b (nI s) 4 c = if c = b then nI s else σ 4 c := fun c => by rw [sS_at]; simp
  have e6 : sS σ 4 b (nI s) 6 = σ 6 := rfl
  have e2 : sS σ 4 b (nI s) 2 = σ 2 := rfl
  have e55 : sS σ 4 b (nI s) 5 = σ 5 := rfl
  have hob : ∀ f, own f ≠ b + 1 := fun f q => by
    obtain ⟨β, c1, c2, c3, c4⟩ := hb' b f hb q
    rw [h4] at c1
    exact nIm (by omega) c1.symm
  unfold PIx
  rw [h5, e6, e2, e55]
  dsimp only
  refine ⟨h1, hF.to (fun f => ?_), hhd, fun c hc1 hc2 => ?_, fun c f hc1 hc2 => ?_, fun p hp1 hp2 hp3 => ?_, fun p f hp1 hp2 => ?_, fun c hc1 hc2 => ?_, fun p hp1 hp2 hp3 hp4 => ?_, hz, hc, fun f hf1 => ?_⟩
  · constructor
    · intro q
      rw [if_neg (by omega)]; exact q
    · intro q
      split at q <;> omega
  · rw [e4] at hc2 ⊢
    by_cases hcb : c = b
    · rw [if_pos hcb]
      exact ⟨s, rfl, ha, hsn, fun q => absurd hcb q, fun f f1 f2 => by rw [if_pos ((ho f).mpr ⟨f1, f2⟩), hcb]⟩
    · rw [if_neg hcb] at hc2 ⊢
      obtain ⟨β, c1, c2, c3, c4, c5⟩ := hba c hc1 hc2
      exact ⟨β, c1, c2, c3, fun _ => c4 (by omega), fun f f1 f2 => by rw [if_neg (by rw [c5 f f1 f2]; omega)]; exact c5 f f1 f2⟩
  · rw [e4]
    by_cases hcb : c = b
    · rw [if_pos hcb]
      by_cases hf1 : own f = 1000
      · have := (ho f).mp hf1
        exact ⟨s, rfl, hsn, this.1, this.2⟩
      · rw [if_neg hf1] at hc2
        exact absurd (hcb ▸ hc2) (hob f)
    · rw [if_neg hcb]
      by_cases hf1 : own f = 1000
      · rw [if_pos hf1] at hc2; omega
      · rw [if_neg hf1] at hc2
        exact hb' c f hc1 hc2
  · rw [e4, if_neg (hno p hp1 hp2)] at hp3
    obtain ⟨f, f1, f2, f3⟩ := hs p hp1 hp2 hp3
    exact ⟨f, f1, f2, by rw [if_neg (by omega)]; exact f3⟩
  · by_cases hf1 : own f = 1000
    · rw [if_pos hf1] at hp2; omega
    · rw [if_neg hf1] at hp2
      obtain ⟨f1, f2, f3, f4⟩ := hs' p f hp1 hp2
      exact ⟨f1, f2, by rw [e4, if_neg (hno p hp1 f2)]; exact f3, f4⟩
  · obtain ⟨l1, l2⟩ := hl c hc1 hc2
    rw [e4, if_neg (fun q => by rw [q] at l1; exact l1 h4)]
    exact ⟨l1, l2⟩
  · rw [e4, if_neg (hno p hp1 hp2)] at hp3 ⊢
    exact hf p hp1 hp2 hp3 hp4
  · by_cases hf2 : own f = 1000
    · exact Or.inr (Or.inr (Or.inl ⟨b, hb, by rw [if_pos hf2]⟩))
    · rw [if_neg hf2]; exact ht f hf1
/-- a reservation is given up: its pages keep their frames, the others are in hand -/
theorem P_unres {σ : xT} {n b β b0 : Nat} {own : Nat → Nat} (h : PIx σ n own b0) (hb0 : b0 = b ∨ 16 ≤ b0) (hb : b < 16) (h4 : σ 4 b = nI β) (hβ : β < 48) (h6 : σ 6 b = 0) :
    PIx (sS σ 4 b (-1)) n (fun f => if β ≤ f ∧ f < β + 4 then (if hasB σ (4 * b + (f - β)) = true then 100 + (4 * b + (f - β)) else 1000) else own f) 16 := by
  obtain ⟨h1, hF, hhd, hba, hb', hs, hs', hl, hf, hz, hc, ht⟩ := h
  have hm : ¬ σ 4 b = -1 := by rw [h4]; exact nIm (by omega)
  obtain ⟨β', c1, c2, c3, c4, c5⟩ := hba b hb hm
  have hbb : β' = β := nIe (by omega) (by omega) (by rw [← c1, h4])
  subst hbb
  have h5 : hasB (sS σ 4 b (-1)) = hasB σ := hb_5 rfl
  have e4 : ∀ c, sS σ 4 b (-1) 4 c = if c = b then -1 else σ 4 c := fun c => by rw [sS_at]; simp
  have e6 : sS σ 4 b (-1) 6 = σ 6 := rfl
  have e2 : sS σ 4 b (-1) 2 = σ 2 := rfl
  have e55 : sS σ 4 b (-1) 5 = σ 5 := rfl
  have hrun : ∀ f, own f = b + 1 → β' ≤ f ∧ f < β' + 4 := fun f q => by
    obtain ⟨γ, d1, d2, d3, d4⟩ := hb' b f hb q
    have : γ = β' := nIe (by omega) (by omega) (by rw [← d1, h4])
    omega
  unfold PIx
  rw [h5, e6, e2, e55]
  dsimp only
  refine ⟨h1, hF.to (fun f => ?_), hhd, fun c hc1 hc2 => ?_, fun c f hc1 hc2 => ?_, fun p hp1 hp2 hp3 => ?_, fun p f hp1 hp2 => ?_, fun c hc1 hc2 => ?_, fun p hp1 hp2 hp3 hp4 => ?_, hz, hc, fun f hf1 => ?_⟩
  · by_cases hr : β' ≤ f ∧ f < β' + 4
    · rw [if_pos hr, c5 f hr.1 hr.2]
      split <;> constructor <;> omega
    · rw [if_neg hr]
  · rw [e4] at hc2 ⊢
    by_cases hcb : c = b
    · rw [if_pos hcb] at hc2; exact absurd rfl hc2
    · rw [if_neg hcb] at hc2 ⊢
      obtain ⟨γ, d1, d2, d3, d4, d5⟩ := hba c hc1 hc2
      refine ⟨γ, d1, d2, d3, fun _ => d4 (by omega), fun f f1 f2 => ?_⟩
      rw [if_neg]
      · exact d5 f f1 f2
      · intro q
        have := c5 f q.1 q.2
        rw [d5 f f1 f2] at this
        omega
  · by_cases hr : β' ≤ f ∧ f < β' + 4
    · rw [if_pos hr] at hc2
      split at hc2 <;> omega
    · rw [if_neg hr] at hc2
      obtain ⟨γ, d1, d2, d3, d4⟩ := hb' c f hc1 hc2
      have hcb : c ≠ b := fun q => hr (hrun f (q ▸ hc2))
      exact ⟨γ, by rw [e4, if_neg hcb]; exact d1, d2, d3, d4⟩
  · by_cases hpb : p / 4 = b
    · have h7 := hf p hp1 hp2 (by rw [hpb]; exact hm) (by rw [hpb]; exact h6)
      refine ⟨β' + p % 4, by omega, by rw [h7, hpb, h4, nI_add], ?_⟩
      have e : 4 * b + (β' + p % 4 - β') = p := by omega
      rw [if_pos (by omega), e, if_pos hp2]
    · rw [e4, if_neg hpb] at hp3
      obtain ⟨f, f1, f2, f3⟩ := hs p hp1 hp2 hp3
      refine ⟨f, f1, f2, ?_⟩
      rw [if_neg]
      · exact f3
      · intro q
        have := c5 f q.1 q.2
        omega
  · by_cases hr : β' ≤ f ∧ f < β' + 4
    · rw [if_pos hr] at hp2
      by_cases hh : hasB σ (4 * b + (f - β')) = true
      · rw [if_pos hh] at hp2
        have e : p = 4 * b + (f - β') := by omega
        have hpb : p / 4 = b := by omega
        rw [← e] at hh
        have h7 := hf p hp1 hh (by rw [hpb]; exact hm) (by rw [hpb]; exact h6)
        refine ⟨by omega, hh, by rw [e4, if_pos hpb], ?_⟩
        rw [h7, hpb, h4, nI_add]
        congr 1
        omega
      · rw [if_neg hh] at hp2; omega
    · rw [if_neg hr] at hp2
      obtain ⟨f1, f2, f3, f4⟩ := hs' p f hp1 hp2
      have hpb : p / 4 ≠ b := fun q => by rw [q] at f3; exact hm f3
      exact ⟨f1, f2, by rw [e4, if_neg hpb]; exact f3, f4⟩
  · obtain ⟨l1, l2⟩ := hl c hc1 hc2
    have hcb : c ≠ b := fun q => by rw [q] at hc2; exact hc2 h6
    rw [e4, if_neg hcb]
    exact ⟨l1, l2⟩
  · rw [e4] at hp3 ⊢
    by_cases hpb : p / 4 = b
    · rw [if_pos hpb] at hp3; exact absurd rfl hp3
    · rw [if_neg hpb] at hp3 ⊢
      exact hf p hp1 hp2 hp3 hp4
  · by_cases hr : β' ≤ f ∧ f < β' + 4
    · rw [if_pos hr]
      split
      · exact Or.inr (Or.inr (Or.inr ⟨4 * b + (f - β'), by omega, rfl⟩))
      · exact Or.inr (Or.inl rfl)
    · rw [if_neg hr]; exact ht f hf1
end
section
/-! A page comes, a page goes -/
theorem nI_pred2 {k : Nat} (h : 0 < k) : nI k - nI 1 = nI (k - 1) := pk_sub (by omega)
theorem has_n15 {σ : xT} {p : Nat} (h : hasB σ p = false) : ¬ σ 5 (p / 4) = nI 15 := by
  intro e
  rw [hb_d, e, bt_15 _ (by omega)] at h
  cases h
def putF (σ : xT) (p φ : Nat) (w v : Int32) : xT := sS (sS (sS (sS (sS σ 2 p (nI φ)) 3 p w) 0 φ v) 5 (p / 4) (σ 5 (p / 4) ||| (nI 1 <<< (nI (p % 4) &&& 31)))) 10 0 (σ 10 0 + nI 1)
theorem put_e {σ : xT} {p φ h : Nat} {w v : Int32} (hh : h < 16) (e5 : σ 5 (p / 4) = nI h) (hn : hasB σ p = false) (hp : p < 64) : ∃ h', h' < 16 ∧ ¬ nI h' = nI 0 ∧ (∀ c, putF σ p φ w v 5 c = if c = p / 4 then nI h' else σ 5 c) ∧ (∀ q, hasB (putF σ p φ w v) q = (hasB σ q || decide (q = p))) ∧ cnt (hasB (putF σ p φ w v)) 64 = cnt (hasB σ) 64 + 1 := by
  obtain ⟨b1, b2, b3, b4⟩ := bt_or h hh (p % 4) (by omega)
  have e : ∀ c, putF σ p φ w v 5 c = if c = p / 4 then nI (h ||| 2 ^ (p % 4)) else σ 5 c := by
    intro c
    rw [putF, sS_at, if_neg (by omega), sS_at, e5, b1]
    by_cases hc : c = p / 4
    · rw [if_pos ⟨rfl, hc⟩, if_pos hc]
    · rw [if_neg (fun q => hc q.2), if_neg hc]
      rfl
  have e2 : ∀ q, hasB (putF σ p φ w v) q = (hasB σ q || decide (q = p)) := by
    intro q
    rw [hb_d, hb_d, e]
    by_cases hq : q / 4 = p / 4
    · rw [if_pos hq, hq, b4 (q % 4) (by omega), e5]
      congr 1
      exact decide_eq_decide.mpr (by omega)
    · rw [if_neg hq, decide_eq_false (by omega), Bool.or_false]
  refine ⟨_, b2, b3, e, e2, cnt_add hp hn ?_ (fun q _ hq => ?_)⟩
  · rw [e2]; simp
  · rw [e2, decide_eq_false hq, Bool.or_false]
theorem P_put {σ : xT} {n b0 p φ : Nat} {own own' : Nat → Nat} {w v : Int32} (h : PIx σ n own b0) (hb0 : b0 = p / 4 ∨ 16 ≤ b0) (hp : p < 64) (hn : hasB σ p = false) (hw : zb w)
    (hc : (∃ β, σ 4 (p / 4) = nI β ∧ β < 48 ∧ φ = β + p % 4 ∧ own' = own) ∨ (σ 4 (p / 4) = -1 ∧ φ < n ∧ own φ = 1000 ∧ ∀ f, own' f = if f = φ then 100 + p else own f)) :
    PIx (putF σ p φ w v) n own' 16 ∧ ∀ q, q < 64 → vwF (putF σ p φ w v) q = if q = p then some (w, v) else vwF σ q := by
  have hT := @P_tr σ n b0
  replace hT := fun q hq hh => hT (q := q) (own := own) h hq hh
  have hn48 := h.1.2.1
  obtain ⟨h1, hF, hhd, hba, hb', hs, hs', hl, hf, hz, hcn, ht⟩ := h
  obtain ⟨hd, hd1, hd2⟩ := hhd (p / 4) (by omega)
  obtain ⟨h', k1, k2, k3, k4, k5⟩ := put_e (φ := φ) (w := w) (v := v) hd1 hd2 hn hp
  have e2 : ∀ j, putF σ p φ w v 2 j = if j = p then nI φ else σ 2 j := fun j => by
    show sS σ 2 p (nI φ) 2 j = _
    rw [sS_at]; simp
  have e3 : ∀ j, putF σ p φ w v 3 j = if j = p then w else σ 3 j := fun j => by
    show sS (sS σ 2 p (nI φ)) 3 p w 3 j = _
    rw [sS_at]; simp; rfl
  have e0 : ∀ j, putF σ p φ w v 0 j = if j = φ then v else σ 0 j := fun j => by
    show sS (sS (sS σ 2 p (nI φ)) 3 p w) 0 φ v 0 j = _
    rw [sS_at]; simp; rfl
  have e4 : putF σ p φ w v 4 = σ 4 := rfl
  have e6 : putF σ p φ w v 6 = σ 6 := rfl
  have e7 : putF σ p φ w v 7 = σ 7 := rfl
  have e10 : putF σ p φ w v 10 0 = σ 10 0 + nI 1 := rfl
  have h6 : σ 6 (p / 4) = 0 := Classical.byContradiction fun q6 => has_n15 hn (hl (p / 4) (by omega) q6).2
  have hlr : ∀ q, q < 64 → hasB σ q = true → trF σ q ≠ nI φ := by
    intro q hq hh e
    obtain ⟨f, f1, f2, f3⟩ := hT q hq hh
    have hqp : q ≠ p := fun z => by rw [z, hn] at hh; cases hh
    rcases hc with ⟨β, c1, c2, c3, c4⟩ | ⟨c1, c2, c3, c4⟩
    · have hm : ¬ σ 4 (p / 4) = -1 := by rw [c1]; exact nIm (by omega)
      obtain ⟨β', d1, d2, d3, d4, d5⟩ := hba (p / 4) (by omega) hm
      have hbb : β' = β := nIe (by omega) (by omega) (by rw [← d1, c1])
      have hff : f = φ := nIe (by omega) (by omega) (by rw [← f2, e])
      have d6 := d5 φ (by omega) (by omega)
      rcases f3 with ⟨g1, g2⟩ | ⟨γ, g1, g2, g3, g4⟩
      · rw [hff] at g2; omega
      · rw [hff] at g4
        have hqb : q / 4 = p / 4 := by omega
        rw [hqb, c1] at g1
        have := nIe (by omega) (by omega) g1
        omega
    · have hff : f = φ := nIe (by omega) (by omega) (by rw [← f2, e])
      rw [hff] at f3
      rcases f3 with ⟨g1, g2⟩ | ⟨γ, g1, g2, g3, g4⟩
      · omega
      · omega
  have ho : ∀ f c, c ≠ 1000 → c ≠ 100 + p → (own' f = c ↔ own f = c) := by
    intro f c hc1 hc2
    rcases hc with ⟨β, c1, c2, c3, c4⟩ | ⟨c1, c2, c3, c4⟩
    · rw [c4]
    · rw [c4]
      by_cases hff : f = φ
      · rw [if_pos hff, hff, c3]; omega
      · rw [if_neg hff]
  constructor
  · unfold PIx
    rw [e4, e6, e7, k5, e10]
    refine ⟨h1, hF.to (fun f => (ho f 0 (by omega) (by omega)).symm), fun c hc1 => ?_, fun c hc1 hc2 => ?_, fun c f hc1 hc2 => ?_, fun q hq1 hq2 hq3 => ?_, fun q f hq1 hq2 => ?_, fun c hc1 hc2 => ?_, fun q hq1 hq2 hq3 hq4 => ?_, ⟨fun q hq => ?_, hz.2⟩, by rw [hcn, nI_add], fun f hf1 => ?_⟩
    · rw [k3]
      split
      · exact ⟨h', k1, rfl⟩
      · exact hhd c hc1
    · obtain ⟨β, d1, d2, d3, d4, d5⟩ := hba c hc1 hc2
      refine ⟨β, d1, d2, d3, fun _ => ?_, fun f f1 f2 => (ho f (c + 1) (by omega) (by omega)).mpr (d5 f f1 f2)⟩
      rw [k3]
      split
      · exact k2
      · exact d4 (by clear hc; omega)
    · exact hb' c f hc1 ((ho f (c + 1) (by omega) (by omega)).mp hc2)
    · rw [k4] at hq2
      rw [e2]
      by_cases hqp : q = p
      · rw [if_pos hqp]
        rcases hc with ⟨β, c1, c2, c3, c4⟩ | ⟨c1, c2, c3, c4⟩
        · rw [hqp, c1] at hq3
          exact absurd hq3 (nIm (by omega))
        · exact ⟨φ, c2, rfl, by rw [c4, if_pos rfl, hqp]⟩
      · rw [if_neg hqp]
        rw [decide_eq_false hqp, Bool.or_false] at hq2
        obtain ⟨f, f1, f2, f3⟩ := hs q hq1 hq2 hq3
        exact ⟨f, f1, f2, (ho f (100 + q) (by omega) (by omega)).mpr f3⟩
    · rw [k4, e2]
      by_cases hqp : q = p
      · subst hqp
        rw [if_pos rfl]
        rcases hc with ⟨β, c1, c2, c3, c4⟩ | ⟨c1, c2, c3, c4⟩
        · rw [c4] at hq2
          have := (hs' q f hq1 hq2).2.1
          rw [hn] at this; cases this
        · by_cases hff : f = φ
          · exact ⟨by omega, by simp, c1, by rw [hff]⟩
          · rw [c4, if_neg hff] at hq2
            have := (hs' q f hq1 hq2).2.1
            rw [hn] at this; cases this
      · rw [if_neg hqp]
        obtain ⟨f1, f2, f3, f4⟩ := hs' q f hq1 ((ho f (100 + q) (by omega) (by omega)).mp hq2)
        exact ⟨f1, by rw [f2]; rfl, f3, f4⟩
    · obtain ⟨l1, l2⟩ := hl c hc1 hc2
      refine ⟨l1, ?_⟩
      rw [k3, if_neg (fun z => by rw [z] at hc2; exact hc2 h6)]
      exact l2
    · rw [k4] at hq2
      rw [e2]
      by_cases hqp : q = p
      · rw [if_pos hqp]
        rcases hc with ⟨β, c1, c2, c3, c4⟩ | ⟨c1, c2, c3, c4⟩
        · rw [hqp, c1, c3, nI_add]
        · rw [hqp] at hq3; exact absurd c1 hq3
      · rw [if_neg hqp]
        rw [decide_eq_false hqp, Bool.or_false] at hq2
        exact hf q hq1 hq2 hq3 hq4
    · rw [e3]
      split
      · exact hw
      · exact hz.1 q hq
    · rcases hc with ⟨β, c1, c2, c3, c4⟩ | ⟨c1, c2, c3, c4⟩
      · rw [c4]; exact ht f hf1
      · rw [c4]
        by_cases hff : f = φ
        · rw [if_pos hff]; exact Or.inr (Or.inr (Or.inr ⟨p, hp, rfl⟩))
        · rw [if_neg hff]; exact ht f hf1
  · intro q hq
    unfold vwF
    rw [k4]
    by_cases hqp : q = p
    · rw [if_pos hqp, if_pos (by simp [hqp])]
      have t1 : trF (putF σ p φ w v) q = nI φ := by rw [trF, e6, hqp, if_pos h6, e2, if_pos rfl]
      have t2 : mwF (putF σ p φ w v) q = w := by rw [mwF, e6, hqp, if_pos h6, e3, if_pos rfl]
      rw [ctF, t1, t2, e0, nI_clamp, if_pos rfl]
      rcases hc with ⟨β, c1, c2, c3, c4⟩ | ⟨c1, c2, c3, c4⟩ <;> omega
    · rw [if_neg hqp, decide_eq_false hqp, Bool.or_false]
      by_cases hh : hasB σ q = true
      · rw [if_pos hh, if_pos hh]
        have t1 : trF (putF σ p φ w v) q = trF σ q := by rw [trF, trF, e6, e4, e2, if_neg hqp]
        have t2 : mwF (putF σ p φ w v) q = mwF σ q := by rw [mwF, mwF, e6, e7, e3, if_neg hqp]
        obtain ⟨f, f1, f2, f3⟩ := hT q hq hh
        have hfp : f ≠ φ := fun z => hlr q hq hh (by rw [f2, z])
        rw [ctF, ctF, t1, t2, f2, nI_clamp (by omega), e0, if_neg hfp]
      · rw [if_neg hh, if_neg hh]
def delF (σ : xT) (p φ : Nat) : xT := sS (sS (sS (sS σ 2 p (-1)) 5 (p / 4) (σ 5 (p / 4) &&& ((nI 1 <<< (nI (p % 4) &&& 31)) ^^^ (-1)))) 10 0 (σ 10 0 - nI 1)) 0 φ (nI 0)
theorem del_e {σ : xT} {p φ h : Nat} (hh : h < 16) (e5 : σ 5 (p / 4) = nI h) (hn : hasB σ p = true) (hp : p < 64) : ∃ h', h' < 16 ∧ (∀ c, delF σ p φ 5 c = if c = p / 4 then nI h' else σ 5 c) ∧ (∀ q, hasB (delF σ p φ) q = (hasB σ q && !decide (q = p))) ∧ cnt (hasB σ) 64 = cnt (hasB (delF σ p φ)) 64 + 1 := by
  obtain ⟨b1, b2, b4⟩ := bt_an h hh (p % 4) (by omega)
  have e : ∀ c, delF σ p φ 5 c = if c = p / 4 then nI (h &&& (15 ^^^ 2 ^ (p % 4))) else σ 5 c := by
    intro c
    rw [delF, sS_at, if_neg (by omega), sS_at, if_neg (by omega), sS_at, e5, b1]
    by_cases hc : c = p / 4
    · rw [if_pos ⟨rfl, hc⟩, if_pos hc]
    · rw [if_neg (fun q => hc q.2), if_neg hc]
      rfl
  have e2 : ∀ q, hasB (delF σ p φ) q = (hasB σ q && !decide (q = p)) := by
    intro q
    rw [hb_d, hb_d, e]
    by_cases hq : q / 4 = p / 4
    · rw [if_pos hq, hq, b4 (q % 4) (by omega), e5]
      congr 2
      exact decide_eq_decide.mpr (by omega)
    · rw [if_neg hq, decide_eq_false (by omega), Bool.not_false, Bool.and_true]
  refine ⟨_, b2, e, e2, cnt_add hp ?_ hn (fun q _ hq => ?_)⟩
  · rw [e2]; simp
  · rw [e2, decide_eq_false hq, Bool.not_false, Bool.and_true]
theorem P_del {σ : xT} {n p φ b0 : Nat} {own own' : Nat → Nat} (h : PIx σ n own 16) (hp : p < 64) (hn : hasB σ p = true) (h6 : σ 6 (p / 4) = 0) (h2 : σ 2 p = nI φ) (hφ : φ < 48)
    (hc : (¬ σ 4 (p / 4) = -1 ∧ own' = own ∧ b0 = p / 4) ∨ (σ 4 (p / 4) = -1 ∧ b0 = 16 ∧ ∀ f, own' f = if f = φ then 1000 else own f)) :
    PIx (delF σ p φ) n own' b0 ∧ ∀ q, q < 64 → vwF (delF σ p φ) q = if q = p then none else vwF σ q := by
  have hJ := fun q hq hh e => P_inj (q := q) (q' := p) h hq hh hp hn e
  have hT := fun q hq hh => P_tr (q := q) h hq hh
  have hn48 := h.1.2.1
  obtain ⟨h1, hF, hhd, hba, hb', hs, hs', hl, hf, hz, hcn, ht⟩ := h
  obtain ⟨hd, hd1, hd2⟩ := hhd (p / 4) (by omega)
  obtain ⟨h', k1, k3, k4, k5⟩ := del_e (φ := φ) hd1 hd2 hn hp
  have e2 : ∀ j, delF σ p φ 2 j = if j = p then -1 else σ 2 j := fun j => by
    show sS σ 2 p (-1) 2 j = _
    rw [sS_at]; simp
  have e0 : ∀ j, delF σ p φ 0 j = if j = φ then nI 0 else σ 0 j := fun j => by
    rw [delF, sS_at]; simp; rfl
  have e3 : delF σ p φ 3 = σ 3 := rfl
  have e4 : delF σ p φ 4 = σ 4 := rfl
  have e6 : delF σ p φ 6 = σ 6 := rfl
  have e7 : delF σ p φ 7 = σ 7 := rfl
  have e10 : delF σ p φ 10 0 = σ 10 0 - nI 1 := rfl
  have hop : σ 4 (p / 4) = -1 → own φ = 100 + p := by
    intro q
    obtain ⟨f, f1, f2, f3⟩ := hs p hp hn q
    have : f = φ := nIe (by omega) (by omega) (by rw [← f2, h2])
    rw [← this]; exact f3
  have ho : ∀ f c, c ≠ 1000 → c ≠ 100 + p → (own' f = c ↔ own f = c) := by
    intro f c hc1 hc2
    rcases hc with ⟨c1, c4, c5⟩ | ⟨c1, c2, c4⟩
    · rw [c4]
    · rw [c4]
      by_cases hff : f = φ
      · rw [if_pos hff, hff, hop c1]; omega
      · rw [if_neg hff]
  have hbase : ∀ f, own f = 100 + p → f = φ ∧ σ 4 (p / 4) = -1 := by
    intro f q
    obtain ⟨f1, f2, f3, f4⟩ := hs' p f hp q
    exact ⟨nIe (by omega) (by omega) (by rw [← f4, h2]), f3⟩
  constructor
  · unfold PIx
    rw [e3, e4, e6, e7, e10]
    refine ⟨h1, hF.to (fun f => (ho f 0 (by omega) (by omega)).symm), fun c hc1 => ?_, fun c hc1 hc2 => ?_, fun c f hc1 hc2 => ?_, fun q hq1 hq2 hq3 => ?_, fun q f hq1 hq2 => ?_, fun c hc1 hc2 => ?_, fun q hq1 hq2 hq3 hq4 => ?_, hz, ?_, fun f hf1 => ?_⟩
    · rw [k3]
      split
      · exact ⟨h', k1, rfl⟩
      · exact hhd c hc1
    · obtain ⟨β, d1, d2, d3, d4, d5⟩ := hba c hc1 hc2
      refine ⟨β, d1, d2, d3, fun hcb => ?_, fun f f1 f2 => (ho f (c + 1) (by omega) (by omega)).mpr (d5 f f1 f2)⟩
      rw [k3]
      by_cases hcp : c = p / 4
      · rcases hc with ⟨c1, c4, c5⟩ | ⟨c1, c2, c4⟩
        · exact absurd (hcp.trans c5.symm) hcb
        · rw [hcp] at hc2; exact absurd c1 hc2
      · rw [if_neg hcp]
        exact d4 (by omega)
    · exact hb' c f hc1 ((ho f (c + 1) (by omega) (by omega)).mp hc2)
    · rw [k4] at hq2
      simp at hq2
      rw [e2, if_neg hq2.2]
      obtain ⟨f, f1, f2, f3⟩ := hs q hq1 hq2.1 hq3
      exact ⟨f, f1, f2, (ho f (100 + q) (by omega) (by omega)).mpr f3⟩
    · have hqp : q ≠ p := by
        intro z
        subst z
        rcases hc with ⟨c1, c4, c5⟩ | ⟨c1, c2, c4⟩
        · rw [c4] at hq2
          exact c1 (hbase f hq2).2
        · rw [c4] at hq2
          by_cases hff : f = φ
          · rw [if_pos hff] at hq2; omega
          · rw [if_neg hff] at hq2
            exact hff (hbase f hq2).1
      rw [k4, e2, if_neg hqp]
      obtain ⟨f1, f2, f3, f4⟩ := hs' q f hq1 ((ho f (100 + q) (by omega) (by omega)).mp hq2)
      exact ⟨f1, by rw [f2]; simp [hqp], f3, f4⟩
    · obtain ⟨l1, l2⟩ := hl c hc1 hc2
      refine ⟨l1, ?_⟩
      rw [k3, if_neg (fun z => by rw [z] at hc2; exact hc2 h6)]
      exact l2
    · rw [k4] at hq2
      simp at hq2
      rw [e2, if_neg hq2.2]
      exact hf q hq1 hq2.1 hq3 hq4
    · rw [hcn, k5, nI_pred2 (by omega), Nat.add_sub_cancel]
    · by_cases h3 : own' f = 1000
      · exact Or.inr (Or.inl h3)
      · rcases hc with ⟨c1, c4, c5⟩ | ⟨c1, c2, c4⟩
        · rw [c4]; exact ht f hf1
        · rw [c4] at h3 ⊢
          by_cases hff : f = φ
          · rw [if_pos hff] at h3; exact absurd rfl h3
          · rw [if_neg hff]; exact ht f hf1
  · intro q hq
    unfold vwF
    rw [k4]
    by_cases hqp : q = p
    · rw [if_pos hqp, if_neg (by simp [hqp])]
    · rw [if_neg hqp, decide_eq_false hqp, Bool.not_false, Bool.and_true]
      by_cases hh : hasB σ q = true
      · rw [if_pos hh, if_pos hh]
        have t1 : trF (delF σ p φ) q = trF σ q := by rw [trF, trF, e6, e4, e2, if_neg hqp]
        have t2 : mwF (delF σ p φ) q = mwF σ q := by rw [mwF, mwF, e6, e7, e3]
        obtain ⟨f, f1, f2, f3⟩ := hT q hq hh
        have hfp : f ≠ φ := fun z => hqp (hJ q hq hh (by rw [f2, z, trF, if_pos h6, h2]))
        rw [ctF, ctF, t1, t2, f2, nI_clamp (by omega), e0, if_neg hfp]
      · rw [if_neg hh, if_neg hh]
end
section
/-! Large mappings come and go; rights and contents are set -/
theorem vw_cong {σ u : xT} {q : Nat} (h : hasB u q = hasB σ q) (ht : hasB σ q = true → mwF u q = mwF σ q ∧ trF u q = trF σ q) (h0 : u 0 = σ 0) : vwF u q = vwF σ q := by
  unfold vwF
  rw [h]
  by_cases hh : hasB σ q = true
  · obtain ⟨a, b⟩ := ht hh
    rw [if_pos hh, if_pos hh, a, ctF, ctF, b, h0]
  · rw [if_neg hh, if_neg hh]
theorem P_brk {σ : xT} {n b b0 : Nat} {own : Nat → Nat} (h : PIx σ n own b0) (hb : b < 16) (h6 : ¬ σ 6 b = 0) : PIx (bkF σ b) n own b0 ∧ (∀ q, q < 64 → vwF (bkF σ b) q = vwF σ q) ∧ hasB (bkF σ b) = hasB σ ∧ bkF σ b 6 b = 0 := by
  obtain ⟨h1, hF, hhd, hba, hb', hs, hs', hl, hf, hz, hcn, ht⟩ := h
  obtain ⟨l1, l2⟩ := hl b hb h6
  have h5 : hasB (bkF σ b) = hasB σ := hb_5 rfl
  have e2 : ∀ j, bkF σ b 2 j = if 4 * b ≤ j ∧ j < 4 * b + 4 then σ 4 b + nI (j - 4 * b) else σ 2 j := fun j => by
    show bkL σ b 4 2 j = _
    simp [bkL]
  have e3 : ∀ j, bkF σ b 3 j = if 4 * b ≤ j ∧ j < 4 * b + 4 then σ 7 b else σ 3 j := fun j => by
    show bkL σ b 4 3 j = _
    simp [bkL]
  have e6 : ∀ j, bkF σ b 6 j = if j = b then nI 0 else σ 6 j := fun j => by
    rw [bkF, sS_at]; simp; rfl
  have e0 : bkF σ b 0 = σ 0 := rfl
  have e1 : bkF σ b 1 = σ 1 := rfl
  have e4 : bkF σ b 4 = σ 4 := rfl
  have e55 : bkF σ b 5 = σ 5 := rfl
  have e7 : bkF σ b 7 = σ 7 := rfl
  have e9 : bkF σ b 9 = σ 9 := rfl
  have e10 : bkF σ b 10 = σ 10 := rfl
  have e60 : bkF σ b 6 b = 0 := by rw [e6, if_pos rfl]; exact nI0
  refine ⟨?_, fun q hq => vw_cong (by rw [h5]) (fun hh => ?_) rfl, h5, e60⟩
  · unfold PIx
    rw [h5, e1, e4, e55, e7, e9, e10]
    refine ⟨h1, hF, hhd, hba, hb', fun p hp1 hp2 hp3 => ?_, fun p f hp1 hp2 => ?_, fun c hc1 hc2 => ?_, fun p hp1 hp2 hp3 hp4 => ?_, ⟨fun p hp => ?_, hz.2⟩, hcn, ht⟩
    · have : p / 4 ≠ b := fun z => by rw [z] at hp3; exact l1 hp3
      rw [e2, if_neg (by omega)]
      exact hs p hp1 hp2 hp3
    · obtain ⟨f1, f2, f3, f4⟩ := hs' p f hp1 hp2
      have : p / 4 ≠ b := fun z => by rw [z] at f3; exact l1 f3
      rw [e2, if_neg (by omega)]
      exact ⟨f1, f2, f3, f4⟩
    · rw [e6] at hc2
      by_cases hcb : c = b
      · rw [if_pos hcb] at hc2; exact absurd nI0 hc2
      · rw [if_neg hcb] at hc2; exact hl c hc1 hc2
    · rw [e2]
      by_cases hpb : p / 4 = b
      · rw [if_pos (by omega), hpb]
        congr 2
        omega
      · rw [if_neg (by omega)]
        rw [e6, if_neg hpb] at hp4
        exact hf p hp1 hp2 hp3 hp4
    · rw [e3]
      split
      · exact hz.2 b hb
      · exact hz.1 p hp
  · by_cases hqb : q / 4 = b
    · constructor
      · rw [mwF, mwF, hqb, if_pos e60, if_neg h6, e3, if_pos (by omega)]
      · rw [trF, trF, hqb, if_pos e60, if_neg h6, e2, if_pos (by omega)]
        congr 2
        omega
    · have hq4 : ¬ (4 * b ≤ q ∧ q < 4 * b + 4) := by omega
      constructor
      · rw [mwF, mwF, e6, if_neg hqb, e3, if_neg hq4, e7]
      · rw [trF, trF, e6, if_neg hqb, e2, if_neg hq4, e4]
theorem P_jn {σ : xT} {n b b0 : Nat} {own : Nat → Nat} (h : PIx σ n own b0) (hb : b < 16) (hj : jnC σ b) : PIx (jnF σ b) n own b0 ∧ (∀ q, q < 64 → vwF (jnF σ b) q = vwF σ q) := by
  obtain ⟨h1, hF, hhd, hba, hb', hs, hs', hl, hf, hz, hcn, ht⟩ := h
  obtain ⟨j1, j2, j3, j4⟩ := hj
  have h5 : hasB (jnF σ b) = hasB σ := hb_5 rfl
  have e2 : ∀ j, jnF σ b 2 j = if 4 * b ≤ j ∧ j < 4 * b + 4 then -1 else σ 2 j := fun j => by
    show jnL _ b 4 2 j = _
    simp [jnL]; rfl
  have e6 : ∀ j, jnF σ b 6 j = if j = b then nI 1 else σ 6 j := fun j => by
    show sS (sS σ 6 b (nI 1)) 7 b (σ 3 (4 * b)) 6 j = _
    rw [sS_at, sS_at]; simp
  have e7 : ∀ j, jnF σ b 7 j = if j = b then σ 3 (4 * b) else σ 7 j := fun j => by
    show sS (sS σ 6 b (nI 1)) 7 b (σ 3 (4 * b)) 7 j = _
    rw [sS_at, sS_at]; simp
  have e0 : jnF σ b 0 = σ 0 := rfl
  have e1 : jnF σ b 1 = σ 1 := rfl
  have e3 : jnF σ b 3 = σ 3 := rfl
  have e4 : jnF σ b 4 = σ 4 := rfl
  have e55 : jnF σ b 5 = σ 5 := rfl
  have e9 : jnF σ b 9 = σ 9 := rfl
  have e10 : jnF σ b 10 = σ 10 := rfl
  have n10 : ¬ nI 1 = 0 := by decide +kernel
  have e61 : ¬ jnF σ b 6 b = 0 := by rw [e6, if_pos rfl]; exact n10
  refine ⟨?_, fun q hq => vw_cong (by rw [h5]) (fun hh => ?_) rfl⟩
  · unfold PIx
    rw [h5, e1, e3, e4, e55, e9, e10]
    refine ⟨h1, hF, hhd, hba, hb', fun p hp1 hp2 hp3 => ?_, fun p f hp1 hp2 => ?_, fun c hc1 hc2 => ?_, fun p hp1 hp2 hp3 hp4 => ?_, ⟨hz.1, fun c hc => ?_⟩, hcn, ht⟩
    · have : p / 4 ≠ b := fun z => by rw [z] at hp3; exact j1 hp3
      rw [e2, if_neg (by omega)]
      exact hs p hp1 hp2 hp3
    · obtain ⟨f1, f2, f3, f4⟩ := hs' p f hp1 hp2
      have : p / 4 ≠ b := fun z => by rw [z] at f3; exact j1 f3
      rw [e2, if_neg (by omega)]
      exact ⟨f1, f2, f3, f4⟩
    · rw [e6] at hc2
      by_cases hcb : c = b
      · rw [hcb]; exact ⟨j1, j2⟩
      · rw [if_neg hcb] at hc2; exact hl c hc1 hc2
    · rw [e6] at hp4
      by_cases hpb : p / 4 = b
      · rw [if_pos hpb] at hp4; exact absurd hp4 n10
      · rw [e2, if_neg (by omega)]
        rw [if_neg hpb] at hp4
        exact hf p hp1 hp2 hp3 hp4
    · rw [e7]
      split
      · exact hz.1 (4 * b) (by omega)
      · exact hz.2 c hc
  · by_cases hqb : q / 4 = b
    · constructor
      · rw [mwF, mwF, hqb, if_neg e61, if_pos j3, e7, if_pos rfl]
        have := j4 (q % 4) (by omega)
        rw [show 4 * b + q % 4 = q by omega] at this
        exact this.symm
      · rw [trF, trF, hqb, if_neg e61, if_pos j3, e4, hf q hq hh (by rw [hqb]; exact j1) (by rw [hqb]; exact j3), hqb]
    · have hq4 : ¬ (4 * b ≤ q ∧ q < 4 * b + 4) := by omega
      constructor
      · rw [mwF, mwF, e6, if_neg hqb, e3, e7, if_neg hqb]
      · rw [trF, trF, e6, if_neg hqb, e2, if_neg hq4, e4]
theorem P_cw {σ : xT} {n p b0 : Nat} {own : Nat → Nat} {w : Int32} (h : PIx σ n own b0) (hp : p < 64) (h6 : σ 6 (p / 4) = 0) (hw : zb w) :
    PIx (sS σ 3 p w) n own b0 ∧ (∀ q, q < 64 → vwF (sS σ 3 p w) q = if q = p then (vwF σ p).map (fun x => (w, x.2)) else vwF σ q) := by
  obtain ⟨h1, hF, hhd, hba, hb', hs, hs', hl, hf, hz, hcn, ht⟩ := h
  have e3 : ∀ j, sS σ 3 p w 3 j = if j = p then w else σ 3 j := fun j => by rw [sS_at]; simp
  have h5 : hasB (sS σ 3 p w) = hasB σ := hb_5 rfl
  have e6 : sS σ 3 p w 6 = σ 6 := rfl
  have e7 : sS σ 3 p w 7 = σ 7 := rfl
  have htr : ∀ q, trF (sS σ 3 p w) q = trF σ q := fun q => rfl
  refine ⟨⟨h1, hF, hhd, hba, hb', hs, hs', hl, hf, ⟨fun q hq => ?_, hz.2⟩, hcn, ht⟩, fun q hq => ?_⟩
  · rw [e3]
    split
    · exact hw
    · exact hz.1 q hq
  · by_cases hqp : q = p
    · rw [if_pos hqp]
      unfold vwF
      rw [h5, hqp]
      by_cases hh : hasB σ p = true
      · rw [if_pos hh, if_pos hh, mwF, e6, if_pos h6, e3, if_pos rfl]
        rfl
      · rw [if_neg hh, if_neg hh]; rfl
    · rw [if_neg hqp]
      refine vw_cong (by rw [h5]) (fun hh => ⟨?_, htr q⟩) rfl
      rw [mwF, mwF, e6, e3, if_neg hqp, e7]
theorem P_ct {σ : xT} {n p f b0 : Nat} {own : Nat → Nat} {v : Int32} (h : PIx σ n own b0) (hp : p < 64) (hh : hasB σ p = true) (ht : trF σ p = nI f) (hf : f < 48) :
    PIx (sS σ 0 f v) n own b0 ∧ (∀ q, q < 64 → vwF (sS σ 0 f v) q = if q = p then (vwF σ p).map (fun x => (x.1, v)) else vwF σ q) := by
  have h5 : hasB (sS σ 0 f v) = hasB σ := hb_5 rfl
  have htr : ∀ q, trF (sS σ 0 f v) q = trF σ q := fun q => rfl
  have hmw : ∀ q, mwF (sS σ 0 f v) q = mwF σ q := fun q => rfl
  have e0 : ∀ j, sS σ 0 f v 0 j = if j = f then v else σ 0 j := fun j => by rw [sS_at]; simp
  refine ⟨P_cong h (fun k h0 _ _ => ?_), fun q hq => ?_⟩
  · funext j
    rw [sS_at, if_neg (fun z => h0 z.1)]
  · by_cases hqp : q = p
    · rw [if_pos hqp]
      unfold vwF
      rw [h5, hqp, if_pos hh, if_pos hh, hmw, ctF, htr, ht, nI_clamp (by omega), e0, if_pos rfl]
      rfl
    · rw [if_neg hqp]
      unfold vwF
      rw [h5]
      by_cases hq2 : hasB σ q = true
      · rw [if_pos hq2, if_pos hq2, hmw, ctF, ctF, htr]
        obtain ⟨g, g1, g2, g3⟩ := P_tr h hq hq2
        have hn := h.1.2.1
        have hgf : g ≠ f := fun z => hqp (P_inj h hq hq2 hp hh (by rw [g2, z, ht]))
        rw [g2, nI_clamp (by omega), e0, if_neg hgf]
      · rw [if_neg hq2, if_neg hq2]
theorem P_use {σ : xT} {n b b0 : Nat} {own : Nat → Nat} (h : PIx σ n own b0) : PIx (useF σ b) n own b0 ∧ (∀ q, vwF (useF σ b) q = vwF σ q) := by
  refine ⟨P_cong h (fun k _ h8 h11 => ?_), fun q => rfl⟩
  funext j
  rw [useF, sS_at, if_neg (fun z => h8 z.1), sS_at, if_neg (fun z => h11 z.1)]
end
section
/-! What the walks of the page methods use -/
def PI (σ : xT) (n : Nat) (own : Nat → Nat) : Prop := PIx σ n own 16 ∧ ∀ f, own f ≠ 1000
theorem P_b0 {σ : xT} {n b0 : Nat} {own : Nat → Nat} (h : PIx σ n own b0) (hb : b0 < 16 → σ 4 b0 = -1 ∨ ¬ σ 5 b0 = nI 0) : PIx σ n own 16 := by
  obtain ⟨h1, hF, hhd, hba, hb', hs, hs', hl, hf, hz, hcn, ht⟩ := h
  refine ⟨h1, hF, hhd, fun b hb1 hb2 => ?_, hb', hs, hs', hl, hf, hz, hcn, ht⟩
  obtain ⟨β, c1, c2, c3, c4, c5⟩ := hba b hb1 hb2
  refine ⟨β, c1, c2, c3, fun _ => ?_, c5⟩
  by_cases e : b = b0
  · subst e
    rcases hb hb1 with q | q
    · exact absurd q hb2
    · exact q
  · exact c4 e
theorem vw_isSome (σ : xT) (q : Nat) : (vwF σ q).isSome = hasB σ q := by
  unfold vwF
  cases hasB σ q <;> rfl
theorem hb_vw {σ u : xT} {q : Nat} (h : vwF u q = vwF σ q) : hasB u q = hasB σ q := by rw [← vw_isSome, ← vw_isSome, h]
theorem V_unres {σ : xT} {b q : Nat} {v : Int32} (h6 : σ 6 b = 0) : vwF (sS σ 4 b v) q = vwF σ q := by
  have h5 : hasB (sS σ 4 b v) = hasB σ := hb_5 rfl
  refine vw_cong (by rw [h5]) (fun _ => ⟨rfl, ?_⟩) rfl
  by_cases hq : q / 4 = b
  · rw [trF, trF, hq, if_pos h6]
    exact if_pos h6
  · have : sS σ 4 b v 4 (q / 4) = σ 4 (q / 4) := by rw [sS_at, if_neg (fun z => hq z.2)]
    rw [trF, trF, this]
    rfl
theorem sS_sA_c {σ : xT} {k j i : Nat} {g : Nat → Int32} {v : Int32} (h : k ≠ j) : sS (sA σ j g) k i v = sA (sS σ k i v) j g := by
  funext a b
  rw [sS_at, sA_at, sA_at, sS_at]
  by_cases hj : a = j
  · rw [if_neg (fun z => h (z.1.symm.trans hj)), if_pos hj, if_pos hj]
  · rw [if_neg hj, if_neg hj]
/-- frames run short, yet fewer pages are mapped than there are frames: some reservation has an empty frame -/
theorem P_short {σ : xT} {n : Nat} {own : Nat → Nat} (h : PI σ n own) (h0 : ∀ f, own f ≠ 0) (hc : cnt (hasB σ) 64 < n) : ∃ b, b < 16 ∧ ¬ σ 4 b = -1 ∧ ¬ σ 5 b = nI 15 := by
  refine Classical.byContradiction fun hne => ?_
  have hfull : ∀ b, b < 16 → ¬ σ 4 b = -1 → σ 5 b = nI 15 := fun b h1 h2 => Classical.byContradiction fun h3 => hne ⟨b, h1, h2, h3⟩
  obtain ⟨h, hno⟩ := h
  have hn48 := h.1.2.1
  have key : ∀ f, ∃ p, f < n → p < 64 ∧ hasB σ p = true ∧ trF σ p = nI f := by
    intro f
    by_cases hf : f < n
    · have hT := fun q hq hh => P_tr (q := q) h hq hh
      obtain ⟨h1, hF, hhd, hba, hb', hs, hs', hl, hf', hz, hcn, ht⟩ := h
      rcases ht f hf with q | q | ⟨b, b1, b2⟩ | ⟨p, p1, p2⟩
      · exact absurd q (h0 f)
      · exact absurd q (hno f)
      · obtain ⟨β, c1, c2, c3, c4⟩ := hb' b f b1 b2
        have hm : ¬ σ 4 b = -1 := by rw [c1]; exact nIm (by omega)
        have hhas : hasB σ (4 * b + (f - β)) = true := by rw [hb_e σ (by omega), hfull b b1 hm]; exact bt_15 _ (by omega)
        refine ⟨4 * b + (f - β), fun _ => ⟨by omega, hhas, ?_⟩⟩
        obtain ⟨g, g1, g2, g3⟩ := hT (4 * b + (f - β)) (by omega) hhas
        have hdiv : (4 * b + (f - β)) / 4 = b := by omega
        rw [g2]
        rcases g3 with ⟨d1, d2⟩ | ⟨γ, d1, d2, d3, d4⟩
        · rw [hdiv] at d1; exact absurd d1 hm
        · rw [hdiv, c1] at d1
          have := nIe (by omega) (by omega) d1
          congr 1
          omega
      · obtain ⟨f1, f2, f3, f4⟩ := hs' p f p1 p2
        refine ⟨p, fun _ => ⟨p1, f2, ?_⟩⟩
        obtain ⟨g, g1, g2, g3⟩ := hT p p1 f2
        rw [g2]
        rcases g3 with ⟨d1, d2⟩ | ⟨γ, d1, d2, d3, d4⟩
        · have h6 : σ 6 (p / 4) = 0 := Classical.byContradiction fun q6 => (hl (p / 4) (by omega) q6).1 f3
          rw [← g2, trF, if_pos h6, f4]
        · rw [f3] at d1
          exact absurd d1.symm (nIm (by omega))
    · exact ⟨0, fun q => absurd q hf⟩
  have hle := cnt_inj (N := 64) n (hasB σ) (fun f => Classical.choose (key f)) (fun f hf => ⟨(Classical.choose_spec (key f) hf).1, (Classical.choose_spec (key f) hf).2.1⟩) (fun f f' hf hf' e => by
    have e1 := (Classical.choose_spec (key f) hf).2.2
    have e2 := (Classical.choose_spec (key f') hf').2.2
    have e3 : Classical.choose (key f) = Classical.choose (key f') := e
    rw [e3, e2] at e1
    exact (nIe (by omega) (by omega) e1).symm)
  omega
theorem cnt_leI : ∀ (N n : Nat) (P : Nat → Bool) (g : Nat → Nat), (∀ p, p < N → P p = true → g p < n) → (∀ p q, p < N → q < N → P p = true → P q = true → g p = g q → p = q) → cnt P N ≤ n
  | 0, _, _, _, _, _ => Nat.zero_le _
  | N + 1, n, P, g, h, hi => by
    rw [cnt]
    by_cases hP : P N = true
    · have hN := h N (by omega) hP
      have := cnt_leI N (n - 1) P (fun p => if g p = n - 1 then g N else g p) (fun p hp hPp => by
        have h1 := h p (by omega) hPp
        have h2 : g p ≠ g N := fun e => by have := hi p N (by omega) (by omega) hPp hP e; omega
        split <;> omega) (fun p q hp hq hPp hPq e => by
        have h2 : g p ≠ g N := fun e => by have := hi p N (by omega) (by omega) hPp hP e; omega
        have h3 : g q ≠ g N := fun e => by have := hi q N (by omega) (by omega) hPq hP e; omega
        apply hi p q (by omega) (by omega) hPp hPq
        split at e <;> split at e <;> omega)
      rw [hP]
      show cnt P N + 1 ≤ n
      omega
    · have h2 : P N = false := by cases hq : P N <;> simp_all
      rw [h2]
      have := cnt_leI N n P g (fun p hp => h p (by omega)) (fun p q hp hq => hi p q (by omega) (by omega))
      show cnt P N + 0 ≤ n
      omega
theorem P_cnt {σ : xT} {n b0 : Nat} {own : Nat → Nat} (h : PIx σ n own b0) : cnt (hasB σ) 64 ≤ n := by
  have hn48 := h.1.2.1
  refine cnt_leI 64 n (hasB σ) (fun q => (trF σ q).toNatClampNeg) (fun p hp hh => ?_) (fun p q hp hq hhp hhq e => ?_)
  · obtain ⟨f, f1, f2, -⟩ := P_tr h hp hh
    rw [f2, nI_clamp (by omega)]; exact f1
  · obtain ⟨f, f1, f2, -⟩ := P_tr h hp hhp
    obtain ⟨g, g1, g2, -⟩ := P_tr h hq hhq
    rw [f2, g2, nI_clamp (by omega), nI_clamp (by omega)] at e
    exact P_inj h hp hhp hq hhq (by rw [f2, g2, e])
theorem bt_01 : ∀ h, h < 16 → ∀ k, k < 4 → ((nI h >>> (nI k &&& 31)) &&& nI 1 = 0 ↔ btB (nI h) k = false) := by decide +kernel
theorem P_mz {σ : xT} {n b0 p : Nat} {own : Nat → Nat} (h : PIx σ n own b0) (hp : p < 64) : zb (mwF σ p) := by
  obtain ⟨h1, hF, hhd, hba, hb', hs, hs', hl, hf, hz, hcn, ht⟩ := h
  unfold mwF
  split
  · exact hz.1 p hp
  · exact hz.2 (p / 4) (by omega)
end
section
/-! PageRangeStore: setWrite, takeOut, preempt, bringIn, carry -/
def PX (σ : xT) (n : Nat) : Prop := ∃ own, PI σ n own
theorem c_X_setWrite (a : xA) (σ : xT) {n p : Nat} {w : Int32} (h : PX σ n) (hp : p < 64) (hh : hasB σ p = true) (hw : zb w) : MV a (xP a) y_X_setWrite b_X_setWrite 4 none 1 [.ref (a.2.2.2 0), .int (nI p), .int w] σ
    (fun u => PX u n ∧ ∀ q, q < 64 → vwF u q = if q = p then (vwF σ p).map (fun x => (w, x.2)) else vwF σ q) := by
  refine MV.of (L0 := [some (.ref (a.2.2.2 0)), some (.int (nI p)), some (.int w), none]) (by decide) (by simp [Value.category]) (Nat.le_of_ble_eq_true rfl) rfl (fun _ => rfl) (fun Γ C E => ?_)
  obtain ⟨own, h, hno⟩ := h
  have hz := h.2.2.2.2.2.2.2.2.2.1
  have fin : ∀ u, PIx u n own 16 → u 6 (p / 4) = 0 → (∀ q, q < 64 → vwF u q = vwF σ q) → xW Γ a (xP a) u 29 [some (.ref (a.2.2.2 0)), some (.int (nI p)), some (.int w), some (.int (nI (p / 4)))] [] := by
    intro u hu h6 hv
    obtain ⟨h1, h2⟩ := P_cw hu hp h6 hw
    refine x_aload0 C d_X_setWrite_29 ?_
    refine x_g3 C d_X_setWrite_30 ?_
    refine x_iload1 C d_X_setWrite_33 ?_
    refine x_iload2 C d_X_setWrite_34 ?_
    refine x_st3 C d_X_setWrite_35 hp (zb_nar hw) ?_
    refine x_aload0 C d_X_setWrite_36 ?_
    refine x_iload3 C d_X_setWrite_37 ?_
    refine x_cV1 C k_X_100 d_X_setWrite_38 (c_X_joinUp a _ (by omega) (h1.2.2.2.2.2.2.2.2.2.1.1 _ (by omega))) (fun u2 hw2 => ?_)
    have hv2 : ∀ q, q < 64 → vwF (sS u 3 p w) q = if q = p then (vwF σ p).map (fun x => (w, x.2)) else vwF σ q := fun q hq => by rw [h2 q hq, hv p hp, hv q hq]
    rcases hw2 with rfl | ⟨hj, rfl⟩
    · exact E d_X_setWrite_41 ⟨⟨own, h1, hno⟩, hv2⟩
    · obtain ⟨h3, h4⟩ := P_jn h1 (b := p / 4) (by omega) hj
      exact E d_X_setWrite_41 ⟨⟨own, h3, hno⟩, fun q hq => by rw [h4 q hq, hv2 q hq]⟩
  refine x_iload1 C d_X_setWrite_0 ?_
  refine x_iconst C d_X_setWrite_1 kI_2 ?_
  refine x_ishr C d_X_setWrite_2 (sh2 hp) ?_
  refine x_istore3 C d_X_setWrite_3 ?_
  refine x_aload0 C d_X_setWrite_4 ?_
  refine x_g6 C d_X_setWrite_5 ?_
  refine x_iload3 C d_X_setWrite_8 ?_
  refine x_ld6 C d_X_setWrite_9 (by omega) ?_
  refine x_if_eq C d_X_setWrite_10 (fun h6 => ?_) (fun h6 => ?_)
  · exact fin σ h h6 (fun _ _ => rfl)
  · refine x_aload0 C d_X_setWrite_13 ?_
    refine x_g7 C d_X_setWrite_14 ?_
    refine x_iload3 C d_X_setWrite_17 ?_
    refine x_ld7 C d_X_setWrite_18 (by omega) ?_
    refine x_iload2 C d_X_setWrite_19 ?_
    refine x_icmp_ne C d_X_setWrite_20 (fun h7 => ?_) (fun h7 => ?_)
    · refine x_aload0 C d_X_setWrite_24 ?_
      refine x_iload3 C d_X_setWrite_25 ?_
      refine x_cV1 C k_X_97 d_X_setWrite_26 (c_X_breakUp a σ (by omega) (hz.2 _ (by omega))) (fun u hu => ?_)
      rcases hu with ⟨q, -⟩ | ⟨-, rfl⟩
      · exact absurd q h6
      · obtain ⟨b1, b2, b3, b4⟩ := P_brk h (b := p / 4) (by omega) h6
        exact fin _ b1 b4 b2
    · refine E d_X_setWrite_23 ⟨⟨own, h, hno⟩, fun q hq => ?_⟩
      by_cases hqp : q = p
      · rw [if_pos hqp, hqp]
        unfold vwF
        rw [if_pos hh, mwF, if_neg h6, h7]
        rfl
      · rw [if_neg hqp]
theorem c_X_takeOut (a : xA) (σ : xT) {n p : Nat} (h : PX σ n) (hp : p < 64) (hh : hasB σ p = true) : MV a (xP a) y_X_takeOut b_X_takeOut 4 none 1 [.ref (a.2.2.2 0), .int (nI p)] σ
    (fun u => PX u n ∧ ∀ q, q < 64 → vwF u q = if q = p then none else vwF σ q) := by
  refine MV.of (L0 := [some (.ref (a.2.2.2 0)), some (.int (nI p)), none, none]) (by decide) (by simp [Value.category]) (Nat.le_of_ble_eq_true rfl) rfl (fun _ => rfl) (fun Γ C E => ?_)
  obtain ⟨own, h, hno⟩ := h
  have hz := h.2.2.2.2.2.2.2.2.2.1
  have hn48 := h.1.2.1
  have main : ∀ u, PIx u n own 16 → u 6 (p / 4) = 0 → hasB u p = true → (∀ q, q < 64 → vwF u q = vwF σ q) → xW Γ a (xP a) u 9 [some (.ref (a.2.2.2 0)), some (.int (nI p)), some (.int (nI (p / 4))), none] [] := by
    intro u hu h6 hhu hv
    obtain ⟨φ, f1, f2, f3⟩ := P_tr hu hp hhu
    have f2' : u 2 p = nI φ := by rw [← f2, trF, if_pos h6]
    refine x_aload0 C d_X_takeOut_9 ?_
    refine x_g2 C d_X_takeOut_10 ?_
    refine x_iload1 C d_X_takeOut_13 ?_
    refine x_ld2 C d_X_takeOut_14 (by omega) ?_
    rw [f2']
    refine x_istore3 C d_X_takeOut_15 ?_
    refine x_aload0 C d_X_takeOut_16 ?_
    refine x_g2 C d_X_takeOut_17 ?_
    refine x_iload1 C d_X_takeOut_20 ?_
    refine x_iconst C d_X_takeOut_21 kI_m1 ?_
    refine x_st2 C d_X_takeOut_22 (by omega) ?_
    refine x_aload0 C d_X_takeOut_23 ?_
    refine x_g5 C d_X_takeOut_24 ?_
    refine x_iload2 C d_X_takeOut_27 ?_
    refine x_aload0 C d_X_takeOut_28 ?_
    refine x_g5 C d_X_takeOut_29 ?_
    refine x_iload2 C d_X_takeOut_32 ?_
    refine x_ld5 C d_X_takeOut_33 (by omega) ?_
    refine x_top (y := u 5 (p / 4)) rfl ?_
    refine x_iconst C d_X_takeOut_34 kI_1 ?_
    refine x_iload1 C d_X_takeOut_35 ?_
    refine x_iconst C d_X_takeOut_36 kI_3 ?_
    refine x_iand C d_X_takeOut_37 (an3 hp) ?_
    refine x_ishl C d_X_takeOut_38 rfl ?_
    refine x_iconst C d_X_takeOut_39 kI_m1 ?_
    refine x_ixor C d_X_takeOut_40 rfl ?_
    refine x_iand C d_X_takeOut_41 rfl ?_
    refine x_st5 C d_X_takeOut_42 (by omega) ?_
    refine x_aload0 C d_X_takeOut_43 ?_
    refine x_dup C d_X_takeOut_44 rfl ?_
    refine x_g10 C d_X_takeOut_45 ?_
    refine x_top (y := u 10 0) rfl ?_
    refine x_iconst C d_X_takeOut_48 kI_1 ?_
    refine x_isub C d_X_takeOut_49 rfl ?_
    refine x_p10 C d_X_takeOut_50 ?_
    refine x_aload0 C d_X_takeOut_53 ?_
    refine x_g0 C d_X_takeOut_54 ?_
    refine x_iload3 C d_X_takeOut_57 ?_
    refine x_iconst C d_X_takeOut_58 kI_0 ?_
    refine x_st0 C d_X_takeOut_59 (by omega) ?_
    refine x_st (σ' := delF u p φ) rfl ?_
    refine x_aload0 C d_X_takeOut_60 ?_
    refine x_g4 C d_X_takeOut_61 ?_
    refine x_iload2 C d_X_takeOut_64 ?_
    refine x_ld4 C d_X_takeOut_65 (by omega) ?_
    refine x_top (y := u 4 (p / 4)) rfl ?_
    refine x_iconst C d_X_takeOut_66 kI_m1 ?_
    refine x_icmp_ne C d_X_takeOut_67 (fun h4 => ?_) (fun h4 => ?_)
    · obtain ⟨P1, V1⟩ := P_del (φ := φ) (own' := own) (b0 := p / 4) hu hp hhu h6 f2' (by omega) (Or.inl ⟨h4, rfl, rfl⟩)
      have h46 : delF u p φ 6 (p / 4) = 0 := h6
      refine x_aload0 C d_X_takeOut_79 ?_
      refine x_g5 C d_X_takeOut_80 ?_
      refine x_iload2 C d_X_takeOut_83 ?_
      refine x_ld5 C d_X_takeOut_84 (by omega) ?_
      refine x_if_ne C d_X_takeOut_85 (fun h5 => ?_) (fun h5 => ?_)
      · refine E d_X_takeOut_106 ⟨⟨own, P_b0 P1 (fun _ => Or.inr (by rw [nI0]; exact h5)), hno⟩, fun q hq => ?_⟩
        rw [V1 q hq, hv q hq]
      · rcases f3 with ⟨g1, -⟩ | ⟨β, g1, g2, g3, g4⟩
        · exact absurd g1 h4
        have P1b := P1.2.2.2.1 (p / 4) (by omega) h4
        obtain ⟨β', c1, c2, c3, c4, c5⟩ := P1b
        have hbb : β' = β := nIe (by omega) (by omega) (by rw [← g1]; exact c1.symm)
        subst hbb
        have P2 := P_unres P1 (Or.inl rfl) (by omega) c1 (by omega) h46
        have hemp : ∀ k, k < 4 → hasB (delF u p φ) (4 * (p / 4) + k) = false := fun k hk => by
          rw [hb_e _ hk, h5, ← nI0]; exact bt_0 k hk
        refine x_aload0 C d_X_takeOut_88 ?_
        refine x_aload0 C d_X_takeOut_89 ?_
        refine x_g4 C d_X_takeOut_90 ?_
        refine x_iload2 C d_X_takeOut_93 ?_
        refine x_ld4 C d_X_takeOut_94 (by omega) ?_
        refine x_top (y := nI β') c1 ?_
        refine x_iconst C d_X_takeOut_95 kI_2 ?_
        refine x_cV2 C k_X_109 d_X_takeOut_96 (c_X_giveBack a _ (F := fun f => own f = 0) P1.2.1 hn48 (by decide) c2 (by omega) (fun f q1 q2 q3 => by rw [c5 f q1 (by omega)] at q3; omega)) (fun u2 hw2 => ?_)
        obtain ⟨g, rfl, hg⟩ := hw2
        refine x_aload0 C d_X_takeOut_99 ?_
        refine x_g4 C d_X_takeOut_100 ?_
        refine x_iload2 C d_X_takeOut_103 ?_
        refine x_iconst C d_X_takeOut_104 kI_m1 ?_
        refine x_st4 C d_X_takeOut_105 (by omega) ?_
        rw [sS_sA_c (by decide)]
        refine E d_X_takeOut_106 ⟨⟨fun f => if β' ≤ f ∧ f < β' + 4 then 0 else own f, P_own P2 (hg.to (fun f => ?_)) (fun f c q1 q2 => ?_), fun f => ?_⟩, fun q hq => ?_⟩
        · by_cases hr : β' ≤ f ∧ f < β' + 4
          · rw [if_pos hr]; exact ⟨fun _ => rfl, fun _ => Or.inr (by omega)⟩
          · rw [if_neg hr]
            constructor
            · rintro (q | q)
              · exact q
              · omega
            · exact Or.inl
        · try dsimp only
          by_cases hr : β' ≤ f ∧ f < β' + 4
          · rw [if_pos hr, if_pos hr, if_neg (by rw [hemp (f - β') (by omega)]; decide)]
            omega
          · rw [if_neg hr, if_neg hr]
        · try dsimp only
          split
          · decide
          · exact hno f
        · show vwF (sS (delF u p φ) 4 (p / 4) (-1)) q = _
          rw [V_unres h46, V1 q hq, hv q hq]
    · obtain ⟨P1, V1⟩ := P_del (φ := φ) (own' := fun f => if f = φ then 1000 else own f) (b0 := 16) hu hp hhu h6 f2' (by omega) (Or.inr ⟨h4, rfl, fun f => rfl⟩)
      refine x_aload0 C d_X_takeOut_70 ?_
      refine x_iload3 C d_X_takeOut_71 ?_
      refine x_iconst C d_X_takeOut_72 kI_0 ?_
      refine x_cV2 C k_X_109 d_X_takeOut_73 (c_X_giveBack a _ (F := fun f => (if f = φ then 1000 else own f) = 0) P1.2.1 hn48 (by decide) (by simp [Nat.mod_one]) (by simp; omega) (fun f q1 q2 q3 => by rw [if_pos (by simp at q2; omega)] at q3; omega)) (fun u2 hw2 => ?_)
      obtain ⟨g, rfl, hg⟩ := hw2
      refine x_goto C d_X_takeOut_76 ?_
      refine E d_X_takeOut_106 ⟨⟨fun f => if f = φ then 0 else own f, P_own P1 (hg.to (fun f => ?_)) (fun f c q1 q2 => ?_), fun f => ?_⟩, fun q hq => ?_⟩
      · by_cases hr : f = φ
        · rw [if_pos hr, if_pos hr]; exact ⟨fun _ => rfl, fun _ => Or.inr (by simp; omega)⟩
        · rw [if_neg hr, if_neg hr]
          constructor
          · rintro (q | q)
            · exact q
            · simp at q; omega
          · exact Or.inl
      · try dsimp only
        by_cases hr : f = φ
        · rw [if_pos hr, if_pos hr]; omega
        · rw [if_neg hr, if_neg hr]
      · try dsimp only
        split
        · decide
        · exact hno f
      · show vwF (delF u p φ) q = _
        rw [V1 q hq, hv q hq]
  refine x_iload1 C d_X_takeOut_0 ?_
  refine x_iconst C d_X_takeOut_1 kI_2 ?_
  refine x_ishr C d_X_takeOut_2 (sh2 hp) ?_
  refine x_istore2 C d_X_takeOut_3 ?_
  refine x_aload0 C d_X_takeOut_4 ?_
  refine x_iload2 C d_X_takeOut_5 ?_
  refine x_cV1 C k_X_97 d_X_takeOut_6 (c_X_breakUp a σ (by omega) (hz.2 _ (by omega))) (fun u hu => ?_)
  rcases hu with ⟨q, rfl⟩ | ⟨q, rfl⟩
  · exact main _ h q hh (fun _ _ => rfl)
  · obtain ⟨b1, b2, b3, b4⟩ := P_brk h (b := p / 4) (by omega) q
    exact main _ b1 b4 (by rw [b3]; exact hh) b2
end
section
/-! PageRangeStore: preempt, bringIn, carry -/
theorem V_free (σ : xT) (g : Nat → Int32) (q : Nat) : vwF (sA σ 1 g) q = vwF σ q := rfl
theorem c_X_preempt (a : xA) (σ : xT) {n : Nat} {own : Nat → Nat} (h : PI σ n own) (hex : ∃ b, b < 16 ∧ ¬ σ 4 b = -1 ∧ ¬ σ 5 b = nI 15) : MV a (xP a) y_X_preempt b_X_preempt 3 none 1 [.ref (a.2.2.2 0)] σ
    (fun u => ∃ own', PI u n own' ∧ (∃ f, own' f = 0) ∧ (∀ q, q < 64 → vwF u q = vwF σ q) ∧ ∀ b, σ 4 b = -1 → u 4 b = -1) := by
  refine MV.of (L0 := [some (.ref (a.2.2.2 0)), none, none]) (by decide) (by simp [Value.category]) (Nat.le_of_ble_eq_true rfl) rfl (fun _ => rfl) (fun Γ C E => ?_)
  obtain ⟨h, hno⟩ := h
  have hn48 := h.1.2.1
  have main : ∀ o, o < 16 → ¬ σ 4 o = -1 → ¬ σ 5 o = nI 15 → ∀ w, xW Γ a (xP a) σ 65 [some (.ref (a.2.2.2 0)), some (.int (nI o)), w] [] := by
    intro o ho h4 h5 w
    obtain ⟨β, c1, c2, c3, c4, c5⟩ := h.2.2.2.1 o ho h4
    obtain ⟨hd, hd1, hd2⟩ := h.2.2.1 o ho
    have h6 : σ 6 o = 0 := Classical.byContradiction fun q => h5 (h.2.2.2.2.2.2.2.1 o ho q).2
    have loop : ∀ m k g, k + m = 4 → FI g n (fun f => own f = 0 ∨ ∃ j, j < k ∧ btB (σ 5 o) j = false ∧ f = β + j) → xW Γ a (xP a) (sA σ 1 g) 67 [some (.ref (a.2.2.2 0)), some (.int (nI o)), some (.int (nI k))] [] := by
      intro m
      induction m with
      | zero =>
        intro k g hk hg
        have hk : k = 4 := by omega
        subst hk
        have P2 := P_unres h (Or.inr (Nat.le_refl _)) ho c1 (by omega) h6
        refine x_iload2 C d_X_preempt_67 ?_
        refine x_iconst C d_X_preempt_68 kI_4 ?_
        refine x_icmp_geN C d_X_preempt_69 (by omega) (by omega) (fun h7 => ?_) (fun h7 => ?_)
        · refine x_aload0 C d_X_preempt_104 ?_
          refine x_g4 C d_X_preempt_105 ?_
          refine x_iload1 C d_X_preempt_108 ?_
          refine x_iconst C d_X_preempt_109 kI_m1 ?_
          refine x_st4 C d_X_preempt_110 (by omega) ?_
          rw [sS_sA_c (by decide)]
          refine E d_X_preempt_111 ⟨fun f => if β ≤ f ∧ f < β + 4 then (if hasB σ (4 * o + (f - β)) = true then 100 + (4 * o + (f - β)) else 0) else own f, ⟨P_own P2 (hg.to (fun f => ?_)) (fun f c q1 q2 => ?_), fun f => ?_⟩, ?_, fun q hq => ?_, fun b hb => ?_⟩
          · by_cases hr : β ≤ f ∧ f < β + 4
            · rw [if_pos hr, hb_e σ (by omega)]
              cases hbt : btB (σ 5 o) (f - β) with
              | true =>
                rw [if_pos rfl]
                constructor
                · rintro (q | ⟨j, q1, q2, q3⟩)
                  · rw [c5 f hr.1 hr.2] at q; omega
                  · rw [show f - β = j by omega, q2] at hbt; cases hbt
                · intro q; omega
              | false =>
                rw [if_neg (by decide)]
                exact ⟨fun _ => rfl, fun _ => Or.inr ⟨f - β, by omega, hbt, by omega⟩⟩
            · rw [if_neg hr]
              constructor
              · rintro (q | ⟨j, q1, q2, q3⟩)
                · exact q
                · omega
              · exact Or.inl
          · try dsimp only
            by_cases hr : β ≤ f ∧ f < β + 4
            · rw [if_pos hr, if_pos hr]
              split
              · exact Iff.rfl
              · omega
            · rw [if_neg hr, if_neg hr]
          · dsimp only
            by_cases hr : β ≤ f ∧ f < β + 4
            · rw [if_pos hr]
              split <;> omega
            · rw [if_neg hr]; exact hno f
          · rw [hd2] at h5
            obtain ⟨j, j1, j2⟩ := bt_n15 hd hd1 h5
            refine ⟨β + j, ?_⟩
            dsimp only
            rw [if_pos (by omega), if_neg]
            rw [hb_e σ (by omega), hd2, show β + j - β = j by omega, j2]
            decide
          · rw [V_free, V_unres h6]
          · show sS σ 4 o (-1) 4 b = -1
            rw [sS_at]
            split
            · rfl
            · exact hb
        · exact absurd h7 (by omega)
      | succ m ih =>
        intro k g hk hg
        have e5 : sA σ 1 g 5 o = nI hd := hd2
        have e4 : sA σ 1 g 4 o = nI β := c1
        refine x_iload2 C d_X_preempt_67 ?_
        refine x_iconst C d_X_preempt_68 kI_4 ?_
        refine x_icmp_geN C d_X_preempt_69 (by omega) (by omega) (fun h7 => ?_) (fun h7 => ?_)
        · exact absurd h7 (by omega)
        · refine x_aload0 C d_X_preempt_72 ?_
          refine x_g5 C d_X_preempt_73 ?_
          refine x_iload1 C d_X_preempt_76 ?_
          refine x_ld5 C d_X_preempt_77 (by omega) ?_
          rw [e5]
          refine x_iload2 C d_X_preempt_78 ?_
          refine x_ishr C d_X_preempt_79 rfl ?_
          refine x_iconst C d_X_preempt_80 kI_1 ?_
          refine x_iand C d_X_preempt_81 rfl ?_
          refine x_if_ne C d_X_preempt_82 (fun h8 => ?_) (fun h8 => ?_)
          · refine x_iincN2 C d_X_preempt_98 ?_
            refine x_goto C d_X_preempt_101 ?_
            refine ih (k + 1) g (by omega) (hg.to (fun f => ?_))
            have hbt : ¬ btB (σ 5 o) k = false := by rw [hd2]; exact fun q => h8 ((bt_01 hd hd1 k (by omega)).mpr q)
            constructor
            · rintro (q | ⟨j, q1, q2, q3⟩)
              · exact Or.inl q
              · exact Or.inr ⟨j, by omega, q2, q3⟩
            · rintro (q | ⟨j, q1, q2, q3⟩)
              · exact Or.inl q
              · refine Or.inr ⟨j, ?_, q2, q3⟩
                by_cases hjk : j = k
                · rw [hjk] at q2; exact absurd q2 hbt
                · omega
          · have hbt : btB (σ 5 o) k = false := by rw [hd2]; exact (bt_01 hd hd1 k (by omega)).mp h8
            refine x_aload0 C d_X_preempt_85 ?_
            refine x_aload0 C d_X_preempt_86 ?_
            refine x_g4 C d_X_preempt_87 ?_
            refine x_iload1 C d_X_preempt_90 ?_
            refine x_ld4 C d_X_preempt_91 (by omega) ?_
            rw [e4]
            refine x_iload2 C d_X_preempt_92 ?_
            refine x_iaddN C d_X_preempt_93 ?_
            refine x_iconst C d_X_preempt_94 kI_0 ?_
            refine x_cV2 C k_X_109 d_X_preempt_95 (c_X_giveBack a _ hg hn48 (by decide) (by simp [Nat.mod_one]) (by simp; omega) (fun f q1 q2 q3 => by
              simp at q2
              rcases q3 with q3 | ⟨j, z1, z2, z3⟩
              · rw [c5 f (by omega) (by omega)] at q3; omega
              · omega)) (fun u2 hw2 => ?_)
            obtain ⟨g', rfl, hg'⟩ := hw2
            refine x_iincN2 C d_X_preempt_98 ?_
            refine x_goto C d_X_preempt_101 ?_
            rw [sA_sA]
            refine ih (k + 1) g' (by omega) (hg'.to (fun f => ?_))
            constructor
            · rintro ((q | ⟨j, q1, q2, q3⟩) | q)
              · exact Or.inl q
              · exact Or.inr ⟨j, by omega, q2, q3⟩
              · simp at q
                exact Or.inr ⟨k, by omega, hbt, by omega⟩
            · rintro (q | ⟨j, q1, q2, q3⟩)
              · exact Or.inl (Or.inl q)
              · by_cases hjk : j = k
                · exact Or.inr (by simp; omega)
                · exact Or.inl (Or.inr ⟨j, by omega, q2, q3⟩)
    refine x_iconst C d_X_preempt_65 kI_0 ?_
    refine x_istore2 C d_X_preempt_66 ?_
    have h0 := loop 4 0 (σ 1) rfl (h.2.1.to (fun f => ⟨Or.inl, fun q => q.elim id (fun ⟨j, q1, _⟩ => absurd q1 (by omega))⟩))
    rw [sA_self] at h0
    exact h0
  have scan : ∀ m b x, b + m = 16 → ((x = -1 ∧ ∀ c, c < b → σ 4 c = -1 ∨ σ 5 c = nI 15) ∨ (∃ o, o < 16 ∧ x = nI o ∧ ¬ σ 4 o = -1 ∧ ¬ σ 5 o = nI 15)) → xW Γ a (xP a) σ 4 [some (.ref (a.2.2.2 0)), some (.int x), some (.int (nI b))] [] := by
    intro m
    induction m with
    | zero =>
      intro b x hb hx
      have hb : b = 16 := by omega
      subst hb
      refine x_iload2 C d_X_preempt_4 ?_
      refine x_bipush C d_X_preempt_5 kB_16 ?_
      refine x_icmp_geN C d_X_preempt_7 (by omega) (by omega) (fun h7 => ?_) (fun h7 => ?_)
      · refine x_iload1 C d_X_preempt_59 ?_
        refine x_iconst C d_X_preempt_60 kI_m1 ?_
        rcases hx with ⟨rfl, hx⟩ | ⟨o, ho, rfl, ho2, ho3⟩
        · obtain ⟨c, c1, c2, c3⟩ := hex
          rcases hx c c1 with q | q
          · exact absurd q c2
          · exact absurd q c3
        · refine x_icmp_ne C d_X_preempt_61 (fun h8 => ?_) (fun h8 => ?_)
          · exact main o ho ho2 ho3 _
          · exact absurd h8 (nIm (by omega))
      · exact absurd h7 (by omega)
    | succ m ih =>
      intro b x hb hx
      have next : ∀ x', ((x' = -1 ∧ ∀ c, c < b + 1 → σ 4 c = -1 ∨ σ 5 c = nI 15) ∨ (∃ o, o < 16 ∧ x' = nI o ∧ ¬ σ 4 o = -1 ∧ ¬ σ 5 o = nI 15)) → xW Γ a (xP a) σ 53 [some (.ref (a.2.2.2 0)), some (.int x'), some (.int (nI b))] [] := by
        intro x' hx'
        refine x_iincN2 C d_X_preempt_53 ?_
        refine x_goto C d_X_preempt_56 ?_
        exact ih (b + 1) x' (by omega) hx'
      have skip : (σ 4 b = -1 ∨ σ 5 b = nI 15) → ((x = -1 ∧ ∀ c, c < b + 1 → σ 4 c = -1 ∨ σ 5 c = nI 15) ∨ (∃ o, o < 16 ∧ x = nI o ∧ ¬ σ 4 o = -1 ∧ ¬ σ 5 o = nI 15)) := by
        intro hs
        rcases hx with ⟨q1, q2⟩ | q
        · refine Or.inl ⟨q1, fun c hc => ?_⟩
          by_cases hcb : c = b
          · rw [hcb]; exact hs
          · exact q2 c (by omega)
        · exact Or.inr q
      refine x_iload2 C d_X_preempt_4 ?_
      refine x_bipush C d_X_preempt_5 kB_16 ?_
      refine x_icmp_geN C d_X_preempt_7 (by omega) (by omega) (fun h7 => ?_) (fun h7 => ?_)
      · exact absurd h7 (by omega)
      · refine x_aload0 C d_X_preempt_10 ?_
        refine x_g4 C d_X_preempt_11 ?_
        refine x_iload2 C d_X_preempt_14 ?_
        refine x_ld4 C d_X_preempt_15 (by omega) ?_
        refine x_iconst C d_X_preempt_16 kI_m1 ?_
        refine x_icmp_eq C d_X_preempt_17 (fun h8 => ?_) (fun h8 => ?_)
        · exact next x (skip (Or.inl h8))
        · refine x_aload0 C d_X_preempt_20 ?_
          refine x_g5 C d_X_preempt_21 ?_
          refine x_iload2 C d_X_preempt_24 ?_
          refine x_ld5 C d_X_preempt_25 (by omega) ?_
          refine x_bipush C d_X_preempt_26 kB_15 ?_
          refine x_icmp_eq C d_X_preempt_28 (fun h9 => ?_) (fun h9 => ?_)
          · exact next x (skip (Or.inr h9))
          · have take : xW Γ a (xP a) σ 51 [some (.ref (a.2.2.2 0)), some (.int x), some (.int (nI b))] [] := by
              refine x_iload2 C d_X_preempt_51 ?_
              refine x_istore1 C d_X_preempt_52 ?_
              exact next (nI b) (Or.inr ⟨b, by omega, rfl, h8, h9⟩)
            refine x_iload1 C d_X_preempt_31 ?_
            refine x_iconst C d_X_preempt_32 kI_m1 ?_
            refine x_icmp_eq C d_X_preempt_33 (fun h10 => ?_) (fun h10 => ?_)
            · exact take
            · rcases hx with ⟨q1, q2⟩ | ⟨o, ho, rfl, ho2, ho3⟩
              · exact absurd q1 h10
              · refine x_aload0 C d_X_preempt_36 ?_
                refine x_g8 C d_X_preempt_37 ?_
                refine x_iload2 C d_X_preempt_40 ?_
                refine x_ld8 C d_X_preempt_41 (by omega) ?_
                refine x_aload0 C d_X_preempt_42 ?_
                refine x_g8 C d_X_preempt_43 ?_
                refine x_iload1 C d_X_preempt_46 ?_
                refine x_ld8 C d_X_preempt_47 (by omega) ?_
                refine x_icmp_ge C d_X_preempt_48 (fun h11 => ?_) (fun h11 => ?_)
                · exact next _ (Or.inr ⟨o, ho, rfl, ho2, ho3⟩)
                · exact take
  refine x_iconst C d_X_preempt_0 kI_m1 ?_
  refine x_istore1 C d_X_preempt_1 ?_
  refine x_iconst C d_X_preempt_2 kI_0 ?_
  refine x_istore2 C d_X_preempt_3 ?_
  exact scan 16 0 (-1) rfl (Or.inl ⟨rfl, fun c hc => absurd hc (by omega)⟩)
theorem c_X_bringIn (a : xA) (σ : xT) {n p : Nat} {w v : Int32} (h : PX σ n) (hp : p < 64) (hh : hasB σ p = false) (hc : cnt (hasB σ) 64 < n) (hw : zb w) : MV a (xP a) y_X_bringIn b_X_bringIn 6 none 2 [.ref (a.2.2.2 0), .int (nI p), .int w, .int v] σ
    (fun u => PX u n ∧ ∀ q, q < 64 → vwF u q = if q = p then some (w, v) else vwF σ q) := by
  refine MV.of (L0 := [some (.ref (a.2.2.2 0)), some (.int (nI p)), some (.int w), some (.int v), none, none]) (by decide) (by simp [Value.category]) (Nat.le_of_ble_eq_true rfl) rfl (fun _ => rfl) (fun Γ C E => ?_)
  obtain ⟨own, h, hno⟩ := h
  have hn48 := h.1.2.1
  have fin : ∀ u φ own own' b0, PIx u n own b0 → (b0 = p / 4 ∨ 16 ≤ b0) → (∀ q, q < 64 → vwF u q = vwF σ q) → φ < 48 →
      ((∃ β, u 4 (p / 4) = nI β ∧ β < 48 ∧ φ = β + p % 4 ∧ own' = own) ∨ (u 4 (p / 4) = -1 ∧ φ < n ∧ own φ = 1000 ∧ ∀ f, own' f = if f = φ then 100 + p else own f)) → (∀ f, own' f ≠ 1000) →
      xW Γ a (xP a) u 78 [some (.ref (a.2.2.2 0)), some (.int (nI p)), some (.int w), some (.int v), some (.int (nI (p / 4))), some (.int (nI φ))] [] := by
    intro u φ own own' b0 hu hb0 hv hφ hcase hno'
    have hhu : hasB u p = false := by rw [hb_vw (hv p hp)]; exact hh
    obtain ⟨P1, V1⟩ := P_put (v := v) hu hb0 hp hhu hw hcase
    have V2 : ∀ q, q < 64 → vwF (putF u p φ w v) q = if q = p then some (w, v) else vwF σ q := fun q hq => by rw [V1 q hq, hv q hq]
    refine x_iload5 C d_X_bringIn_78 ?_
    refine x_iconst C d_X_bringIn_80 kI_m1 ?_
    refine x_icmp_ne C d_X_bringIn_81 (fun h8 => ?_) (fun h8 => ?_)
    · refine x_aload0 C d_X_bringIn_85 ?_
      refine x_g2 C d_X_bringIn_86 ?_
      refine x_iload1 C d_X_bringIn_89 ?_
      refine x_iload5 C d_X_bringIn_90 ?_
      refine x_st2 C d_X_bringIn_92 (by omega) ?_
      refine x_aload0 C d_X_bringIn_93 ?_
      refine x_g3 C d_X_bringIn_94 ?_
      refine x_iload1 C d_X_bringIn_97 ?_
      refine x_iload2 C d_X_bringIn_98 ?_
      refine x_st3 C d_X_bringIn_99 hp (zb_nar hw) ?_
      refine x_aload0 C d_X_bringIn_100 ?_
      refine x_g0 C d_X_bringIn_101 ?_
      refine x_iload5 C d_X_bringIn_104 ?_
      refine x_iload3 C d_X_bringIn_106 ?_
      refine x_st0 C d_X_bringIn_107 (by omega) ?_
      refine x_aload0 C d_X_bringIn_108 ?_
      refine x_g5 C d_X_bringIn_109 ?_
      refine x_iload4 C d_X_bringIn_112 ?_
      refine x_aload0 C d_X_bringIn_114 ?_
      refine x_g5 C d_X_bringIn_115 ?_
      refine x_iload4 C d_X_bringIn_118 ?_
      refine x_ld5 C d_X_bringIn_120 (by omega) ?_
      refine x_top (y := u 5 (p / 4)) rfl ?_
      refine x_iconst C d_X_bringIn_121 kI_1 ?_
      refine x_iload1 C d_X_bringIn_122 ?_
      refine x_iconst C d_X_bringIn_123 kI_3 ?_
      refine x_iand C d_X_bringIn_124 (an3 hp) ?_
      refine x_ishl C d_X_bringIn_125 rfl ?_
      refine x_ior C d_X_bringIn_126 rfl ?_
      refine x_st5 C d_X_bringIn_127 (by omega) ?_
      refine x_aload0 C d_X_bringIn_128 ?_
      refine x_dup C d_X_bringIn_129 rfl ?_
      refine x_g10 C d_X_bringIn_130 ?_
      refine x_top (y := u 10 0) rfl ?_
      refine x_iconst C d_X_bringIn_133 kI_1 ?_
      refine x_iadd C d_X_bringIn_134 rfl ?_
      refine x_p10 C d_X_bringIn_135 ?_
      refine x_st (σ' := putF u p φ w v) rfl ?_
      refine x_aload0 C d_X_bringIn_138 ?_
      refine x_iload4 C d_X_bringIn_139 ?_
      refine x_cV1 C k_X_91 d_X_bringIn_141 (c_X_use a _ (by omega)) (fun u2 hw2 => ?_)
      subst hw2
      obtain ⟨P3, V3⟩ := P_use (b := p / 4) P1
      refine x_aload0 C d_X_bringIn_144 ?_
      refine x_iload4 C d_X_bringIn_145 ?_
      refine x_cV1 C k_X_100 d_X_bringIn_147 (c_X_joinUp a _ (by omega) (P3.2.2.2.2.2.2.2.2.2.1.1 _ (by omega))) (fun u2 hw2 => ?_)
      rcases hw2 with rfl | ⟨hj, rfl⟩
      · exact E d_X_bringIn_150 ⟨⟨own', P3, hno'⟩, fun q hq => by rw [V3 q, V2 q hq]⟩
      · obtain ⟨P4, V4⟩ := P_jn P3 (b := p / 4) (by omega) hj
        exact E d_X_bringIn_150 ⟨⟨own', P4, hno'⟩, fun q hq => by rw [V4 q hq, V3 q, V2 q hq]⟩
    · exact absurd h8 (nIm (by omega))
  have alloc : ∀ u own, PI u n own → (∀ q, q < 64 → vwF u q = vwF σ q) → u 4 (p / 4) = -1 → ∀ r u', alP u n 0 (fun f => own f = 0) r u' → ¬ r = -1 →
      xW Γ a (xP a) u' 78 [some (.ref (a.2.2.2 0)), some (.int (nI p)), some (.int w), some (.int v), some (.int (nI (p / 4))), some (.int r)] [] := by
    intro u own hu hv h4 r u' hal hr
    rcases hal with ⟨q, -, -⟩ | ⟨s, g, rfl, s1, s2, rfl, s3, s4⟩
    · exact absurd q hr
    · simp only [Nat.pow_zero] at s2 s3 s4
      have hos := s4 s (Nat.le_refl _) (by omega)
      have P2 := P_own (own' := fun f => if f = s then 1000 else own f) hu.1 (s3.to (fun f => by
        by_cases hf : f = s
        · rw [if_pos hf, hf]; constructor <;> omega
        · rw [if_neg hf]; constructor
          · exact fun q => q.1
          · exact fun q => ⟨q, by omega⟩)) (fun f c q1 q2 => by
        by_cases hf : f = s
        · rw [if_pos hf, hf, hos]; omega
        · rw [if_neg hf])
      refine fin _ s _ (fun f => if f = s then 100 + p else own f) 16 P2 (Or.inr (Nat.le_refl _)) hv (by omega) (Or.inr ⟨h4, by omega, if_pos rfl, fun f => ?_⟩) (fun f => ?_)
      · by_cases hf : f = s
        · rw [if_pos hf, if_pos hf]
        · rw [if_neg hf, if_neg hf, if_neg hf]
      · by_cases hf : f = s
        · rw [if_pos hf]; omega
        · rw [if_neg hf]; exact hu.2 f
  have mid : ∀ u own b0 w5, PIx u n own b0 → (b0 = p / 4 ∨ 16 ≤ b0) → (∀ f, own f ≠ 1000) → (∀ q, q < 64 → vwF u q = vwF σ q) →
      xW Γ a (xP a) u 27 [some (.ref (a.2.2.2 0)), some (.int (nI p)), some (.int w), some (.int v), some (.int (nI (p / 4))), w5] [] := by
    intro u own b0 w5 hu hb0 hno hv
    refine x_aload0 C d_X_bringIn_27 ?_
    refine x_g4 C d_X_bringIn_28 ?_
    refine x_iload4 C d_X_bringIn_31 ?_
    refine x_ld4 C d_X_bringIn_33 (by omega) ?_
    refine x_iconst C d_X_bringIn_34 kI_m1 ?_
    refine x_icmp_eq C d_X_bringIn_35 (fun h4 => ?_) (fun h4 => ?_)
    · have hu16 : PIx u n own 16 := P_b0 hu (fun q => Or.inl (hb0.elim (fun z => by rw [z]; exact h4) (fun z => absurd q (by omega))))
      have hcu : cnt (hasB u) 64 < n := by rw [cnt_congr (fun q hq => hb_vw (hv q hq))]; exact hc
      refine x_aload0 C d_X_bringIn_54 ?_
      refine x_iconst C d_X_bringIn_55 kI_0 ?_
      refine x_cI1 C k_X_103 d_X_bringIn_56 (c_X_allocate a u (od := 0) hu16.2.1 hu16.1.1 hn48 (by decide)) (fun r u1 hal => ?_)
      refine x_istore5 C d_X_bringIn_59 ?_
      refine x_iload5 C d_X_bringIn_61 ?_
      refine x_iconst C d_X_bringIn_63 kI_m1 ?_
      refine x_icmp_ne C d_X_bringIn_64 (fun h8 => ?_) (fun h8 => ?_)
      · exact alloc u own ⟨hu16, hno⟩ hv h4 r u1 hal h8
      · subst h8
        rcases hal with ⟨-, rfl, hz⟩ | ⟨s, g, q, s1, s2, -⟩
        · have hF0 : ∀ f, own f ≠ 0 := fun f q => by
            obtain ⟨o, s, o1, o2, o3, o4⟩ := hu16.2.1.2.1 f q
            exact o3 (hz o s (Nat.zero_le _) o1 o2)
          refine x_aload0 C d_X_bringIn_67 ?_
          refine x_cV0 C k_X_106 d_X_bringIn_68 (c_X_preempt a _ ⟨hu16, hno⟩ (P_short ⟨hu16, hno⟩ hF0 hcu)) (fun u2 hw2 => ?_)
          obtain ⟨own2, hu2, ⟨f2, hf2⟩, hv2, hb2⟩ := hw2
          refine x_aload0 C d_X_bringIn_71 ?_
          refine x_iconst C d_X_bringIn_72 kI_0 ?_
          refine x_cI1 C k_X_103 d_X_bringIn_73 (c_X_allocate a u2 (od := 0) hu2.1.2.1 hu2.1.1.1 hn48 (by decide)) (fun r u3 hal => ?_)
          refine x_istore5 C d_X_bringIn_76 ?_
          refine alloc u2 own2 hu2 (fun q hq => by rw [hv2 q hq, hv q hq]) (hb2 _ h4) r u3 hal ?_
          intro hr
          rcases hal with ⟨-, rfl, hz⟩ | ⟨s, g, q, s1, s2, -⟩
          · obtain ⟨o, s, o1, o2, o3, o4⟩ := hu2.1.2.1.2.1 f2 hf2
            exact o3 (hz o s (Nat.zero_le _) o1 o2)
          · rw [hr] at q
            exact nIm (by omega) q.symm
        · exact absurd q.symm (nIm (by omega))
    · obtain ⟨β, c1, c2, c3, c4, c5⟩ := hu.2.2.2.1 (p / 4) (by omega) h4
      refine x_aload0 C d_X_bringIn_38 ?_
      refine x_g4 C d_X_bringIn_39 ?_
      refine x_iload4 C d_X_bringIn_42 ?_
      refine x_ld4 C d_X_bringIn_44 (by omega) ?_
      rw [c1]
      refine x_iload1 C d_X_bringIn_45 ?_
      refine x_iconst C d_X_bringIn_46 kI_3 ?_
      refine x_iand C d_X_bringIn_47 (an3 hp) ?_
      refine x_iaddN C d_X_bringIn_48 ?_
      refine x_istore5 C d_X_bringIn_49 ?_
      refine x_goto C d_X_bringIn_51 ?_
      exact fin u (β + p % 4) own own b0 hu hb0 hv (by omega) (Or.inl ⟨β, c1, by omega, rfl, rfl⟩) hno
  refine x_iload1 C d_X_bringIn_0 ?_
  refine x_iconst C d_X_bringIn_1 kI_2 ?_
  refine x_ishr C d_X_bringIn_2 (sh2 hp) ?_
  refine x_istore4 C d_X_bringIn_3 ?_
  refine x_aload0 C d_X_bringIn_5 ?_
  refine x_g5 C d_X_bringIn_6 ?_
  refine x_iload4 C d_X_bringIn_9 ?_
  refine x_ld5 C d_X_bringIn_11 (by omega) ?_
  refine x_if_ne C d_X_bringIn_12 (fun h5 => ?_) (fun h5 => ?_)
  · exact mid σ own 16 _ h (Or.inr (Nat.le_refl _)) hno (fun _ _ => rfl)
  · have h4 : σ 4 (p / 4) = -1 := Classical.byContradiction fun q => by
      obtain ⟨β, c1, c2, c3, c4, c5⟩ := h.2.2.2.1 (p / 4) (by omega) q
      exact c4 (by omega) (by rw [h5, nI0])
    have h6 : σ 6 (p / 4) = 0 := Classical.byContradiction fun q => (h.2.2.2.2.2.2.2.1 (p / 4) (by omega) q).1 h4
    have hemp : ∀ k, k < 4 → hasB σ (4 * (p / 4) + k) = false := fun k hk => by rw [hb_e σ hk, h5, ← nI0]; exact bt_0 k hk
    refine x_aload0 C d_X_bringIn_15 ?_
    refine x_g4 C d_X_bringIn_16 ?_
    refine x_iload4 C d_X_bringIn_19 ?_
    refine x_aload0 C d_X_bringIn_21 ?_
    refine x_iconst C d_X_bringIn_22 kI_2 ?_
    refine x_cI1 C k_X_103 d_X_bringIn_23 (c_X_allocate a σ (od := 2) h.2.1 h.1.1 hn48 (by decide)) (fun r u1 hal => ?_)
    refine x_st4 C d_X_bringIn_26 (by omega) ?_
    rcases hal with ⟨rfl, rfl, -⟩ | ⟨s, g, rfl, s1, s2, rfl, s3, s4⟩
    · have e : sS u1 4 (p / 4) (-1) = u1 := by
        funext k j
        rw [sS_at]
        split
        · next q => rw [q.1, q.2, h4]
        · rfl
      rw [e]
      exact mid _ own 16 _ h (Or.inr (Nat.le_refl _)) hno (fun _ _ => rfl)
    · simp only [show (2 : Nat) ^ 2 = 4 from rfl] at s1 s2 s3 s4
      have P2 := P_own (own' := fun f => if s ≤ f ∧ f < s + 4 then 1000 else own f) h (s3.to (fun f => by
        by_cases hf : s ≤ f ∧ f < s + 4
        · rw [if_pos hf]; constructor
          · exact fun q => absurd hf q.2
          · intro q; omega
        · rw [if_neg hf]; constructor
          · exact fun q => q.1
          · exact fun q => ⟨q, hf⟩)) (fun f c q1 q2 => by
        by_cases hf : s ≤ f ∧ f < s + 4
        · rw [if_pos hf, s4 f hf.1 hf.2]; omega
        · rw [if_neg hf])
      have P3 := P_res P2 (Nat.le_refl _) (b := p / 4) (s := s) (by omega) h4 hemp s1 s2 (fun f => by
        by_cases hf : s ≤ f ∧ f < s + 4
        · rw [if_pos hf]; exact ⟨fun _ => hf, fun _ => rfl⟩
        · rw [if_neg hf]; exact ⟨fun q => absurd q (hno f), fun q => absurd q hf⟩)
      refine mid _ _ (p / 4) _ P3 (Or.inl rfl) (fun f => ?_) (fun q hq => ?_)
      · by_cases hf : s ≤ f ∧ f < s + 4
        · rw [if_pos hf, if_pos rfl]; omega
        · rw [if_neg hf, if_neg (hno f)]; exact hno f
      · rw [V_unres (σ := sA σ 1 g) h6, V_free]
theorem c_X_carry (a : xA) (σ : xT) {n p q : Nat} (h : PX σ n) (hp : p < 64) (hh : hasB σ p = true) (hq : q < 64) (hhq : hasB σ q = false) : MV a (xP a) y_X_carry b_X_carry 5 none 3 [.ref (a.2.2.2 0), .int (nI p), .int (nI q)] σ
    (fun u => PX u n ∧ ∀ r, r < 64 → vwF u r = if r = q then vwF σ p else if r = p then none else vwF σ r) := by
  refine MV.of (L0 := [some (.ref (a.2.2.2 0)), some (.int (nI p)), some (.int (nI q)), none, none]) (by decide) (by simp [Value.category]) (Nat.le_of_ble_eq_true rfl) rfl (fun _ => rfl) (fun Γ C E => ?_)
  have h' := h
  obtain ⟨own, h, hno⟩ := h'
  have hn48 := h.1.2.1
  obtain ⟨f, f1, f2, -⟩ := P_tr h hp hh
  have hpq : q ≠ p := fun z => by rw [z, hh] at hhq; cases hhq
  refine x_aload0 C d_X_carry_0 ?_
  refine x_iload1 C d_X_carry_1 ?_
  refine x_cI1 C k_X_68 d_X_carry_2 (c_X_mayWrite a σ hp (P_mz h hp)) (fun r u hw => ?_)
  obtain ⟨rfl, rfl⟩ := hw
  refine x_istore3 C d_X_carry_5 ?_
  refine x_aload0 C d_X_carry_6 ?_
  refine x_iload1 C d_X_carry_7 ?_
  refine x_cI1 C k_X_78 d_X_carry_8 (c_X_content a _ hp f2 (by omega)) (fun r u hw => ?_)
  obtain ⟨rfl, rfl⟩ := hw
  refine x_istore4 C d_X_carry_11 ?_
  refine x_aload0 C d_X_carry_13 ?_
  refine x_iload1 C d_X_carry_14 ?_
  refine x_cV1 C k_X_64 d_X_carry_15 (c_X_takeOut a _ ⟨own, h, hno⟩ hp hh) (fun u1 hw => ?_)
  obtain ⟨hu1, hv1⟩ := hw
  have hb1 : ∀ r, r < 64 → hasB u1 r = (hasB u r && !decide (r = p)) := fun r hr => by
    rw [← vw_isSome, hv1 r hr, ← vw_isSome]
    by_cases z : r = p
    · rw [if_pos z]; simp [z]
    · rw [if_neg z]; simp [z]
  have hcnt : cnt (hasB u) 64 = cnt (hasB u1) 64 + 1 := cnt_add hp (by rw [hb1 p hp]; simp) hh (fun r hr z => by rw [hb1 r hr]; simp [z])
  have hle := P_cnt h
  refine x_aload0 C d_X_carry_18 ?_
  refine x_iload2 C d_X_carry_19 ?_
  refine x_iload3 C d_X_carry_20 ?_
  refine x_iload4 C d_X_carry_21 ?_
  refine x_cV3 C k_X_60 d_X_carry_23 (c_X_bringIn a u1 hu1 hq (by rw [hb1 q hq, hhq]; rfl) (by omega) (P_mz h hp)) (fun u2 hw => ?_)
  obtain ⟨hu2, hv2⟩ := hw
  refine E d_X_carry_26 ⟨hu2, fun r hr => ?_⟩
  rw [hv2 r hr]
  by_cases z : r = q
  · rw [if_pos z, if_pos z]
    unfold vwF
    rw [if_pos hh, ctF, f2, nI_clamp (by omega)]
  · rw [if_neg z, if_neg z, hv1 r hr]
end
section
/-! The pages as both sides show them: the view, and what each operation does to it -/
abbrev vT : Type := Nat → Option (Int32 × Int32)
def vs (v : vT) (p : Nat) (y : Option (Int32 × Int32)) : vT := fun q => if q = p then y else v q
def cnV (v : vT) : Nat := cnt (fun q => (v q).isSome) 64
theorem MI.mono {a : xA} {S : Type} {wf : S → va_W} {y : MethodName} {b : ByteArray} {nL : Nat} {ret : Option FieldType} {k : Nat} {av : List Value} {σ : S} {post post' : Int32 → S → Prop} (h : MI a wf y b nL ret k av σ post) (hm : ∀ r u, post r u → post' r u) : MI a wf y b nL ret k av σ post' := by
  intro l sz p e ha hf hc s m args below hfr happ hP hK
  obtain ⟨n, o, h1, h2, h3, ⟨⟨r, u, e1, e2, e3⟩, hF⟩, hL⟩ := h l sz p e ha hf hc s m args below hfr happ hP hK
  exact ⟨n, o, h1, h2, h3, ⟨⟨r, u, e1, hm r u e2, e3⟩, hF⟩, hL⟩
theorem MV.mono {a : xA} {S : Type} {wf : S → va_W} {y : MethodName} {b : ByteArray} {nL : Nat} {ret : Option FieldType} {k : Nat} {av : List Value} {σ : S} {post post' : S → Prop} (h : MV a wf y b nL ret k av σ post) (hm : ∀ u, post u → post' u) : MV a wf y b nL ret k av σ post' := by
  intro l sz p e ha hf hc s m args below hfr happ hP hK
  obtain ⟨n, o, h1, h2, h3, ⟨⟨u, e1, e2, e3⟩, hF⟩, hL⟩ := h l sz p e ha hf hc s m args below hfr happ hP hK
  exact ⟨n, o, h1, h2, h3, ⟨⟨u, e1, hm u e2, e3⟩, hF⟩, hL⟩
/-! PageRangeStore by its view -/
def XI (σ : xT) (n : Nat) (v : vT) : Prop := PX σ n ∧ ∀ q, q < 64 → vwF σ q = v q
theorem XI.to {σ : xT} {n : Nat} {v v' : vT} (h : XI σ n v) (e : ∀ q, q < 64 → v q = v' q) : XI σ n v' := ⟨h.1, fun q hq => by rw [h.2 q hq, e q hq]⟩
theorem XI.has {σ : xT} {n p : Nat} {v : vT} (h : XI σ n v) (hp : p < 64) : hasB σ p = (v p).isSome := by rw [← vw_isSome, h.2 p hp]
theorem XI.cnt {σ : xT} {n : Nat} {v : vT} (h : XI σ n v) : cnt (hasB σ) 64 = cnV v := cnt_congr (fun q hq => h.has hq)
theorem XI.used {σ : xT} {n : Nat} {v : vT} (h : XI σ n v) : σ 10 0 = nI (cnV v) := by
  obtain ⟨own, h1, -⟩ := h.1
  rw [← h.cnt]; exact h1.2.2.2.2.2.2.2.2.2.2.1
theorem XI.fc {σ : xT} {n : Nat} {v : vT} (h : XI σ n v) : σ 9 0 = nI n := by
  obtain ⟨own, h1, -⟩ := h.1
  exact h1.1.1
theorem XI.n48 {σ : xT} {n : Nat} {v : vT} (h : XI σ n v) : n ≤ 48 := by
  obtain ⟨own, h1, -⟩ := h.1
  exact h1.1.2.1
theorem XI.le {σ : xT} {n : Nat} {v : vT} (h : XI σ n v) : cnV v ≤ n := by
  obtain ⟨own, h1, -⟩ := h.1
  rw [← h.cnt]; exact P_cnt h1
theorem cnV_64 (v : vT) : cnV v ≤ 64 := cnt_le
theorem XI.at {σ : xT} {n p : Nat} {v : vT} {o x : Int32} (h : XI σ n v) (hp : p < 64) (hv : v p = some (o, x)) : hasB σ p = true ∧ mwF σ p = o ∧ zb o ∧ ∃ f, f < 48 ∧ trF σ p = nI f ∧ σ 0 f = x := by
  have hh : hasB σ p = true := by rw [h.has hp, hv]; rfl
  have hvw := h.2 p hp
  rw [hv] at hvw
  unfold vwF at hvw
  rw [if_pos hh] at hvw
  cases hvw
  obtain ⟨own, h1, -⟩ := h.1
  have := h1.1.2.1
  obtain ⟨f, f1, f2, -⟩ := P_tr h1 hp hh
  exact ⟨hh, rfl, P_mz h1 hp, f, by omega, f2, by rw [ctF, f2, nI_clamp (by omega)]⟩
theorem cv_has (a : xA) {σ : xT} {n p : Nat} {v : vT} (h : XI σ n v) (hp : p < 64) : MI a (xP a) y_X_has b_X_has 2 (some .boolean) 0 [.ref (a.2.2.2 0), .int (nI p)] σ (fun r u => u = σ ∧ r = bI (v p).isSome) :=
  (c_X_has a σ hp).mono (fun r u q => ⟨q.1, by rw [q.2, h.has hp]⟩)
theorem cv_mayWrite (a : xA) {σ : xT} {n p : Nat} {v : vT} {o x : Int32} (h : XI σ n v) (hp : p < 64) (hv : v p = some (o, x)) : MI a (xP a) y_X_mayWrite b_X_mayWrite 2 (some .boolean) 0 [.ref (a.2.2.2 0), .int (nI p)] σ (fun r u => u = σ ∧ r = o) := by
  obtain ⟨h1, h2, h3, -⟩ := h.at hp hv
  exact (c_X_mayWrite a σ hp (by rw [h2]; exact h3)).mono (fun r u q => ⟨q.1, by rw [q.2, h2]⟩)
theorem cv_content (a : xA) {σ : xT} {n p : Nat} {v : vT} {o x : Int32} (h : XI σ n v) (hp : p < 64) (hv : v p = some (o, x)) : MI a (xP a) y_X_content b_X_content 3 (some .int) 1 [.ref (a.2.2.2 0), .int (nI p)] σ (fun r u => u = σ ∧ r = x) := by
  obtain ⟨h1, h2, h3, f, f1, f2, f3⟩ := h.at hp hv
  exact (c_X_content a σ hp f2 f1).mono (fun r u q => ⟨q.1, by rw [q.2, f3]⟩)
theorem cv_setContent (a : xA) {σ : xT} {n p : Nat} {v : vT} {o x : Int32} (w : Int32) (h : XI σ n v) (hp : p < 64) (hv : v p = some (o, x)) : MV a (xP a) y_X_setContent b_X_setContent 4 none 1 [.ref (a.2.2.2 0), .int (nI p), .int w] σ (fun u => XI u n (vs v p (some (o, w)))) := by
  obtain ⟨h1, h2, h3, f, f1, f2, f3⟩ := h.at hp hv
  refine (c_X_setContent a σ w hp f2 f1).mono (fun u q => ?_)
  subst q
  obtain ⟨own, p1, p2⟩ := h.1
  obtain ⟨p3, p4⟩ := P_ct (v := w) p1 hp h1 f2 f1
  obtain ⟨p5, p6⟩ := P_use (b := p / 4) p3
  refine ⟨⟨own, p5, p2⟩, fun q hq => ?_⟩
  rw [p6, p4 q hq, h.2 p hp, h.2 q hq, hv]
  rfl
theorem cv_setWrite (a : xA) {σ : xT} {n p : Nat} {v : vT} {o x w : Int32} (h : XI σ n v) (hp : p < 64) (hv : v p = some (o, x)) (hw : zb w) : MV a (xP a) y_X_setWrite b_X_setWrite 4 none 1 [.ref (a.2.2.2 0), .int (nI p), .int w] σ (fun u => XI u n (vs v p (some (w, x)))) := by
  obtain ⟨h1, -⟩ := h.at hp hv
  refine (c_X_setWrite a σ h.1 hp h1 hw).mono (fun u q => ⟨q.1, fun r hr => ?_⟩)
  rw [q.2 r hr, h.2 p hp, h.2 r hr, hv]
  rfl
theorem cv_takeOut (a : xA) {σ : xT} {n p : Nat} {v : vT} (h : XI σ n v) (hp : p < 64) (hv : (v p).isSome = true) : MV a (xP a) y_X_takeOut b_X_takeOut 4 none 1 [.ref (a.2.2.2 0), .int (nI p)] σ (fun u => XI u n (vs v p none)) := by
  refine (c_X_takeOut a σ h.1 hp (by rw [h.has hp]; exact hv)).mono (fun u q => ⟨q.1, fun r hr => ?_⟩)
  rw [q.2 r hr, h.2 r hr]
  rfl
theorem cv_bringIn (a : xA) {σ : xT} {n p : Nat} {v : vT} (w x : Int32) (h : XI σ n v) (hp : p < 64) (hv : v p = none) (hc : cnV v < n) (hw : zb w) : MV a (xP a) y_X_bringIn b_X_bringIn 6 none 2 [.ref (a.2.2.2 0), .int (nI p), .int w, .int x] σ (fun u => XI u n (vs v p (some (w, x)))) := by
  refine (c_X_bringIn a σ h.1 hp (by rw [h.has hp, hv]; rfl) (by rw [h.cnt]; exact hc) hw).mono (fun u q => ⟨q.1, fun r hr => ?_⟩)
  rw [q.2 r hr, h.2 r hr]
  rfl
theorem cv_carry (a : xA) {σ : xT} {n p q : Nat} {v : vT} {y : Int32 × Int32} (h : XI σ n v) (hp : p < 64) (hv : v p = some y) (hq : q < 64) (hvq : v q = none) : MV a (xP a) y_X_carry b_X_carry 5 none 3 [.ref (a.2.2.2 0), .int (nI p), .int (nI q)] σ (fun u => XI u n (vs (vs v p none) q (some y))) := by
  refine (c_X_carry a σ h.1 hp (by rw [h.has hp, hv]; rfl) hq (by rw [h.has hq, hvq]; rfl)).mono (fun u z => ⟨z.1, fun r hr => ?_⟩)
  rw [z.2 r hr, h.2 p hp, h.2 r hr, hv]
  rfl
/-! The model by its view -/
def mvF (μ : xT) (q : Nat) : Option (Int32 × Int32) := if μ 0 q = 0 then none else some (μ 1 q, μ 2 q)
def MX (μ : xT) (n : Nat) (v : vT) : Prop := (μ 3 0 = nI n ∧ n ≤ 48) ∧ (∀ q, q < 64 → zb (μ 0 q) ∧ zb (μ 1 q)) ∧ ∀ q, q < 64 → mvF μ q = v q
theorem MX.to {μ : xT} {n : Nat} {v v' : vT} (h : MX μ n v) (e : ∀ q, q < 64 → v q = v' q) : MX μ n v' := ⟨h.1, h.2.1, fun q hq => by rw [h.2.2 q hq, e q hq]⟩
theorem MX.no {μ : xT} {n q : Nat} {v : vT} (h : MX μ n v) (hq : q < 64) : μ 0 q = 0 ↔ v q = none := by
  rw [← h.2.2 q hq]
  unfold mvF
  split
  · next e => exact ⟨fun _ => rfl, fun _ => e⟩
  · next e => exact ⟨fun z => absurd z e, fun z => by cases z⟩
theorem MX.at {μ : xT} {n q : Nat} {v : vT} {o x : Int32} (h : MX μ n v) (hq : q < 64) (hv : v q = some (o, x)) : ¬ μ 0 q = 0 ∧ μ 1 q = o ∧ μ 2 q = x := by
  have h1 := h.2.2 q hq
  rw [hv] at h1
  unfold mvF at h1
  split at h1
  · cases h1
  · next e => cases h1; exact ⟨e, rfl, rfl⟩
theorem n1z : ¬ nI 1 = 0 := by decide +kernel
theorem MX.make {μ : xT} {n i : Nat} {v : vT} {x : Int32} (h : MX μ n v) : MX (sS (sS (sS μ 0 i (nI 1)) 1 i (nI 1)) 2 i x) n (vs v i (some (nI 1, x))) := by
  refine ⟨h.1, fun q hq => ?_, fun q hq => ?_⟩
  · obtain ⟨z0, z1⟩ := h.2.1 q hq
    simp only [sS_at]
    constructor
    · by_cases e : q = i
      · simp [e, zb_1]
      · simp [e, z0]
    · by_cases e : q = i
      · simp [e, zb_1]
      · simp [e, z1]
  · have h2 := h.2.2 q hq
    unfold mvF at h2 ⊢
    simp only [sS_at, vs]
    by_cases e : q = i
    · simp [e, n1z]
    · simpa [e] using h2
theorem MX.drop {μ : xT} {n i : Nat} {v : vT} (h : MX μ n v) : MX (sS μ 0 i (nI 0)) n (vs v i none) := by
  refine ⟨h.1, fun q hq => ?_, fun q hq => ?_⟩
  · obtain ⟨z0, z1⟩ := h.2.1 q hq
    refine ⟨?_, z1⟩
    rw [sS_at]
    split
    · exact zb_0
    · exact z0
  · have h2 := h.2.2 q hq
    unfold mvF at h2 ⊢
    simp only [sS_at, vs]
    by_cases e : q = i
    · simp [e, nI0]
    · simpa [e] using h2
theorem MX.setW {μ : xT} {n i : Nat} {v : vT} {o x w : Int32} (h : MX μ n v) (hi : i < 64) (hv : v i = some (o, x)) (hw : zb w) : MX (sS μ 1 i w) n (vs v i (some (w, x))) := by
  obtain ⟨a1, a2, a3⟩ := h.at hi hv
  refine ⟨h.1, fun q hq => ?_, fun q hq => ?_⟩
  · obtain ⟨z0, z1⟩ := h.2.1 q hq
    refine ⟨z0, ?_⟩
    rw [sS_at]
    split
    · exact hw
    · exact z1
  · have h2 := h.2.2 q hq
    unfold mvF at h2 ⊢
    simp only [sS_at, vs]
    by_cases e : q = i
    · simp [e, a1, a3]
    · simpa [e] using h2
theorem MX.setC {μ : xT} {n i : Nat} {v : vT} {o x w : Int32} (h : MX μ n v) (hi : i < 64) (hv : v i = some (o, x)) : MX (sS μ 2 i w) n (vs v i (some (o, w))) := by
  obtain ⟨a1, a2, a3⟩ := h.at hi hv
  refine ⟨h.1, fun q hq => h.2.1 q hq, fun q hq => ?_⟩
  have h2 := h.2.2 q hq
  unfold mvF at h2 ⊢
  simp only [sS_at, vs]
  by_cases e : q = i
  · simp [e, a1, a2]
  · simpa [e] using h2
/-- what a store of three raw values at a page shows -/
theorem MX.raw {μ : xT} {n i : Nat} {v : vT} {t o x : Int32} (h : MX μ n v) (ht : zb t) (ho : zb o) : MX (sS (sS (sS μ 0 i t) 1 i o) 2 i x) n (vs v i (if t = 0 then none else some (o, x))) := by
  refine ⟨h.1, fun q hq => ?_, fun q hq => ?_⟩
  · obtain ⟨z0, z1⟩ := h.2.1 q hq
    simp only [sS_at]
    constructor
    · by_cases e : q = i
      · simp [e, ht]
      · simp [e, z0]
    · by_cases e : q = i
      · simp [e, ho]
      · simp [e, z1]
  · have h2 := h.2.2 q hq
    unfold mvF at h2 ⊢
    simp only [sS_at, vs]
    by_cases e : q = i
    · simp [e]
    · simpa [e] using h2
/-! What the operations do to the view -/
def cnR (P : Nat → Bool) (i : Nat) : Nat → Nat
  | 0 => 0
  | k + 1 => cnR P i k + (P (i + k)).toNat
theorem cnR_le (P : Nat → Bool) (i : Nat) : ∀ k, cnR P i k ≤ k
  | 0 => Nat.le_refl _
  | k + 1 => by
    have := cnR_le P i k
    have h2 : (P (i + k)).toNat ≤ 1 := by cases P (i + k) <;> simp
    rw [cnR]
    omega
theorem cnR_t {P : Nat → Bool} {i k : Nat} (h : P (i + k) = true) : cnR P i k + 1 = cnR P i (k + 1) := by rw [cnR, h]; rfl
theorem cnR_f {P : Nat → Bool} {i k : Nat} (h : P (i + k) = false) : cnR P i k = cnR P i (k + 1) := by rw [cnR, h]; rfl
def gSP (e1 e2 s g : Int32) (v : vT) (f : Nat → Nat → Int32 × vT) : Int32 × vT := if spB s = true then (if pgB g = true then f s.toNatClampNeg g.toNatClampNeg else (e2, v)) else (e1, v)
def gSR (s g c : Int32) (v : vT) (f : Nat → Nat → Nat → Int32 × vT) : Int32 × vT := if spB s = true then (if rgB g c = true then f s.toNatClampNeg g.toNatClampNeg c.toNatClampNeg else (-2, v)) else (-1, v)
theorem sp_t {s : Int32} (h : spB s = true) : ∃ k, k < 2 ∧ s = nI k := by
  rcases of_decide_eq_true h with q | q
  · exact ⟨0, by omega, by rw [q, nI0]⟩
  · exact ⟨1, by omega, q⟩
theorem pg_t {g : Int32} (h : pgB g = true) : ∃ k, k < 32 ∧ g = nI k := by
  obtain ⟨h1, h2⟩ := of_decide_eq_true h
  rcases pk_ix g (n := 32) (by decide) with q | q | q
  · exact absurd q h1
  · exact absurd q h2
  · exact q
theorem rg_t {g c : Int32} (h : rgB g c = true) : ∃ i k, 1 ≤ k ∧ i + k ≤ 32 ∧ g = nI i ∧ c = nI k := by
  obtain ⟨h1, h2, h3, h4⟩ := of_decide_eq_true h
  have hc0 : ¬ c < 0 := fun q => h1 (by
    rw [Int32.lt_iff_toInt_lt] at q ⊢
    rw [nI_toInt (by decide)]
    rw [Int32.toInt_zero] at q
    omega)
  obtain ⟨k, k1, rfl⟩ := nI_of hc0
  obtain ⟨i, i1, rfl⟩ := nI_of h3
  rw [nI_ltI k1 (by decide)] at h1
  rw [nI_ltI (by decide) k1] at h2
  rw [pk_sub (by omega), nI_ltI (by omega) i1] at h4
  exact ⟨i, k, by omega, by omega, rfl, rfl⟩
theorem spB_n {k : Nat} (h : k < 2) : spB (nI k) = true := by
  have : ∀ k, k < 2 → spB (nI k) = true := by decide +kernel
  exact this k h
theorem pgB_n {k : Nat} (h : k < 32) : pgB (nI k) = true := by
  have : ∀ k, k < 32 → pgB (nI k) = true := by decide +kernel
  exact this k h
theorem rgB_n {i k : Nat} (h1 : 1 ≤ k) (h2 : i + k ≤ 32) : rgB (nI i) (nI k) = true := by
  apply decide_eq_true
  rw [nI_ltI (by omega) (by decide), nI_ltI (by decide) (by omega), pk_sub (by omega), nI_ltI (by omega) (by omega)]
  exact ⟨by omega, by omega, nI_pos (by omega), by omega⟩
section gS
variable {e1 e2 s g c : Int32} {v : vT} {f : Nat → Nat → Int32 × vT} {f3 : Nat → Nat → Nat → Int32 × vT}
theorem gSP_1 (h : spB s = false) : gSP e1 e2 s g v f = (e1, v) := by rw [gSP, h]; rfl
theorem gSP_2 {k : Nat} (hk : k < 2) (h : pgB g = false) : gSP e1 e2 (nI k) g v f = (e2, v) := by rw [gSP, if_pos (spB_n hk), h]; rfl
theorem gSP_3 {k i : Nat} (hk : k < 2) (hi : i < 32) : gSP e1 e2 (nI k) (nI i) v f = f k i := by rw [gSP, if_pos (spB_n hk), if_pos (pgB_n hi), nI_clamp (by omega), nI_clamp (by omega)]
theorem gSR_1 (h : spB s = false) : gSR s g c v f3 = (-1, v) := by rw [gSR, h]; rfl
theorem gSR_2 {k : Nat} (hk : k < 2) (h : rgB g c = false) : gSR (nI k) g c v f3 = (-2, v) := by rw [gSR, if_pos (spB_n hk), h]; rfl
theorem gSR_3 {k i j : Nat} (hk : k < 2) (hj : 1 ≤ j) (hi : i + j ≤ 32) : gSR (nI k) (nI i) (nI j) v f3 = f3 k i j := by rw [gSR, if_pos (spB_n hk), if_pos (rgB_n hj hi), nI_clamp (by omega), nI_clamp (by omega), nI_clamp (by omega)]
end gS
def XPo (n : Nat) (S : Int32 × vT) (r : Int32) (u : xT) : Prop := r = S.1 ∧ XI u n S.2
def MPo (n : Nat) (S : Int32 × vT) (r : Int32) (u : xT) : Prop := r = S.1 ∧ MX u n S.2
theorem XPo_of {n : Nat} {S : Int32 × vT} {r : Int32} {u : xT} {v : vT} (e : S = (r, v)) (h : XI u n v) : XPo n S r u := by rw [e]; exact ⟨rfl, h⟩
theorem MPo_of {n : Nat} {S : Int32 × vT} {r : Int32} {u : xT} {v : vT} (e : S = (r, v)) (h : MX u n v) : MPo n S r u := by rw [e]; exact ⟨rfl, h⟩
theorem bI_ne {b : Bool} (h : ¬ bI b = 0) : b = true := by
  cases b
  · exact absurd (bI_0.mpr rfl) h
  · rfl
def T_mapped (v : vT) (i : Nat) : Int32 × vT := (bI (v i).isSome, v)
def T_writable (v : vT) (i : Nat) : Int32 × vT := match v i with
  | some (o, _) => (if o = 0 then nI 0 else nI 1, v)
  | none => (nI 0, v)
def T_read (v : vT) (i : Nat) : Int32 × vT := match v i with
  | some (_, x) => (x, v)
  | none => (nI 0, v)
def T_write (v : vT) (i : Nat) (x : Int32) : Int32 × vT := match v i with
  | some (o, _) => if o = 0 then (-4, v) else (nI 0, vs v i (some (o, x)))
  | none => (-3, v)
def T_touch (n : Nat) (v : vT) (i : Nat) (x : Int32) : Int32 × vT := match v i with
  | some (o, _) => if o = 0 then (-4, v) else (nI 0, vs v i (some (o, x)))
  | none => if cnV v = n then (-3, v) else (nI 1, vs v i (some (nI 1, x)))
def T_remap (v : vT) (i j : Nat) : Int32 × vT := match v i with
  | none => (-3, v)
  | some y => if (v j).isSome = true then (-4, v) else (nI 0, vs (vs v i none) j (some y))
def T_dup (n : Nat) (v : vT) (i j : Nat) : Int32 × vT := match v i with
  | none => (-3, v)
  | some y => if (v j).isSome = true then (-4, v) else if cnV v = n then (-5, v) else (nI 0, vs v j (some y))
def T_exch (v : vT) (i j : Nat) : Int32 × vT := (nI 0, vs (vs v i (v j)) j (v i))
def mapV (v : vT) (i k : Nat) : vT := fun q => if i ≤ q ∧ q < i + k ∧ (v q).isNone = true then some (nI 1, nI 0) else v q
def T_map (n : Nat) (v : vT) (i k : Nat) : Int32 × vT := if n < cnV v + cnR (fun q => (v q).isNone) i k then (-3, v) else (nI (cnR (fun q => (v q).isNone) i k), mapV v i k)
def unmV (v : vT) (i k : Nat) : vT := fun q => if i ≤ q ∧ q < i + k then none else v q
def T_unmap (v : vT) (i k : Nat) : Int32 × vT := (nI (cnR (fun q => (v q).isSome) i k), unmV v i k)
def chB (v : vT) (w : Int32) (q : Nat) : Bool := match v q with
  | some (o, _) => decide (¬ o = w)
  | none => false
def prV (v : vT) (i k : Nat) (w : Int32) : vT := fun q => if i ≤ q ∧ q < i + k then (v q).map (fun y => (w, y.2)) else v q
def T_prot (v : vT) (i k : Nat) (w : Int32) : Int32 × vT := (nI (cnR (chB v w) i k), prV v i k w)
def stV (v : vT) (i k : Nat) (x : Int32) : vT := fun q => if i ≤ q ∧ q < i + k then (v q).map (fun y => (y.1, x + nI (cnR (fun q => (v q).isSome) i (q - i)))) else v q
def T_stamp (v : vT) (i k : Nat) (x : Int32) : Int32 × vT := (nI (cnR (fun q => (v q).isSome) i k), stV v i k x)
def smV (v : vT) (i : Nat) : Nat → Int32
  | 0 => nI 0
  | k + 1 => match v (i + k) with
    | some (_, x) => smV v i k + x
    | none => smV v i k
def nxV (v : vT) (s : Nat) : Nat → Nat → Int32
  | 0, _ => -3
  | m + 1, p => if (v (32 * s + p)).isSome = true then nI p else nxV v s m (p + 1)
end
section
/-! PageRangeStoreModel, by its view -/
theorem nb_f {b : Bool} (h : ¬ bI (!b) = 0) : b = false := by
  have := bI_ne h
  cases b
  · rfl
  · cases this
theorem nb_t {b : Bool} (h : bI (!b) = 0) : b = true := by
  have := bI_0.mp h
  cases b
  · cases this
  · rfl
theorem sp_f {s : Int32} (h : s < 0 ∨ ¬ s ≤ nI 1) : spB s = false := by
  apply decide_eq_false
  rintro (q | q)
  · subst q
    rcases h with h | h
    · exact absurd h (by decide +kernel)
    · exact h (by decide +kernel)
  · subst q
    rcases h with h | h
    · exact absurd h (by decide +kernel)
    · exact h (by decide +kernel)
theorem sp_p {s : Int32} (h1 : ¬ s < 0) (h2 : s ≤ nI 1) : spB s = true := by
  obtain ⟨j, j1, rfl⟩ := nI_of h1
  rw [nI_leI j1 (by decide)] at h2
  exact spB_n (by omega)
theorem pg_31 {g : Int32} : nI 32 ≤ g ↔ ¬ g ≤ nI 31 := by
  rw [Int32.le_iff_toInt_le, Int32.le_iff_toInt_le, nI_toInt (by decide), nI_toInt (by decide)]
  omega
theorem c_M_badSpace (a : xA) (σ : xT) (s : Int32) : MI a (mP a) y_M_badSpace b_M_badSpace 2 (some .boolean) 0 [.ref (a.2.2.2 0), .int s] σ (fun r u => u = σ ∧ r = bI (!spB s)) := by
  refine MI.ofZ (L0 := [some (.ref (a.2.2.2 0)), some (.int s)]) (by decide) (by simp [Value.category]) (Nat.le_of_ble_eq_true rfl) rfl (fun _ => rfl) (fun Γ C E => ?_)
  refine x_iload1 C d_M_badSpace_0 ?_
  refine x_if_lt C d_M_badSpace_1 (fun h1 => ?_) (fun h1 => ?_)
  · refine x_iconst C d_M_badSpace_9 kI_1 ?_
    refine x_goto C d_M_badSpace_10 ?_
    exact E d_M_badSpace_14 ⟨zb_1, rfl, by rw [sp_f (Or.inl h1)]; rfl⟩
  · refine x_iload1 C d_M_badSpace_4 ?_
    refine x_iconst C d_M_badSpace_5 kI_1 ?_
    refine x_icmp_le C d_M_badSpace_6 (fun h2 => ?_) (fun h2 => ?_)
    · refine x_iconst C d_M_badSpace_13 kI_0 ?_
      exact E d_M_badSpace_14 ⟨zb_0, rfl, by rw [sp_p h1 h2]; rfl⟩
    · refine x_iconst C d_M_badSpace_9 kI_1 ?_
      refine x_goto C d_M_badSpace_10 ?_
      exact E d_M_badSpace_14 ⟨zb_1, rfl, by rw [sp_f (Or.inr h2)]; rfl⟩
theorem c_M_badPage (a : xA) (σ : xT) (g : Int32) : MI a (mP a) y_M_badPage b_M_badPage 2 (some .boolean) 0 [.ref (a.2.2.2 0), .int g] σ (fun r u => u = σ ∧ r = bI (!pgB g)) := by
  refine MI.ofZ (L0 := [some (.ref (a.2.2.2 0)), some (.int g)]) (by decide) (by simp [Value.category]) (Nat.le_of_ble_eq_true rfl) rfl (fun _ => rfl) (fun Γ C E => ?_)
  refine x_iload1 C d_M_badPage_0 ?_
  refine x_if_lt C d_M_badPage_1 (fun h1 => ?_) (fun h1 => ?_)
  · refine x_iconst C d_M_badPage_10 kI_1 ?_
    refine x_goto C d_M_badPage_11 ?_
    exact E d_M_badPage_15 ⟨zb_1, rfl, by rw [pgB, decide_eq_false (fun q => q.1 h1)]; rfl⟩
  · refine x_iload1 C d_M_badPage_4 ?_
    refine x_bipush C d_M_badPage_5 kB_31 ?_
    refine x_icmp_le C d_M_badPage_7 (fun h2 => ?_) (fun h2 => ?_)
    · refine x_iconst C d_M_badPage_14 kI_0 ?_
      exact E d_M_badPage_15 ⟨zb_0, rfl, by rw [pgB, decide_eq_true ⟨h1, fun q => pg_31.mp q h2⟩]; rfl⟩
    · refine x_iconst C d_M_badPage_10 kI_1 ?_
      refine x_goto C d_M_badPage_11 ?_
      exact E d_M_badPage_15 ⟨zb_1, rfl, by rw [pgB, decide_eq_false (fun q => q.2 (pg_31.mpr h2))]; rfl⟩
theorem lt_le {x y : Int32} : x < y ↔ ¬ y ≤ x := by
  rw [Int32.lt_iff_toInt_lt, Int32.le_iff_toInt_le]
  omega
theorem c_M_badRange (a : xA) (σ : xT) (g k : Int32) : MI a (mP a) y_M_badRange b_M_badRange 3 (some .boolean) 0 [.ref (a.2.2.2 0), .int g, .int k] σ (fun r u => u = σ ∧ r = bI (!rgB g k)) := by
  refine MI.ofZ (L0 := [some (.ref (a.2.2.2 0)), some (.int g), some (.int k)]) (by decide) (by simp [Value.category]) (Nat.le_of_ble_eq_true rfl) rfl (fun _ => rfl) (fun Γ C E => ?_)
  refine x_iload2 C d_M_badRange_0 ?_
  refine x_iconst C d_M_badRange_1 kI_1 ?_
  refine x_icmp_lt C d_M_badRange_2 (fun h1 => ?_) (fun h1 => ?_)
  · refine x_iconst C d_M_badRange_11 kI_1 ?_
    exact E d_M_badRange_12 ⟨zb_1, rfl, by rw [rgB, decide_eq_false (fun q => q.1 h1)]; rfl⟩
  · refine x_iload2 C d_M_badRange_5 ?_
    refine x_bipush C d_M_badRange_6 kB_32 ?_
    refine x_icmp_le C d_M_badRange_8 (fun h2 => ?_) (fun h2 => ?_)
    · refine x_iload1 C d_M_badRange_13 ?_
      refine x_if_lt C d_M_badRange_14 (fun h3 => ?_) (fun h3 => ?_)
      · refine x_iconst C d_M_badRange_25 kI_1 ?_
        refine x_goto C d_M_badRange_26 ?_
        exact E d_M_badRange_30 ⟨zb_1, rfl, by rw [rgB, decide_eq_false (fun q => q.2.2.1 h3)]; rfl⟩
      · refine x_iload1 C d_M_badRange_17 ?_
        refine x_bipush C d_M_badRange_18 kB_32 ?_
        refine x_iload2 C d_M_badRange_20 ?_
        refine x_isub C d_M_badRange_21 rfl ?_
        refine x_icmp_le C d_M_badRange_22 (fun h4 => ?_) (fun h4 => ?_)
        · refine x_iconst C d_M_badRange_29 kI_0 ?_
          exact E d_M_badRange_30 ⟨zb_0, rfl, by rw [rgB, decide_eq_true ⟨h1, fun q => lt_le.mp q h2, h3, fun q => lt_le.mp q h4⟩]; rfl⟩
        · refine x_iconst C d_M_badRange_25 kI_1 ?_
          refine x_goto C d_M_badRange_26 ?_
          exact E d_M_badRange_30 ⟨zb_1, rfl, by rw [rgB, decide_eq_false (fun q => q.2.2.2 (lt_le.mpr h4))]; rfl⟩
    · refine x_iconst C d_M_badRange_11 kI_1 ?_
      exact E d_M_badRange_12 ⟨zb_1, rfl, by rw [rgB, decide_eq_false (fun q => q.2.1 (lt_le.mpr h2))]; rfl⟩
theorem c_M_used (a : xA) (σ : xT) {n : Nat} {v : vT} (hI : MX σ n v) : MI a (mP a) y_M_used b_M_used 3 (some .int) 0 [.ref (a.2.2.2 0)] σ (fun r u => u = σ ∧ r = nI (cnV v)) := by
  refine MI.ofI (L0 := [some (.ref (a.2.2.2 0)), none, none]) (by decide) (by simp [Value.category]) (Nat.le_of_ble_eq_true rfl) rfl (fun _ => rfl) (fun Γ C E => ?_)
  have loop : ∀ m j, j + m = 64 → xW Γ a (mP a) σ 4 [some (.ref (a.2.2.2 0)), some (.int (nI (cnt (fun q => (v q).isSome) j))), some (.int (nI j))] [] := by
    intro m
    induction m with
    | zero =>
      intro j hj
      have hj : j = 64 := by omega
      subst hj
      refine x_iload2 C d_M_used_4 ?_
      refine x_bipush C d_M_used_5 kB_64 ?_
      refine x_icmp_geN C d_M_used_7 (by omega) (by omega) (fun h => ?_) (fun h => ?_)
      · refine x_iload1 C d_M_used_28 ?_
        exact E d_M_used_29 ⟨rfl, rfl⟩
      · exact absurd h (by omega)
    | succ m ih =>
      intro j hj
      refine x_iload2 C d_M_used_4 ?_
      refine x_bipush C d_M_used_5 kB_64 ?_
      refine x_icmp_geN C d_M_used_7 (by omega) (by omega) (fun h => ?_) (fun h => ?_)
      · exact absurd h (by omega)
      · refine x_aload0 C d_M_used_10 ?_
        refine m_g1 C d_M_used_11 ?_
        refine x_iload2 C d_M_used_14 ?_
        refine m_ld0 C d_M_used_15 (by omega) ?_
        refine x_if_eq C d_M_used_16 (fun h2 => ?_) (fun h2 => ?_)
        · refine x_iincN2 C d_M_used_22 ?_
          refine x_goto C d_M_used_25 ?_
          have e : cnt (fun q => (v q).isSome) j = cnt (fun q => (v q).isSome) (j + 1) := by
            rw [cnt, (hI.no (by omega)).mp h2]; rfl
          rw [e]
          exact ih (j + 1) (by omega)
        · refine x_iincN1 C d_M_used_19 ?_
          refine x_iincN2 C d_M_used_22 ?_
          refine x_goto C d_M_used_25 ?_
          have e : cnt (fun q => (v q).isSome) j + 1 = cnt (fun q => (v q).isSome) (j + 1) := by
            rw [cnt]
            cases hv : v j with
            | none => exact absurd ((hI.no (by omega)).mpr hv) h2
            | some y => rfl
          rw [e]
          exact ih (j + 1) (by omega)
  refine x_iconst C d_M_used_0 kI_0 ?_
  refine x_istore1 C d_M_used_1 ?_
  refine x_iconst C d_M_used_2 kI_0 ?_
  refine x_istore2 C d_M_used_3 ?_
  exact loop 64 0 rfl
theorem c_M_make (a : xA) (σ : xT) {n i : Nat} {v : vT} (x : Int32) (hI : MX σ n v) (hi : i < 64) : MV a (mP a) y_M_make b_M_make 3 none 0 [.ref (a.2.2.2 0), .int (nI i), .int x] σ (fun u => MX u n (vs v i (some (nI 1, x)))) := by
  refine MV.of (L0 := [some (.ref (a.2.2.2 0)), some (.int (nI i)), some (.int x)]) (by decide) (by simp [Value.category]) (Nat.le_of_ble_eq_true rfl) rfl (fun _ => rfl) (fun Γ C E => ?_)
  refine x_aload0 C d_M_make_0 ?_
  refine m_g1 C d_M_make_1 ?_
  refine x_iload1 C d_M_make_4 ?_
  refine x_iconst C d_M_make_5 kI_1 ?_
  refine m_st0 C d_M_make_6 hi (zb_nar zb_1) ?_
  refine x_aload0 C d_M_make_7 ?_
  refine m_g2 C d_M_make_8 ?_
  refine x_iload1 C d_M_make_11 ?_
  refine x_iconst C d_M_make_12 kI_1 ?_
  refine m_st1 C d_M_make_13 hi (zb_nar zb_1) ?_
  refine x_aload0 C d_M_make_14 ?_
  refine m_g3 C d_M_make_15 ?_
  refine x_iload1 C d_M_make_18 ?_
  refine x_iload2 C d_M_make_19 ?_
  refine m_st2 C d_M_make_20 (by omega) ?_
  exact E d_M_make_21 hI.make
theorem c_M_copy (a : xA) (σ : xT) {n i j : Nat} {v : vT} (hI : MX σ n v) (hi : i < 64) (hj : j < 64) (hij : i ≠ j) : MV a (mP a) y_M_copy b_M_copy 3 none 0 [.ref (a.2.2.2 0), .int (nI i), .int (nI j)] σ (fun u => MX u n (vs v j (v i)) ∧ u = sS (sS (sS σ 0 j (σ 0 i)) 1 j (σ 1 i)) 2 j (σ 2 i)) := by
  refine MV.of (L0 := [some (.ref (a.2.2.2 0)), some (.int (nI i)), some (.int (nI j))]) (by decide) (by simp [Value.category]) (Nat.le_of_ble_eq_true rfl) rfl (fun _ => rfl) (fun Γ C E => ?_)
  obtain ⟨z0, z1⟩ := hI.2.1 i hi
  refine x_aload0 C d_M_copy_0 ?_
  refine m_g1 C d_M_copy_1 ?_
  refine x_iload2 C d_M_copy_4 ?_
  refine x_aload0 C d_M_copy_5 ?_
  refine m_g1 C d_M_copy_6 ?_
  refine x_iload1 C d_M_copy_9 ?_
  refine m_ld0 C d_M_copy_10 (by omega) ?_
  refine m_st0 C d_M_copy_11 hj (zb_nar z0) ?_
  refine x_aload0 C d_M_copy_12 ?_
  refine m_g2 C d_M_copy_13 ?_
  refine x_iload2 C d_M_copy_16 ?_
  refine x_aload0 C d_M_copy_17 ?_
  refine m_g2 C d_M_copy_18 ?_
  refine x_iload1 C d_M_copy_21 ?_
  refine m_ld1 C d_M_copy_22 (by omega) ?_
  refine x_top (y := σ 1 i) rfl ?_
  refine m_st1 C d_M_copy_23 hj (zb_nar z1) ?_
  refine x_aload0 C d_M_copy_24 ?_
  refine m_g3 C d_M_copy_25 ?_
  refine x_iload2 C d_M_copy_28 ?_
  refine x_aload0 C d_M_copy_29 ?_
  refine m_g3 C d_M_copy_30 ?_
  refine x_iload1 C d_M_copy_33 ?_
  refine m_ld2 C d_M_copy_34 (by omega) ?_
  refine x_top (y := σ 2 i) rfl ?_
  refine m_st2 C d_M_copy_35 (by omega) ?_
  refine E d_M_copy_36 ⟨?_, rfl⟩
  rw [← hI.2.2 i hi]
  exact hI.raw z0 z1
theorem c_M_frames (a : xA) (σ : xT) {n : Nat} {v : vT} (hI : MX σ n v) : MI a (mP a) y_M_frames b_M_frames 1 (some .int) 0 [.ref (a.2.2.2 0)] σ (MPo n ((nI n, v))) := by
  refine MI.ofI (L0 := [some (.ref (a.2.2.2 0))]) (by decide) (by simp [Value.category]) (Nat.le_of_ble_eq_true rfl) rfl (fun _ => rfl) (fun Γ C E => ?_)
  refine x_aload0 C d_M_frames_0 ?_
  refine m_g0 C d_M_frames_1 ?_
  exact E d_M_frames_4 ⟨hI.1.1, hI⟩
theorem c_M_mapped (a : xA) (σ : xT) {n : Nat} {v : vT} (hI : MX σ n v) (s g : Int32) : MI a (mP a) y_M_mapped b_M_mapped 3 (some .int) 1 [.ref (a.2.2.2 0), .int s, .int g] σ (MPo n (gSP (-1) (-2) s g v (fun s g => T_mapped v (32 * s + g)))) := by
  refine MI.ofI (L0 := [some (.ref (a.2.2.2 0)), some (.int s), some (.int g)]) (by decide) (by simp [Value.category]) (Nat.le_of_ble_eq_true rfl) rfl (fun _ => rfl) (fun Γ C E => ?_)
  refine x_aload0 C d_M_mapped_0 ?_
  refine x_iload1 C d_M_mapped_1 ?_
  refine m_cI1 C k_M_24 d_M_mapped_2 (c_M_badSpace a σ s) (fun r u hw => ?_)
  obtain ⟨e, rfl⟩ := hw
  rw [e]
  clear e u
  refine x_if_eq C d_M_mapped_5 (fun h1 => ?_) (fun h1 => ?_)
  rotate_left
  · refine x_iconst C d_M_mapped_8 kI_m1 ?_
    exact E d_M_mapped_9 (MPo_of (gSP_1 (nb_f h1)) hI)
  obtain ⟨s', hs', rfl⟩ := sp_t (nb_t h1)
  refine x_aload0 C d_M_mapped_10 ?_
  refine x_iload2 C d_M_mapped_11 ?_
  refine m_cI1 C k_M_40 d_M_mapped_12 (c_M_badPage a σ g) (fun r u hw => ?_)
  obtain ⟨e, rfl⟩ := hw
  rw [e]
  clear e u
  refine x_if_eq C d_M_mapped_15 (fun h2 => ?_) (fun h2 => ?_)
  rotate_left
  · refine x_bipush C d_M_mapped_18 kB_m2 ?_
    exact E d_M_mapped_20 (MPo_of (gSP_2 hs' (nb_f h2)) hI)
  obtain ⟨g', hg', rfl⟩ := pg_t (nb_t h2)
  rw [gSP_3 hs' hg'] at E
  refine x_aload0 C d_M_mapped_21 ?_
  refine m_g1 C d_M_mapped_22 ?_
  refine x_bipush C d_M_mapped_25 kB_32 ?_
  refine x_iload1 C d_M_mapped_27 ?_
  refine x_imulN C d_M_mapped_28 ?_
  refine x_iload2 C d_M_mapped_29 ?_
  refine x_iaddN C d_M_mapped_30 ?_
  refine m_ld0 C d_M_mapped_31 (by omega) ?_
  refine x_if_eq C d_M_mapped_32 (fun h3 => ?_) (fun h3 => ?_)
  · refine x_iconst C d_M_mapped_39 kI_0 ?_
    have hv := (hI.no (by omega)).mp h3
    exact E d_M_mapped_40 (MPo_of (by rw [T_mapped, hv]; rfl) hI)
  · refine x_iconst C d_M_mapped_35 kI_1 ?_
    refine x_goto C d_M_mapped_36 ?_
    cases hv : v (32 * s' + g') with
    | none => exact absurd ((hI.no (by omega)).mpr hv) h3
    | some y => exact E d_M_mapped_40 (MPo_of (by rw [T_mapped, hv]; rfl) hI)
theorem c_M_writable (a : xA) (σ : xT) {n : Nat} {v : vT} (hI : MX σ n v) (s g : Int32) : MI a (mP a) y_M_writable b_M_writable 3 (some .int) 1 [.ref (a.2.2.2 0), .int s, .int g] σ (MPo n (gSP (-1) (-2) s g v (fun s g => T_writable v (32 * s + g)))) := by
  refine MI.ofI (L0 := [some (.ref (a.2.2.2 0)), some (.int s), some (.int g)]) (by decide) (by simp [Value.category]) (Nat.le_of_ble_eq_true rfl) rfl (fun _ => rfl) (fun Γ C E => ?_)
  refine x_aload0 C d_M_writable_0 ?_
  refine x_iload1 C d_M_writable_1 ?_
  refine m_cI1 C k_M_24 d_M_writable_2 (c_M_badSpace a σ s) (fun r u hw => ?_)
  obtain ⟨e, rfl⟩ := hw
  rw [e]
  clear e u
  refine x_if_eq C d_M_writable_5 (fun h1 => ?_) (fun h1 => ?_)
  rotate_left
  · refine x_iconst C d_M_writable_8 kI_m1 ?_
    exact E d_M_writable_9 (MPo_of (gSP_1 (nb_f h1)) hI)
  obtain ⟨s', hs', rfl⟩ := sp_t (nb_t h1)
  refine x_aload0 C d_M_writable_10 ?_
  refine x_iload2 C d_M_writable_11 ?_
  refine m_cI1 C k_M_40 d_M_writable_12 (c_M_badPage a σ g) (fun r u hw => ?_)
  obtain ⟨e, rfl⟩ := hw
  rw [e]
  clear e u
  refine x_if_eq C d_M_writable_15 (fun h2 => ?_) (fun h2 => ?_)
  rotate_left
  · refine x_bipush C d_M_writable_18 kB_m2 ?_
    exact E d_M_writable_20 (MPo_of (gSP_2 hs' (nb_f h2)) hI)
  obtain ⟨g', hg', rfl⟩ := pg_t (nb_t h2)
  rw [gSP_3 hs' hg'] at E
  refine x_aload0 C d_M_writable_21 ?_
  refine m_g1 C d_M_writable_22 ?_
  refine x_bipush C d_M_writable_25 kB_32 ?_
  refine x_iload1 C d_M_writable_27 ?_
  refine x_imulN C d_M_writable_28 ?_
  refine x_iload2 C d_M_writable_29 ?_
  refine x_iaddN C d_M_writable_30 ?_
  refine m_ld0 C d_M_writable_31 (by omega) ?_
  refine x_if_eq C d_M_writable_32 (fun h3 => ?_) (fun h3 => ?_)
  · refine x_iconst C d_M_writable_53 kI_0 ?_
    have hv := (hI.no (by omega)).mp h3
    exact E d_M_writable_54 (MPo_of (by rw [T_writable, hv]) hI)
  · cases hv : v (32 * s' + g') with
    | none => exact absurd ((hI.no (by omega)).mpr hv) h3
    | some y =>
      obtain ⟨o, x⟩ := y
      obtain ⟨a1, a2, a3⟩ := hI.at (by omega) hv
      refine x_aload0 C d_M_writable_35 ?_
      refine m_g2 C d_M_writable_36 ?_
      refine x_bipush C d_M_writable_39 kB_32 ?_
      refine x_iload1 C d_M_writable_41 ?_
      refine x_imulN C d_M_writable_42 ?_
      refine x_iload2 C d_M_writable_43 ?_
      refine x_iaddN C d_M_writable_44 ?_
      refine m_ld1 C d_M_writable_45 (by omega) ?_
      rw [a2]
      refine x_if_eq C d_M_writable_46 (fun h4 => ?_) (fun h4 => ?_)
      · refine x_iconst C d_M_writable_53 kI_0 ?_
        exact E d_M_writable_54 (MPo_of (by rw [T_writable, hv]; simp [h4]) hI)
      · refine x_iconst C d_M_writable_49 kI_1 ?_
        refine x_goto C d_M_writable_50 ?_
        exact E d_M_writable_54 (MPo_of (by rw [T_writable, hv]; simp [h4]) hI)
theorem c_M_read (a : xA) (σ : xT) {n : Nat} {v : vT} (hI : MX σ n v) (s g : Int32) : MI a (mP a) y_M_read b_M_read 3 (some .int) 1 [.ref (a.2.2.2 0), .int s, .int g] σ (MPo n (gSP (nI 0) (nI 0) s g v (fun s g => T_read v (32 * s + g)))) := by
  refine MI.ofI (L0 := [some (.ref (a.2.2.2 0)), some (.int s), some (.int g)]) (by decide) (by simp [Value.category]) (Nat.le_of_ble_eq_true rfl) rfl (fun _ => rfl) (fun Γ C E => ?_)
  refine x_aload0 C d_M_read_0 ?_
  refine x_iload1 C d_M_read_1 ?_
  refine m_cI1 C k_M_24 d_M_read_2 (c_M_badSpace a σ s) (fun r u hw => ?_)
  obtain ⟨e, rfl⟩ := hw
  rw [e]
  clear e u
  refine x_if_ne C d_M_read_5 (fun h1 => ?_) (fun h1 => ?_)
  · refine x_iconst C d_M_read_16 kI_0 ?_
    exact E d_M_read_17 (MPo_of (gSP_1 (nb_f h1)) hI)
  obtain ⟨s', hs', rfl⟩ := sp_t (nb_t h1)
  refine x_aload0 C d_M_read_8 ?_
  refine x_iload2 C d_M_read_9 ?_
  refine m_cI1 C k_M_40 d_M_read_10 (c_M_badPage a σ g) (fun r u hw => ?_)
  obtain ⟨e, rfl⟩ := hw
  rw [e]
  clear e u
  refine x_if_eq C d_M_read_13 (fun h2 => ?_) (fun h2 => ?_)
  rotate_left
  · refine x_iconst C d_M_read_16 kI_0 ?_
    exact E d_M_read_17 (MPo_of (gSP_2 hs' (nb_f h2)) hI)
  obtain ⟨g', hg', rfl⟩ := pg_t (nb_t h2)
  rw [gSP_3 hs' hg'] at E
  refine x_aload0 C d_M_read_18 ?_
  refine m_g1 C d_M_read_19 ?_
  refine x_bipush C d_M_read_22 kB_32 ?_
  refine x_iload1 C d_M_read_24 ?_
  refine x_imulN C d_M_read_25 ?_
  refine x_iload2 C d_M_read_26 ?_
  refine x_iaddN C d_M_read_27 ?_
  refine m_ld0 C d_M_read_28 (by omega) ?_
  refine x_if_eq C d_M_read_29 (fun h3 => ?_) (fun h3 => ?_)
  · refine x_iconst C d_M_read_46 kI_0 ?_
    have hv := (hI.no (by omega)).mp h3
    exact E d_M_read_47 (MPo_of (by rw [T_read, hv]) hI)
  · cases hv : v (32 * s' + g') with
    | none => exact absurd ((hI.no (by omega)).mpr hv) h3
    | some y =>
      obtain ⟨o, x⟩ := y
      obtain ⟨a1, a2, a3⟩ := hI.at (by omega) hv
      refine x_aload0 C d_M_read_32 ?_
      refine m_g3 C d_M_read_33 ?_
      refine x_bipush C d_M_read_36 kB_32 ?_
      refine x_iload1 C d_M_read_38 ?_
      refine x_imulN C d_M_read_39 ?_
      refine x_iload2 C d_M_read_40 ?_
      refine x_iaddN C d_M_read_41 ?_
      refine m_ld2 C d_M_read_42 (by omega) ?_
      refine x_goto C d_M_read_43 ?_
      exact E d_M_read_47 (MPo_of (by rw [T_read, hv, a3]) hI)
theorem c_M_write (a : xA) (σ : xT) {n : Nat} {v : vT} (hI : MX σ n v) (s g x : Int32) : MI a (mP a) y_M_write b_M_write 5 (some .int) 1 [.ref (a.2.2.2 0), .int s, .int g, .int x] σ (MPo n (gSP (-1) (-2) s g v (fun s g => T_write v (32 * s + g) x))) := by
  refine MI.ofI (L0 := [some (.ref (a.2.2.2 0)), some (.int s), some (.int g), some (.int x), none]) (by decide) (by simp [Value.category]) (Nat.le_of_ble_eq_true rfl) rfl (fun _ => rfl) (fun Γ C E => ?_)
  refine x_aload0 C d_M_write_0 ?_
  refine x_iload1 C d_M_write_1 ?_
  refine m_cI1 C k_M_24 d_M_write_2 (c_M_badSpace a σ s) (fun r u hw => ?_)
  obtain ⟨e, rfl⟩ := hw
  rw [e]
  clear e u
  refine x_if_eq C d_M_write_5 (fun h1 => ?_) (fun h1 => ?_)
  rotate_left
  · refine x_iconst C d_M_write_8 kI_m1 ?_
    exact E d_M_write_9 (MPo_of (gSP_1 (nb_f h1)) hI)
  obtain ⟨s', hs', rfl⟩ := sp_t (nb_t h1)
  refine x_aload0 C d_M_write_10 ?_
  refine x_iload2 C d_M_write_11 ?_
  refine m_cI1 C k_M_40 d_M_write_12 (c_M_badPage a σ g) (fun r u hw => ?_)
  obtain ⟨e, rfl⟩ := hw
  rw [e]
  clear e u
  refine x_if_eq C d_M_write_15 (fun h2 => ?_) (fun h2 => ?_)
  rotate_left
  · refine x_bipush C d_M_write_18 kB_m2 ?_
    exact E d_M_write_20 (MPo_of (gSP_2 hs' (nb_f h2)) hI)
  obtain ⟨g', hg', rfl⟩ := pg_t (nb_t h2)
  rw [gSP_3 hs' hg'] at E
  refine x_bipush C d_M_write_21 kB_32 ?_
  refine x_iload1 C d_M_write_23 ?_
  refine x_imulN C d_M_write_24 ?_
  refine x_iload2 C d_M_write_25 ?_
  refine x_iaddN C d_M_write_26 ?_
  refine x_istore4 C d_M_write_27 ?_
  refine x_aload0 C d_M_write_29 ?_
  refine m_g1 C d_M_write_30 ?_
  refine x_iload4 C d_M_write_33 ?_
  refine m_ld0 C d_M_write_35 (by omega) ?_
  refine x_if_ne C d_M_write_36 (fun h3 => ?_) (fun h3 => ?_)
  · cases hv : v (32 * s' + g') with
    | none => exact absurd ((hI.no (by omega)).mpr hv) h3
    | some y =>
      obtain ⟨o, z⟩ := y
      obtain ⟨a1, a2, a3⟩ := hI.at (by omega) hv
      refine x_aload0 C d_M_write_42 ?_
      refine m_g2 C d_M_write_43 ?_
      refine x_iload4 C d_M_write_46 ?_
      refine m_ld1 C d_M_write_48 (by omega) ?_
      rw [a2]
      refine x_if_ne C d_M_write_49 (fun h4 => ?_) (fun h4 => ?_)
      · refine x_aload0 C d_M_write_55 ?_
        refine m_g3 C d_M_write_56 ?_
        refine x_iload4 C d_M_write_59 ?_
        refine x_iload3 C d_M_write_61 ?_
        refine m_st2 C d_M_write_62 (by omega) ?_
        refine x_iconst C d_M_write_63 kI_0 ?_
        exact E d_M_write_64 (MPo_of (by rw [T_write, hv]; simp [h4]) (hI.setC (by omega) hv))
      · refine x_bipush C d_M_write_52 kB_m4 ?_
        exact E d_M_write_54 (MPo_of (by rw [T_write, hv]; simp [h4]) hI)
  · refine x_bipush C d_M_write_39 kB_m3 ?_
    have hv := (hI.no (by omega)).mp h3
    exact E d_M_write_41 (MPo_of (by rw [T_write, hv]) hI)
theorem c_M_touch (a : xA) (σ : xT) {n : Nat} {v : vT} (hI : MX σ n v) (s g x : Int32) : MI a (mP a) y_M_touch b_M_touch 5 (some .int) 1 [.ref (a.2.2.2 0), .int s, .int g, .int x] σ (MPo n (gSP (-1) (-2) s g v (fun s g => T_touch n v (32 * s + g) x))) := by
  refine MI.ofI (L0 := [some (.ref (a.2.2.2 0)), some (.int s), some (.int g), some (.int x), none]) (by decide) (by simp [Value.category]) (Nat.le_of_ble_eq_true rfl) rfl (fun _ => rfl) (fun Γ C E => ?_)
  refine x_aload0 C d_M_touch_0 ?_
  refine x_iload1 C d_M_touch_1 ?_
  refine m_cI1 C k_M_24 d_M_touch_2 (c_M_badSpace a σ s) (fun r u hw => ?_)
  obtain ⟨e, rfl⟩ := hw
  rw [e]
  clear e u
  refine x_if_eq C d_M_touch_5 (fun h1 => ?_) (fun h1 => ?_)
  rotate_left
  · refine x_iconst C d_M_touch_8 kI_m1 ?_
    exact E d_M_touch_9 (MPo_of (gSP_1 (nb_f h1)) hI)
  obtain ⟨s', hs', rfl⟩ := sp_t (nb_t h1)
  refine x_aload0 C d_M_touch_10 ?_
  refine x_iload2 C d_M_touch_11 ?_
  refine m_cI1 C k_M_40 d_M_touch_12 (c_M_badPage a σ g) (fun r u hw => ?_)
  obtain ⟨e, rfl⟩ := hw
  rw [e]
  clear e u
  refine x_if_eq C d_M_touch_15 (fun h2 => ?_) (fun h2 => ?_)
  rotate_left
  · refine x_bipush C d_M_touch_18 kB_m2 ?_
    exact E d_M_touch_20 (MPo_of (gSP_2 hs' (nb_f h2)) hI)
  obtain ⟨g', hg', rfl⟩ := pg_t (nb_t h2)
  rw [gSP_3 hs' hg'] at E
  have h48 := hI.1.2
  have h64 := cnV_64 v
  refine x_bipush C d_M_touch_21 kB_32 ?_
  refine x_iload1 C d_M_touch_23 ?_
  refine x_imulN C d_M_touch_24 ?_
  refine x_iload2 C d_M_touch_25 ?_
  refine x_iaddN C d_M_touch_26 ?_
  refine x_istore4 C d_M_touch_27 ?_
  refine x_aload0 C d_M_touch_29 ?_
  refine m_g1 C d_M_touch_30 ?_
  refine x_iload4 C d_M_touch_33 ?_
  refine m_ld0 C d_M_touch_35 (by omega) ?_
  refine x_if_ne C d_M_touch_36 (fun h3 => ?_) (fun h3 => ?_)
  · cases hv : v (32 * s' + g') with
    | none => exact absurd ((hI.no (by omega)).mpr hv) h3
    | some y =>
      obtain ⟨o, z⟩ := y
      obtain ⟨a1, a2, a3⟩ := hI.at (by omega) hv
      refine x_aload0 C d_M_touch_62 ?_
      refine m_g2 C d_M_touch_63 ?_
      refine x_iload4 C d_M_touch_66 ?_
      refine m_ld1 C d_M_touch_68 (by omega) ?_
      rw [a2]
      refine x_if_ne C d_M_touch_69 (fun h4 => ?_) (fun h4 => ?_)
      · refine x_aload0 C d_M_touch_75 ?_
        refine m_g3 C d_M_touch_76 ?_
        refine x_iload4 C d_M_touch_79 ?_
        refine x_iload3 C d_M_touch_81 ?_
        refine m_st2 C d_M_touch_82 (by omega) ?_
        refine x_iconst C d_M_touch_83 kI_0 ?_
        exact E d_M_touch_84 (MPo_of (by rw [T_touch, hv]; simp [h4]) (hI.setC (by omega) hv))
      · refine x_bipush C d_M_touch_72 kB_m4 ?_
        exact E d_M_touch_74 (MPo_of (by rw [T_touch, hv]; simp [h4]) hI)
  · have hv := (hI.no (by omega)).mp h3
    refine x_aload0 C d_M_touch_39 ?_
    refine m_cI0 C k_M_32 d_M_touch_40 (c_M_used a σ hI) (fun r u hw => ?_)
    obtain ⟨e, rfl⟩ := hw
    rw [e]
    clear e u
    refine x_aload0 C d_M_touch_43 ?_
    refine m_g0 C d_M_touch_44 ?_
    rw [hI.1.1]
    refine x_icmp_neN C d_M_touch_47 (by omega) (by omega) (fun h4 => ?_) (fun h4 => ?_)
    · refine x_aload0 C d_M_touch_53 ?_
      refine x_iload4 C d_M_touch_54 ?_
      refine x_iload3 C d_M_touch_56 ?_
      refine m_cV2 C k_M_36 d_M_touch_57 (c_M_make a σ x hI (by omega)) (fun u hw => ?_)
      refine x_iconst C d_M_touch_60 kI_1 ?_
      exact E d_M_touch_61 (MPo_of (by rw [T_touch, hv]; simp [h4]) hw)
    · refine x_bipush C d_M_touch_50 kB_m3 ?_
      exact E d_M_touch_52 (MPo_of (by rw [T_touch, hv]; simp [h4]) hI)
end
section
/-! PageRangeStoreModel, the rest -/
def gS1 (e1 s : Int32) (v : vT) (f : Nat → Int32 × vT) : Int32 × vT := if spB s = true then f s.toNatClampNeg else (e1, v)
theorem gS1_1 {e1 s : Int32} {v : vT} {f : Nat → Int32 × vT} (h : spB s = false) : gS1 e1 s v f = (e1, v) := by rw [gS1, h]; rfl
theorem gS1_2 {e1 : Int32} {v : vT} {f : Nat → Int32 × vT} {k : Nat} (h : k < 2) : gS1 e1 (nI k) v f = f k := by rw [gS1, if_pos (spB_n h), nI_clamp (by omega)]
def gP1 (e1 g : Int32) (v : vT) (f : Nat → Int32 × vT) : Int32 × vT := if pgB g = true then f g.toNatClampNeg else (e1, v)
theorem gP1_1 {e1 g : Int32} {v : vT} {f : Nat → Int32 × vT} (h : pgB g = false) : gP1 e1 g v f = (e1, v) := by rw [gP1, h]; rfl
theorem gP1_2 {e1 : Int32} {v : vT} {f : Nat → Int32 × vT} {k : Nat} (h : k < 32) : gP1 e1 (nI k) v f = f k := by rw [gP1, if_pos (pgB_n h), nI_clamp (by omega)]
def gSPP (s g t : Int32) (v : vT) (f : Nat → Nat → Nat → Int32 × vT) : Int32 × vT := if spB s = true then (if pgB g = true ∧ pgB t = true then f s.toNatClampNeg g.toNatClampNeg t.toNatClampNeg else (-2, v)) else (-1, v)
section gS
variable {s g t : Int32} {v : vT} {f3 : Nat → Nat → Nat → Int32 × vT}
theorem gSPP_1 (h : spB s = false) : gSPP s g t v f3 = (-1, v) := by rw [gSPP, h]; rfl
theorem gSPP_2 {k : Nat} (hk : k < 2) (h : ¬ (pgB g = true ∧ pgB t = true)) : gSPP (nI k) g t v f3 = (-2, v) := by rw [gSPP, if_pos (spB_n hk), if_neg h]
theorem gSPP_3 {k i j : Nat} (hk : k < 2) (hi : i < 32) (hj : j < 32) : gSPP (nI k) (nI i) (nI j) v f3 = f3 k i j := by rw [gSPP, if_pos (spB_n hk), if_pos ⟨pgB_n hi, pgB_n hj⟩, nI_clamp (by omega), nI_clamp (by omega), nI_clamp (by omega)]
end gS
theorem vs_vs {v : vT} {i j : Nat} {x y : Option (Int32 × Int32)} (h : i ≠ j) : vs (vs v j x) i y = vs (vs v i y) j x := by
  funext q
  unfold vs
  by_cases h1 : q = i
  · by_cases h2 : q = j
    · exact absurd (h1.symm.trans h2) h
    · simp [h1, h]
  · by_cases h2 : q = j
    · simp [h2, Ne.symm h]
    · simp [h1, h2]
theorem c_M_remap (a : xA) (σ : xT) {n : Nat} {v : vT} (hI : MX σ n v) (s g t : Int32) : MI a (mP a) y_M_remap b_M_remap 4 (some .int) 1 [.ref (a.2.2.2 0), .int s, .int g, .int t] σ (MPo n (gSPP s g t v (fun s g t => T_remap v (32 * s + g) (32 * s + t)))) := by
  refine MI.ofI (L0 := [some (.ref (a.2.2.2 0)), some (.int s), some (.int g), some (.int t)]) (by decide) (by simp [Value.category]) (Nat.le_of_ble_eq_true rfl) rfl (fun _ => rfl) (fun Γ C E => ?_)
  refine x_aload0 C d_M_remap_0 ?_
  refine x_iload1 C d_M_remap_1 ?_
  refine m_cI1 C k_M_24 d_M_remap_2 (c_M_badSpace a σ s) (fun r u hw => ?_)
  obtain ⟨e, rfl⟩ := hw
  rw [e]
  clear e u
  refine x_if_eq C d_M_remap_5 (fun h1 => ?_) (fun h1 => ?_)
  rotate_left
  · refine x_iconst C d_M_remap_8 kI_m1 ?_
    exact E d_M_remap_9 (MPo_of (gSPP_1 (nb_f h1)) hI)
  obtain ⟨s', hs', rfl⟩ := sp_t (nb_t h1)
  refine x_aload0 C d_M_remap_10 ?_
  refine x_iload2 C d_M_remap_11 ?_
  refine m_cI1 C k_M_40 d_M_remap_12 (c_M_badPage a σ g) (fun r u hw => ?_)
  obtain ⟨e, rfl⟩ := hw
  rw [e]
  clear e u
  refine x_if_ne C d_M_remap_15 (fun h2 => ?_) (fun h2 => ?_)
  · refine x_bipush C d_M_remap_26 kB_m2 ?_
    exact E d_M_remap_28 (MPo_of (gSPP_2 hs' (fun q => by rw [nb_f h2] at q; cases q.1)) hI)
  refine x_aload0 C d_M_remap_18 ?_
  refine x_iload3 C d_M_remap_19 ?_
  refine m_cI1 C k_M_40 d_M_remap_20 (c_M_badPage a σ t) (fun r u hw => ?_)
  obtain ⟨e, rfl⟩ := hw
  rw [e]
  clear e u
  refine x_if_eq C d_M_remap_23 (fun h3 => ?_) (fun h3 => ?_)
  rotate_left
  · refine x_bipush C d_M_remap_26 kB_m2 ?_
    exact E d_M_remap_28 (MPo_of (gSPP_2 hs' (fun q => by rw [nb_f h3] at q; cases q.2)) hI)
  obtain ⟨g', hg', rfl⟩ := pg_t (nb_t h2)
  obtain ⟨t', ht', rfl⟩ := pg_t (nb_t h3)
  rw [gSPP_3 hs' hg' ht'] at E
  refine x_aload0 C d_M_remap_29 ?_
  refine m_g1 C d_M_remap_30 ?_
  refine x_bipush C d_M_remap_33 kB_32 ?_
  refine x_iload1 C d_M_remap_35 ?_
  refine x_imulN C d_M_remap_36 ?_
  refine x_iload2 C d_M_remap_37 ?_
  refine x_iaddN C d_M_remap_38 ?_
  refine m_ld0 C d_M_remap_39 (by omega) ?_
  refine x_if_ne C d_M_remap_40 (fun h4 => ?_) (fun h4 => ?_)
  rotate_left
  · refine x_bipush C d_M_remap_43 kB_m3 ?_
    exact E d_M_remap_45 (MPo_of (by rw [T_remap, (hI.no (by omega)).mp h4]) hI)
  cases hv : v (32 * s' + g') with
  | none => exact absurd ((hI.no (by omega)).mpr hv) h4
  | some y =>
    refine x_aload0 C d_M_remap_46 ?_
    refine m_g1 C d_M_remap_47 ?_
    refine x_bipush C d_M_remap_50 kB_32 ?_
    refine x_iload1 C d_M_remap_52 ?_
    refine x_imulN C d_M_remap_53 ?_
    refine x_iload3 C d_M_remap_54 ?_
    refine x_iaddN C d_M_remap_55 ?_
    refine m_ld0 C d_M_remap_56 (by omega) ?_
    refine x_if_eq C d_M_remap_57 (fun h5 => ?_) (fun h5 => ?_)
    · have hv2 := (hI.no (by omega)).mp h5
      have hne : g' ≠ t' := fun q => by rw [q, hv2] at hv; cases hv
      refine x_aload0 C d_M_remap_63 ?_
      refine x_bipush C d_M_remap_64 kB_32 ?_
      refine x_iload1 C d_M_remap_66 ?_
      refine x_imulN C d_M_remap_67 ?_
      refine x_iload2 C d_M_remap_68 ?_
      refine x_iaddN C d_M_remap_69 ?_
      refine x_bipush C d_M_remap_70 kB_32 ?_
      refine x_iload1 C d_M_remap_72 ?_
      refine x_imulN C d_M_remap_73 ?_
      refine x_iload3 C d_M_remap_74 ?_
      refine x_iaddN C d_M_remap_75 ?_
      refine m_cV2 C k_M_43 d_M_remap_76 (c_M_copy a σ hI (by omega) (by omega) (by omega)) (fun u hw => ?_)
      refine x_aload0 C d_M_remap_79 ?_
      refine m_g1 C d_M_remap_80 ?_
      refine x_bipush C d_M_remap_83 kB_32 ?_
      refine x_iload1 C d_M_remap_85 ?_
      refine x_imulN C d_M_remap_86 ?_
      refine x_iload2 C d_M_remap_87 ?_
      refine x_iaddN C d_M_remap_88 ?_
      refine x_iconst C d_M_remap_89 kI_0 ?_
      refine m_st0 C d_M_remap_90 (by omega) (zb_nar zb_0) ?_
      refine x_iconst C d_M_remap_91 kI_0 ?_
      refine E d_M_remap_92 (MPo_of (v := vs (vs v (32 * s' + g') none) (32 * s' + t') (some y)) (by rw [T_remap, hv]; simp [hv2]) ?_)
      rw [← vs_vs (by omega), ← hv]
      exact hw.1.drop
    · cases hv2 : v (32 * s' + t') with
      | none => exact absurd ((hI.no (by omega)).mpr hv2) h5
      | some z =>
        refine x_bipush C d_M_remap_60 kB_m4 ?_
        exact E d_M_remap_62 (MPo_of (by rw [T_remap, hv]; simp [hv2]) hI)
theorem c_M_duplicate (a : xA) (σ : xT) {n : Nat} {v : vT} (hI : MX σ n v) (s g : Int32) : MI a (mP a) y_M_duplicate b_M_duplicate 3 (some .int) 1 [.ref (a.2.2.2 0), .int s, .int g] σ (MPo n (gSP (-1) (-2) s g v (fun s g => T_dup n v (32 * s + g) (32 * (1 - s) + g)))) := by
  refine MI.ofI (L0 := [some (.ref (a.2.2.2 0)), some (.int s), some (.int g)]) (by decide) (by simp [Value.category]) (Nat.le_of_ble_eq_true rfl) rfl (fun _ => rfl) (fun Γ C E => ?_)
  refine x_aload0 C d_M_duplicate_0 ?_
  refine x_iload1 C d_M_duplicate_1 ?_
  refine m_cI1 C k_M_24 d_M_duplicate_2 (c_M_badSpace a σ s) (fun r u hw => ?_)
  obtain ⟨e, rfl⟩ := hw
  rw [e]
  clear e u
  refine x_if_eq C d_M_duplicate_5 (fun h1 => ?_) (fun h1 => ?_)
  rotate_left
  · refine x_iconst C d_M_duplicate_8 kI_m1 ?_
    exact E d_M_duplicate_9 (MPo_of (gSP_1 (nb_f h1)) hI)
  obtain ⟨s', hs', rfl⟩ := sp_t (nb_t h1)
  refine x_aload0 C d_M_duplicate_10 ?_
  refine x_iload2 C d_M_duplicate_11 ?_
  refine m_cI1 C k_M_40 d_M_duplicate_12 (c_M_badPage a σ g) (fun r u hw => ?_)
  obtain ⟨e, rfl⟩ := hw
  rw [e]
  clear e u
  refine x_if_eq C d_M_duplicate_15 (fun h2 => ?_) (fun h2 => ?_)
  rotate_left
  · refine x_bipush C d_M_duplicate_18 kB_m2 ?_
    exact E d_M_duplicate_20 (MPo_of (gSP_2 hs' (nb_f h2)) hI)
  obtain ⟨g', hg', rfl⟩ := pg_t (nb_t h2)
  rw [gSP_3 hs' hg'] at E
  have h48 := hI.1.2
  have h64 := cnV_64 v
  have e1 : nI 1 - nI s' = nI (1 - s') := pk_sub (by omega)
  refine x_aload0 C d_M_duplicate_21 ?_
  refine m_g1 C d_M_duplicate_22 ?_
  refine x_bipush C d_M_duplicate_25 kB_32 ?_
  refine x_iload1 C d_M_duplicate_27 ?_
  refine x_imulN C d_M_duplicate_28 ?_
  refine x_iload2 C d_M_duplicate_29 ?_
  refine x_iaddN C d_M_duplicate_30 ?_
  refine m_ld0 C d_M_duplicate_31 (by omega) ?_
  refine x_if_ne C d_M_duplicate_32 (fun h3 => ?_) (fun h3 => ?_)
  rotate_left
  · refine x_bipush C d_M_duplicate_35 kB_m3 ?_
    exact E d_M_duplicate_37 (MPo_of (by rw [T_dup, (hI.no (by omega)).mp h3]) hI)
  cases hv : v (32 * s' + g') with
  | none => exact absurd ((hI.no (by omega)).mpr hv) h3
  | some y =>
    refine x_aload0 C d_M_duplicate_38 ?_
    refine m_g1 C d_M_duplicate_39 ?_
    refine x_bipush C d_M_duplicate_42 kB_32 ?_
    refine x_iconst C d_M_duplicate_44 kI_1 ?_
    refine x_iload1 C d_M_duplicate_45 ?_
    refine x_isub C d_M_duplicate_46 e1 ?_
    refine x_imulN C d_M_duplicate_47 ?_
    refine x_iload2 C d_M_duplicate_48 ?_
    refine x_iaddN C d_M_duplicate_49 ?_
    refine m_ld0 C d_M_duplicate_50 (by omega) ?_
    refine x_if_eq C d_M_duplicate_51 (fun h5 => ?_) (fun h5 => ?_)
    · have hv2 := (hI.no (by omega)).mp h5
      refine x_aload0 C d_M_duplicate_57 ?_
      refine m_cI0 C k_M_32 d_M_duplicate_58 (c_M_used a σ hI) (fun r u hw => ?_)
      obtain ⟨e, rfl⟩ := hw
      rw [e]
      clear e u
      refine x_aload0 C d_M_duplicate_61 ?_
      refine m_g0 C d_M_duplicate_62 ?_
      rw [hI.1.1]
      refine x_icmp_neN C d_M_duplicate_65 (by omega) (by omega) (fun h4 => ?_) (fun h4 => ?_)
      · refine x_aload0 C d_M_duplicate_71 ?_
        refine x_bipush C d_M_duplicate_72 kB_32 ?_
        refine x_iload1 C d_M_duplicate_74 ?_
        refine x_imulN C d_M_duplicate_75 ?_
        refine x_iload2 C d_M_duplicate_76 ?_
        refine x_iaddN C d_M_duplicate_77 ?_
        refine x_bipush C d_M_duplicate_78 kB_32 ?_
        refine x_iconst C d_M_duplicate_80 kI_1 ?_
        refine x_iload1 C d_M_duplicate_81 ?_
        refine x_isub C d_M_duplicate_82 e1 ?_
        refine x_imulN C d_M_duplicate_83 ?_
        refine x_iload2 C d_M_duplicate_84 ?_
        refine x_iaddN C d_M_duplicate_85 ?_
        refine m_cV2 C k_M_43 d_M_duplicate_86 (c_M_copy a σ hI (by omega) (by omega) (by omega)) (fun u hw => ?_)
        refine x_iconst C d_M_duplicate_89 kI_0 ?_
        exact E d_M_duplicate_90 (MPo_of (by rw [T_dup, hv]; simp [hv2, h4]) (hv ▸ hw.1))
      · refine x_bipush C d_M_duplicate_68 kB_m5 ?_
        exact E d_M_duplicate_70 (MPo_of (by rw [T_dup, hv]; simp [hv2, h4]) hI)
    · cases hv2 : v (32 * (1 - s') + g') with
      | none => exact absurd ((hI.no (by omega)).mpr hv2) h5
      | some z =>
        refine x_bipush C d_M_duplicate_54 kB_m4 ?_
        exact E d_M_duplicate_56 (MPo_of (by rw [T_dup, hv]; simp [hv2]) hI)
theorem c_M_exchange (a : xA) (σ : xT) {n : Nat} {v : vT} (hI : MX σ n v) (g : Int32) : MI a (mP a) y_M_exchange b_M_exchange 5 (some .int) 1 [.ref (a.2.2.2 0), .int g] σ (MPo n (gP1 (-1) g v (fun g => T_exch v g (32 + g)))) := by
  refine MI.ofI (L0 := [some (.ref (a.2.2.2 0)), some (.int g), none, none, none]) (by decide) (by simp [Value.category]) (Nat.le_of_ble_eq_true rfl) rfl (fun _ => rfl) (fun Γ C E => ?_)
  refine x_aload0 C d_M_exchange_0 ?_
  refine x_iload1 C d_M_exchange_1 ?_
  refine m_cI1 C k_M_40 d_M_exchange_2 (c_M_badPage a σ g) (fun r u hw => ?_)
  obtain ⟨e, rfl⟩ := hw
  rw [e]
  clear e u
  refine x_if_eq C d_M_exchange_5 (fun h1 => ?_) (fun h1 => ?_)
  rotate_left
  · refine x_iconst C d_M_exchange_8 kI_m1 ?_
    exact E d_M_exchange_9 (MPo_of (gP1_1 (nb_f h1)) hI)
  obtain ⟨g', hg', rfl⟩ := pg_t (nb_t h1)
  rw [gP1_2 hg'] at E
  obtain ⟨z0, z1⟩ := hI.2.1 g' (by omega)
  refine x_aload0 C d_M_exchange_10 ?_
  refine m_g1 C d_M_exchange_11 ?_
  refine x_iload1 C d_M_exchange_14 ?_
  refine m_ld0 C d_M_exchange_15 (by omega) ?_
  refine x_istore2 C d_M_exchange_16 ?_
  refine x_aload0 C d_M_exchange_17 ?_
  refine m_g2 C d_M_exchange_18 ?_
  refine x_iload1 C d_M_exchange_21 ?_
  refine m_ld1 C d_M_exchange_22 (by omega) ?_
  refine x_istore3 C d_M_exchange_23 ?_
  refine x_aload0 C d_M_exchange_24 ?_
  refine m_g3 C d_M_exchange_25 ?_
  refine x_iload1 C d_M_exchange_28 ?_
  refine m_ld2 C d_M_exchange_29 (by omega) ?_
  refine x_istore4 C d_M_exchange_30 ?_
  refine x_aload0 C d_M_exchange_32 ?_
  refine x_bipush C d_M_exchange_33 kB_32 ?_
  refine x_iload1 C d_M_exchange_35 ?_
  refine x_iaddN C d_M_exchange_36 ?_
  refine x_iload1 C d_M_exchange_37 ?_
  refine m_cV2 C k_M_43 d_M_exchange_38 (c_M_copy a σ hI (i := 32 + g') (j := g') (by omega) (by omega) (by omega)) (fun u hw => ?_)
  obtain ⟨hw, -⟩ := hw
  refine x_aload0 C d_M_exchange_41 ?_
  refine m_g1 C d_M_exchange_42 ?_
  refine x_bipush C d_M_exchange_45 kB_32 ?_
  refine x_iload1 C d_M_exchange_47 ?_
  refine x_iaddN C d_M_exchange_48 ?_
  refine x_iload2 C d_M_exchange_49 ?_
  refine m_st0 C d_M_exchange_50 (by omega) (zb_nar z0) ?_
  refine x_aload0 C d_M_exchange_51 ?_
  refine m_g2 C d_M_exchange_52 ?_
  refine x_bipush C d_M_exchange_55 kB_32 ?_
  refine x_iload1 C d_M_exchange_57 ?_
  refine x_iaddN C d_M_exchange_58 ?_
  refine x_iload3 C d_M_exchange_59 ?_
  refine m_st1 C d_M_exchange_60 (by omega) (zb_nar z1) ?_
  refine x_aload0 C d_M_exchange_61 ?_
  refine m_g3 C d_M_exchange_62 ?_
  refine x_bipush C d_M_exchange_65 kB_32 ?_
  refine x_iload1 C d_M_exchange_67 ?_
  refine x_iaddN C d_M_exchange_68 ?_
  refine x_iload4 C d_M_exchange_69 ?_
  refine m_st2 C d_M_exchange_71 (by omega) ?_
  refine x_iconst C d_M_exchange_72 kI_0 ?_
  refine E d_M_exchange_73 (MPo_of rfl ?_)
  rw [← hI.2.2 g' (by omega)]
  exact hw.raw z0 z1
theorem c_M_mappedIn (a : xA) (σ : xT) {n : Nat} {v : vT} (hI : MX σ n v) (s : Int32) : MI a (mP a) y_M_mappedIn b_M_mappedIn 4 (some .int) 1 [.ref (a.2.2.2 0), .int s] σ (MPo n (gS1 (-1) s v (fun s => (nI (cnR (fun q => (v q).isSome) (32 * s) 32), v)))) := by
  refine MI.ofI (L0 := [some (.ref (a.2.2.2 0)), some (.int s), none, none]) (by decide) (by simp [Value.category]) (Nat.le_of_ble_eq_true rfl) rfl (fun _ => rfl) (fun Γ C E => ?_)
  refine x_aload0 C d_M_mappedIn_0 ?_
  refine x_iload1 C d_M_mappedIn_1 ?_
  refine m_cI1 C k_M_24 d_M_mappedIn_2 (c_M_badSpace a σ s) (fun r u hw => ?_)
  obtain ⟨e, rfl⟩ := hw
  rw [e]
  clear e u
  refine x_if_eq C d_M_mappedIn_5 (fun h1 => ?_) (fun h1 => ?_)
  rotate_left
  · refine x_iconst C d_M_mappedIn_8 kI_m1 ?_
    exact E d_M_mappedIn_9 (MPo_of (gS1_1 (nb_f h1)) hI)
  obtain ⟨s', hs', rfl⟩ := sp_t (nb_t h1)
  rw [gS1_2 hs'] at E
  have loop : ∀ m j, j + m = 32 → xW Γ a (mP a) σ 14 [some (.ref (a.2.2.2 0)), some (.int (nI s')), some (.int (nI (cnR (fun q => (v q).isSome) (32 * s') j))), some (.int (nI j))] [] := by
    intro m
    induction m with
    | zero =>
      intro j hj
      have hj : j = 32 := by omega
      subst hj
      refine x_iload3 C d_M_mappedIn_14 ?_
      refine x_bipush C d_M_mappedIn_15 kB_32 ?_
      refine x_icmp_geN C d_M_mappedIn_17 (by omega) (by omega) (fun h => ?_) (fun h => ?_)
      · refine x_iload2 C d_M_mappedIn_43 ?_
        exact E d_M_mappedIn_44 (MPo_of rfl hI)
      · exact absurd h (by omega)
    | succ m ih =>
      intro j hj
      refine x_iload3 C d_M_mappedIn_14 ?_
      refine x_bipush C d_M_mappedIn_15 kB_32 ?_
      refine x_icmp_geN C d_M_mappedIn_17 (by omega) (by omega) (fun h => ?_) (fun h => ?_)
      · exact absurd h (by omega)
      · refine x_aload0 C d_M_mappedIn_20 ?_
        refine m_g1 C d_M_mappedIn_21 ?_
        refine x_bipush C d_M_mappedIn_24 kB_32 ?_
        refine x_iload1 C d_M_mappedIn_26 ?_
        refine x_imulN C d_M_mappedIn_27 ?_
        refine x_iload3 C d_M_mappedIn_28 ?_
        refine x_iaddN C d_M_mappedIn_29 ?_
        refine m_ld0 C d_M_mappedIn_30 (by omega) ?_
        refine x_if_eq C d_M_mappedIn_31 (fun h2 => ?_) (fun h2 => ?_)
        · refine x_iincN3 C d_M_mappedIn_37 ?_
          refine x_goto C d_M_mappedIn_40 ?_
          rw [cnR_f (P := fun q => (v q).isSome) (by rw [(hI.no (by omega)).mp h2]; rfl)]
          exact ih (j + 1) (by omega)
        · refine x_iincN2 C d_M_mappedIn_34 ?_
          refine x_iincN3 C d_M_mappedIn_37 ?_
          refine x_goto C d_M_mappedIn_40 ?_
          rw [cnR_t (P := fun q => (v q).isSome) (by
            cases hv : v (32 * s' + j) with
            | none => exact absurd ((hI.no (by omega)).mpr hv) h2
            | some y => rfl)]
          exact ih (j + 1) (by omega)
  refine x_iconst C d_M_mappedIn_10 kI_0 ?_
  refine x_istore2 C d_M_mappedIn_11 ?_
  refine x_iconst C d_M_mappedIn_12 kI_0 ?_
  refine x_istore3 C d_M_mappedIn_13 ?_
  exact loop 32 0 rfl
theorem c_M_sum (a : xA) (σ : xT) {n : Nat} {v : vT} (hI : MX σ n v) (s : Int32) : MI a (mP a) y_M_sum b_M_sum 4 (some .int) 1 [.ref (a.2.2.2 0), .int s] σ (MPo n (gS1 (nI 0) s v (fun s => (smV v (32 * s) 32, v)))) := by
  refine MI.ofI (L0 := [some (.ref (a.2.2.2 0)), some (.int s), none, none]) (by decide) (by simp [Value.category]) (Nat.le_of_ble_eq_true rfl) rfl (fun _ => rfl) (fun Γ C E => ?_)
  refine x_aload0 C d_M_sum_0 ?_
  refine x_iload1 C d_M_sum_1 ?_
  refine m_cI1 C k_M_24 d_M_sum_2 (c_M_badSpace a σ s) (fun r u hw => ?_)
  obtain ⟨e, rfl⟩ := hw
  rw [e]
  clear e u
  refine x_if_eq C d_M_sum_5 (fun h1 => ?_) (fun h1 => ?_)
  rotate_left
  · refine x_iconst C d_M_sum_8 kI_0 ?_
    exact E d_M_sum_9 (MPo_of (gS1_1 (nb_f h1)) hI)
  obtain ⟨s', hs', rfl⟩ := sp_t (nb_t h1)
  rw [gS1_2 hs'] at E
  have loop : ∀ m j, j + m = 32 → xW Γ a (mP a) σ 14 [some (.ref (a.2.2.2 0)), some (.int (nI s')), some (.int (smV v (32 * s') j)), some (.int (nI j))] [] := by
    intro m
    induction m with
    | zero =>
      intro j hj
      have hj : j = 32 := by omega
      subst hj
      refine x_iload3 C d_M_sum_14 ?_
      refine x_bipush C d_M_sum_15 kB_32 ?_
      refine x_icmp_geN C d_M_sum_17 (by omega) (by omega) (fun h => ?_) (fun h => ?_)
      · refine x_iload2 C d_M_sum_54 ?_
        exact E d_M_sum_55 (MPo_of rfl hI)
      · exact absurd h (by omega)
    | succ m ih =>
      intro j hj
      refine x_iload3 C d_M_sum_14 ?_
      refine x_bipush C d_M_sum_15 kB_32 ?_
      refine x_icmp_geN C d_M_sum_17 (by omega) (by omega) (fun h => ?_) (fun h => ?_)
      · exact absurd h (by omega)
      · refine x_aload0 C d_M_sum_20 ?_
        refine m_g1 C d_M_sum_21 ?_
        refine x_bipush C d_M_sum_24 kB_32 ?_
        refine x_iload1 C d_M_sum_26 ?_
        refine x_imulN C d_M_sum_27 ?_
        refine x_iload3 C d_M_sum_28 ?_
        refine x_iaddN C d_M_sum_29 ?_
        refine m_ld0 C d_M_sum_30 (by omega) ?_
        refine x_if_eq C d_M_sum_31 (fun h2 => ?_) (fun h2 => ?_)
        · refine x_iincN3 C d_M_sum_48 ?_
          refine x_goto C d_M_sum_51 ?_
          have e : smV v (32 * s') j = smV v (32 * s') (j + 1) := by rw [smV, (hI.no (by omega)).mp h2]
          rw [e]
          exact ih (j + 1) (by omega)
        · cases hv : v (32 * s' + j) with
          | none => exact absurd ((hI.no (by omega)).mpr hv) h2
          | some y =>
            obtain ⟨o, x⟩ := y
            obtain ⟨a1, a2, a3⟩ := hI.at (by omega) hv
            refine x_iload2 C d_M_sum_34 ?_
            refine x_aload0 C d_M_sum_35 ?_
            refine m_g3 C d_M_sum_36 ?_
            refine x_bipush C d_M_sum_39 kB_32 ?_
            refine x_iload1 C d_M_sum_41 ?_
            refine x_imulN C d_M_sum_42 ?_
            refine x_iload3 C d_M_sum_43 ?_
            refine x_iaddN C d_M_sum_44 ?_
            refine m_ld2 C d_M_sum_45 (by omega) ?_
            rw [a3]
            refine x_iadd C d_M_sum_46 rfl ?_
            refine x_istore2 C d_M_sum_47 ?_
            refine x_iincN3 C d_M_sum_48 ?_
            refine x_goto C d_M_sum_51 ?_
            have e : smV v (32 * s') j + x = smV v (32 * s') (j + 1) := by rw [smV, hv]
            rw [e]
            exact ih (j + 1) (by omega)
  refine x_iconst C d_M_sum_10 kI_0 ?_
  refine x_istore2 C d_M_sum_11 ?_
  refine x_iconst C d_M_sum_12 kI_0 ?_
  refine x_istore3 C d_M_sum_13 ?_
  exact loop 32 0 rfl
theorem c_M_nextMapped (a : xA) (σ : xT) {n : Nat} {v : vT} (hI : MX σ n v) (s g : Int32) : MI a (mP a) y_M_nextMapped b_M_nextMapped 4 (some .int) 1 [.ref (a.2.2.2 0), .int s, .int g] σ (MPo n (gSP (-1) (-2) s g v (fun s g => (nxV v s (32 - g) g, v)))) := by
  refine MI.ofI (L0 := [some (.ref (a.2.2.2 0)), some (.int s), some (.int g), none]) (by decide) (by simp [Value.category]) (Nat.le_of_ble_eq_true rfl) rfl (fun _ => rfl) (fun Γ C E => ?_)
  refine x_aload0 C d_M_nextMapped_0 ?_
  refine x_iload1 C d_M_nextMapped_1 ?_
  refine m_cI1 C k_M_24 d_M_nextMapped_2 (c_M_badSpace a σ s) (fun r u hw => ?_)
  obtain ⟨e, rfl⟩ := hw
  rw [e]
  clear e u
  refine x_if_eq C d_M_nextMapped_5 (fun h1 => ?_) (fun h1 => ?_)
  rotate_left
  · refine x_iconst C d_M_nextMapped_8 kI_m1 ?_
    exact E d_M_nextMapped_9 (MPo_of (gSP_1 (nb_f h1)) hI)
  obtain ⟨s', hs', rfl⟩ := sp_t (nb_t h1)
  refine x_aload0 C d_M_nextMapped_10 ?_
  refine x_iload2 C d_M_nextMapped_11 ?_
  refine m_cI1 C k_M_40 d_M_nextMapped_12 (c_M_badPage a σ g) (fun r u hw => ?_)
  obtain ⟨e, rfl⟩ := hw
  rw [e]
  clear e u
  refine x_if_eq C d_M_nextMapped_15 (fun h2 => ?_) (fun h2 => ?_)
  rotate_left
  · refine x_bipush C d_M_nextMapped_18 kB_m2 ?_
    exact E d_M_nextMapped_20 (MPo_of (gSP_2 hs' (nb_f h2)) hI)
  obtain ⟨g', hg', rfl⟩ := pg_t (nb_t h2)
  rw [gSP_3 hs' hg'] at E
  have loop : ∀ m p, p + m = 32 → nxV v s' m p = nxV v s' (32 - g') g' → xW Γ a (mP a) σ 23 [some (.ref (a.2.2.2 0)), some (.int (nI s')), some (.int (nI g')), some (.int (nI p))] [] := by
    intro m
    induction m with
    | zero =>
      intro p hp hx
      have hp : p = 32 := by omega
      subst hp
      refine x_iload3 C d_M_nextMapped_23 ?_
      refine x_bipush C d_M_nextMapped_24 kB_32 ?_
      refine x_icmp_geN C d_M_nextMapped_26 (by omega) (by omega) (fun h => ?_) (fun h => ?_)
      · refine x_bipush C d_M_nextMapped_51 kB_m3 ?_
        exact E d_M_nextMapped_53 (MPo_of (by rw [← hx]; rfl) hI)
      · exact absurd h (by omega)
    | succ m ih =>
      intro p hp hx
      rw [nxV] at hx
      refine x_iload3 C d_M_nextMapped_23 ?_
      refine x_bipush C d_M_nextMapped_24 kB_32 ?_
      refine x_icmp_geN C d_M_nextMapped_26 (by omega) (by omega) (fun h => ?_) (fun h => ?_)
      · exact absurd h (by omega)
      · refine x_aload0 C d_M_nextMapped_29 ?_
        refine m_g1 C d_M_nextMapped_30 ?_
        refine x_bipush C d_M_nextMapped_33 kB_32 ?_
        refine x_iload1 C d_M_nextMapped_35 ?_
        refine x_imulN C d_M_nextMapped_36 ?_
        refine x_iload3 C d_M_nextMapped_37 ?_
        refine x_iaddN C d_M_nextMapped_38 ?_
        refine m_ld0 C d_M_nextMapped_39 (by omega) ?_
        refine x_if_eq C d_M_nextMapped_40 (fun h3 => ?_) (fun h3 => ?_)
        · refine x_iincN3 C d_M_nextMapped_45 ?_
          refine x_goto C d_M_nextMapped_48 ?_
          rw [(hI.no (by omega)).mp h3, if_neg (by decide)] at hx
          exact ih (p + 1) (by omega) hx
        · refine x_iload3 C d_M_nextMapped_43 ?_
          cases hv : v (32 * s' + p) with
          | none => exact absurd ((hI.no (by omega)).mpr hv) h3
          | some y =>
            rw [hv, if_pos (show (some y).isSome = true from rfl)] at hx
            exact E d_M_nextMapped_44 (MPo_of (by rw [← hx]) hI)
  refine x_iload2 C d_M_nextMapped_21 ?_
  refine x_istore3 C d_M_nextMapped_22 ?_
  exact loop (32 - g') g' (by omega) rfl
end
section
/-! PageRangeStoreModel: map, unmap, protect, stamp -/
theorem unmV_0 (v : vT) (i : Nat) : unmV v i 0 = v := by
  funext q
  unfold unmV
  rw [if_neg (by omega)]
theorem unmV_at (v : vT) (i j : Nat) : unmV v i j (i + j) = v (i + j) := by
  unfold unmV
  rw [if_neg (by omega)]
theorem unmV_s (v : vT) (i j : Nat) : vs (unmV v i j) (i + j) none = unmV v i (j + 1) := by
  funext q
  unfold vs unmV
  by_cases h : q = i + j
  · rw [if_pos h, if_pos (by omega)]
  · rw [if_neg h]
    by_cases h2 : i ≤ q ∧ q < i + j
    · rw [if_pos h2, if_pos (by omega)]
    · rw [if_neg h2, if_neg (by omega)]
theorem unmV_n {v : vT} {i j : Nat} (hn : v (i + j) = none) : unmV v i j = unmV v i (j + 1) := by
  rw [← unmV_s]
  funext q
  unfold vs
  by_cases h : q = i + j
  · rw [if_pos h, h, unmV_at, hn]
  · rw [if_neg h]
theorem mapV_0 (v : vT) (i : Nat) : mapV v i 0 = v := by
  funext q
  unfold mapV
  rw [if_neg (by omega)]
theorem mapV_at (v : vT) (i j : Nat) : mapV v i j (i + j) = v (i + j) := by
  unfold mapV
  rw [if_neg (by omega)]
theorem mapV_n {v : vT} {i j : Nat} (hn : v (i + j) = none) : vs (mapV v i j) (i + j) (some (nI 1, nI 0)) = mapV v i (j + 1) := by
  funext q
  unfold vs mapV
  by_cases h : q = i + j
  · rw [if_pos h, if_pos ⟨by omega, by omega, by rw [h, hn]; rfl⟩]
  · rw [if_neg h]
    by_cases h2 : i ≤ q ∧ q < i + j ∧ (v q).isNone = true
    · rw [if_pos h2, if_pos ⟨by omega, by omega, h2.2.2⟩]
    · rw [if_neg h2, if_neg (fun z => h2 ⟨z.1, by omega, z.2.2⟩)]
theorem mapV_y {v : vT} {i j : Nat} (hn : (v (i + j)).isNone = false) : mapV v i j = mapV v i (j + 1) := by
  funext q
  unfold mapV
  by_cases h2 : i ≤ q ∧ q < i + j ∧ (v q).isNone = true
  · rw [if_pos h2, if_pos ⟨by omega, by omega, h2.2.2⟩]
  · rw [if_neg h2, if_neg]
    intro z
    by_cases h : q = i + j
    · rw [h, hn] at z; cases z.2.2
    · exact h2 ⟨z.1, by omega, z.2.2⟩
theorem prV_0 (v : vT) (i : Nat) (w : Int32) : prV v i 0 w = v := by
  funext q
  unfold prV
  rw [if_neg (by omega)]
theorem prV_at (v : vT) (i j : Nat) (w : Int32) : prV v i j w (i + j) = v (i + j) := by
  unfold prV
  rw [if_neg (by omega)]
theorem prV_s {v : vT} {i j : Nat} {w o x : Int32} (hv : v (i + j) = some (o, x)) : vs (prV v i j w) (i + j) (some (w, x)) = prV v i (j + 1) w := by
  funext q
  unfold vs prV
  by_cases h : q = i + j
  · rw [if_pos h, if_pos (by omega), h, hv]; rfl
  · rw [if_neg h]
    by_cases h2 : i ≤ q ∧ q < i + j
    · rw [if_pos h2, if_pos (by omega)]
    · rw [if_neg h2, if_neg (by omega)]
theorem prV_k {v : vT} {i j : Nat} {w : Int32} (hv : chB v w (i + j) = false) : prV v i j w = prV v i (j + 1) w := by
  funext q
  unfold prV
  by_cases h : q = i + j
  · rw [if_neg (by omega), if_pos (by omega), h]
    unfold chB at hv
    cases hq : v (i + j) with
    | none => rfl
    | some y =>
      obtain ⟨o, x⟩ := y
      rw [hq] at hv
      have : o = w := Classical.byContradiction fun z => by simp [z] at hv
      rw [this]; rfl
  · by_cases h2 : i ≤ q ∧ q < i + j
    · rw [if_pos h2, if_pos (by omega)]
    · rw [if_neg h2, if_neg (by omega)]
theorem stV_0 (v : vT) (i : Nat) (x : Int32) : stV v i 0 x = v := by
  funext q
  unfold stV
  rw [if_neg (by omega)]
theorem stV_at (v : vT) (i j : Nat) (x : Int32) : stV v i j x (i + j) = v (i + j) := by
  unfold stV
  rw [if_neg (by omega)]
theorem stV_s {v : vT} {i j : Nat} {x o y : Int32} (hv : v (i + j) = some (o, y)) : vs (stV v i j x) (i + j) (some (o, x + nI (cnR (fun q => (v q).isSome) i j))) = stV v i (j + 1) x := by
  funext q
  unfold vs stV
  by_cases h : q = i + j
  · rw [if_pos h, if_pos (by omega), h, hv, show i + j - i = j by omega]; rfl
  · rw [if_neg h]
    by_cases h2 : i ≤ q ∧ q < i + j
    · rw [if_pos h2, if_pos (by omega)]
    · rw [if_neg h2, if_neg (by omega)]
theorem stV_k {v : vT} {i j : Nat} {x : Int32} (hv : v (i + j) = none) : stV v i j x = stV v i (j + 1) x := by
  funext q
  unfold stV
  by_cases h : q = i + j
  · rw [if_neg (by omega), if_pos (by omega), h, hv]; rfl
  · by_cases h2 : i ≤ q ∧ q < i + j
    · rw [if_pos h2, if_pos (by omega)]
    · rw [if_neg h2, if_neg (by omega)]
theorem c_M_unmap (a : xA) (σ : xT) {n : Nat} {v : vT} (hI : MX σ n v) (s g k : Int32) : MI a (mP a) y_M_unmap b_M_unmap 6 (some .int) 1 [.ref (a.2.2.2 0), .int s, .int g, .int k] σ (MPo n (gSR s g k v (fun s g k => T_unmap v (32 * s + g) k))) := by
  refine MI.ofI (L0 := [some (.ref (a.2.2.2 0)), some (.int s), some (.int g), some (.int k), none, none]) (by decide) (by simp [Value.category]) (Nat.le_of_ble_eq_true rfl) rfl (fun _ => rfl) (fun Γ C E => ?_)
  refine x_aload0 C d_M_unmap_0 ?_
  refine x_iload1 C d_M_unmap_1 ?_
  refine m_cI1 C k_M_24 d_M_unmap_2 (c_M_badSpace a σ s) (fun r u hw => ?_)
  obtain ⟨e, rfl⟩ := hw
  rw [e]
  clear e u
  refine x_if_eq C d_M_unmap_5 (fun h1 => ?_) (fun h1 => ?_)
  rotate_left
  · refine x_iconst C d_M_unmap_8 kI_m1 ?_
    exact E d_M_unmap_9 (MPo_of (gSR_1 (nb_f h1)) hI)
  obtain ⟨s', hs', rfl⟩ := sp_t (nb_t h1)
  refine x_aload0 C d_M_unmap_10 ?_
  refine x_iload2 C d_M_unmap_11 ?_
  refine x_iload3 C d_M_unmap_12 ?_
  refine m_cI2 C k_M_28 d_M_unmap_13 (c_M_badRange a σ g k) (fun r u hw => ?_)
  obtain ⟨e, rfl⟩ := hw
  rw [e]
  clear e u
  refine x_if_eq C d_M_unmap_16 (fun h2 => ?_) (fun h2 => ?_)
  rotate_left
  · refine x_bipush C d_M_unmap_19 kB_m2 ?_
    exact E d_M_unmap_21 (MPo_of (gSR_2 hs' (nb_f h2)) hI)
  obtain ⟨g', k', hk1, hk2, rfl, rfl⟩ := rg_t (nb_t h2)
  rw [gSR_3 hs' hk1 hk2] at E
  have loop : ∀ m j u, j + m = k' → MX u n (unmV v (32 * s' + g') j) → xW Γ a (mP a) u 28 [some (.ref (a.2.2.2 0)), some (.int (nI s')), some (.int (nI g')), some (.int (nI k')), some (.int (nI (cnR (fun q => (v q).isSome) (32 * s' + g') j))), some (.int (nI (g' + j)))] [] := by
    intro m
    induction m with
    | zero =>
      intro j u hj hu
      have hj : j = k' := by omega
      subst hj
      refine x_iload5 C d_M_unmap_28 ?_
      refine x_iload2 C d_M_unmap_30 ?_
      refine x_iload3 C d_M_unmap_31 ?_
      refine x_iaddN C d_M_unmap_32 ?_
      refine x_icmp_geN C d_M_unmap_33 (by omega) (by omega) (fun h => ?_) (fun h => ?_)
      · refine x_iload4 C d_M_unmap_73 ?_
        exact E d_M_unmap_75 (MPo_of rfl hu)
      · exact absurd h (by omega)
    | succ m ih =>
      intro j u hj hu
      have ei : 32 * s' + (g' + j) = 32 * s' + g' + j := by omega
      have next : xW Γ a (mP a) u 54 [some (.ref (a.2.2.2 0)), some (.int (nI s')), some (.int (nI g')), some (.int (nI k')), some (.int (nI (cnR (fun q => (v q).isSome) (32 * s' + g') (j + 1)))), some (.int (nI (g' + j)))] [] := by
        refine x_aload0 C d_M_unmap_54 ?_
        refine m_g1 C d_M_unmap_55 ?_
        refine x_bipush C d_M_unmap_58 kB_32 ?_
        refine x_iload1 C d_M_unmap_60 ?_
        refine x_imulN C d_M_unmap_61 ?_
        refine x_iload5 C d_M_unmap_62 ?_
        refine x_iaddN C d_M_unmap_64 ?_
        refine x_iconst C d_M_unmap_65 kI_0 ?_
        refine m_st0 C d_M_unmap_66 (by omega) (zb_nar zb_0) ?_
        refine x_iincN5 C d_M_unmap_67 ?_
        refine x_goto C d_M_unmap_70 ?_
        refine ih (j + 1) _ (by omega) ?_
        rw [ei, ← unmV_s]
        exact hu.drop
      refine x_iload5 C d_M_unmap_28 ?_
      refine x_iload2 C d_M_unmap_30 ?_
      refine x_iload3 C d_M_unmap_31 ?_
      refine x_iaddN C d_M_unmap_32 ?_
      refine x_icmp_geN C d_M_unmap_33 (by omega) (by omega) (fun h => ?_) (fun h => ?_)
      · exact absurd h (by omega)
      · refine x_aload0 C d_M_unmap_36 ?_
        refine m_g1 C d_M_unmap_37 ?_
        refine x_bipush C d_M_unmap_40 kB_32 ?_
        refine x_iload1 C d_M_unmap_42 ?_
        refine x_imulN C d_M_unmap_43 ?_
        refine x_iload5 C d_M_unmap_44 ?_
        refine x_iaddN C d_M_unmap_46 ?_
        rw [ei]
        refine m_ld0 C d_M_unmap_47 (by omega) ?_
        refine x_if_eq C d_M_unmap_48 (fun h3 => ?_) (fun h3 => ?_)
        · have hv := (hu.no (by omega)).mp h3
          rw [unmV_at] at hv
          rw [cnR_f (P := fun q => (v q).isSome) (by rw [hv]; rfl)]
          exact next
        · refine x_iincN4 C d_M_unmap_51 ?_
          rw [cnR_t (P := fun q => (v q).isSome) (by
            cases hv : v (32 * s' + g' + j) with
            | none => exact absurd ((hu.no (by omega)).mpr (by rw [unmV_at, hv])) h3
            | some y => rfl)]
          exact next
  refine x_iconst C d_M_unmap_22 kI_0 ?_
  refine x_istore4 C d_M_unmap_23 ?_
  refine x_iload2 C d_M_unmap_25 ?_
  refine x_istore5 C d_M_unmap_26 ?_
  exact loop k' 0 σ (by omega) (by rw [unmV_0]; exact hI)
theorem c_M_map (a : xA) (σ : xT) {n : Nat} {v : vT} (hI : MX σ n v) (s g k : Int32) : MI a (mP a) y_M_map b_M_map 6 (some .int) 1 [.ref (a.2.2.2 0), .int s, .int g, .int k] σ (MPo n (gSR s g k v (fun s g k => T_map n v (32 * s + g) k))) := by
  refine MI.ofI (L0 := [some (.ref (a.2.2.2 0)), some (.int s), some (.int g), some (.int k), none, none]) (by decide) (by simp [Value.category]) (Nat.le_of_ble_eq_true rfl) rfl (fun _ => rfl) (fun Γ C E => ?_)
  refine x_aload0 C d_M_map_0 ?_
  refine x_iload1 C d_M_map_1 ?_
  refine m_cI1 C k_M_24 d_M_map_2 (c_M_badSpace a σ s) (fun r u hw => ?_)
  obtain ⟨e, rfl⟩ := hw
  rw [e]
  clear e u
  refine x_if_eq C d_M_map_5 (fun h1 => ?_) (fun h1 => ?_)
  rotate_left
  · refine x_iconst C d_M_map_8 kI_m1 ?_
    exact E d_M_map_9 (MPo_of (gSR_1 (nb_f h1)) hI)
  obtain ⟨s', hs', rfl⟩ := sp_t (nb_t h1)
  refine x_aload0 C d_M_map_10 ?_
  refine x_iload2 C d_M_map_11 ?_
  refine x_iload3 C d_M_map_12 ?_
  refine m_cI2 C k_M_28 d_M_map_13 (c_M_badRange a σ g k) (fun r u hw => ?_)
  obtain ⟨e, rfl⟩ := hw
  rw [e]
  clear e u
  refine x_if_eq C d_M_map_16 (fun h2 => ?_) (fun h2 => ?_)
  rotate_left
  · refine x_bipush C d_M_map_19 kB_m2 ?_
    exact E d_M_map_21 (MPo_of (gSR_2 hs' (nb_f h2)) hI)
  obtain ⟨g', k', hk1, hk2, rfl, rfl⟩ := rg_t (nb_t h2)
  rw [gSR_3 hs' hk1 hk2] at E
  have h48 := hI.1.2
  have h64 := cnV_64 v
  have hcr := cnR_le (fun q => (v q).isNone) (32 * s' + g') k'
  have loop2 : ∀ m j u, j + m = k' → cnV v + cnR (fun q => (v q).isNone) (32 * s' + g') k' ≤ n → MX u n (mapV v (32 * s' + g') j) → xW Γ a (mP a) u 80 [some (.ref (a.2.2.2 0)), some (.int (nI s')), some (.int (nI g')), some (.int (nI k')), some (.int (nI (cnR (fun q => (v q).isNone) (32 * s' + g') k'))), some (.int (nI (g' + j)))] [] := by
    intro m
    induction m with
    | zero =>
      intro j u hj hle hu
      have hj : j = k' := by omega
      subst hj
      refine x_iload5 C d_M_map_80 ?_
      refine x_iload2 C d_M_map_82 ?_
      refine x_iload3 C d_M_map_83 ?_
      refine x_iaddN C d_M_map_84 ?_
      refine x_icmp_geN C d_M_map_85 (by omega) (by omega) (fun h => ?_) (fun h => ?_)
      · refine x_iload4 C d_M_map_121 ?_
        exact E d_M_map_123 (MPo_of (by rw [T_map, if_neg (by omega)]) hu)
      · exact absurd h (by omega)
    | succ m ih =>
      intro j u hj hle hu
      have ei : 32 * s' + (g' + j) = 32 * s' + g' + j := by omega
      refine x_iload5 C d_M_map_80 ?_
      refine x_iload2 C d_M_map_82 ?_
      refine x_iload3 C d_M_map_83 ?_
      refine x_iaddN C d_M_map_84 ?_
      refine x_icmp_geN C d_M_map_85 (by omega) (by omega) (fun h => ?_) (fun h => ?_)
      · exact absurd h (by omega)
      · refine x_aload0 C d_M_map_88 ?_
        refine m_g1 C d_M_map_89 ?_
        refine x_bipush C d_M_map_92 kB_32 ?_
        refine x_iload1 C d_M_map_94 ?_
        refine x_imulN C d_M_map_95 ?_
        refine x_iload5 C d_M_map_96 ?_
        refine x_iaddN C d_M_map_98 ?_
        rw [ei]
        refine m_ld0 C d_M_map_99 (by omega) ?_
        refine x_if_ne C d_M_map_100 (fun h3 => ?_) (fun h3 => ?_)
        · refine x_iincN5 C d_M_map_115 ?_
          refine x_goto C d_M_map_118 ?_
          refine ih (j + 1) _ (by omega) hle ?_
          rw [← mapV_y (by
            cases hv : v (32 * s' + g' + j) with
            | none => exact absurd ((hu.no (by omega)).mpr (by rw [mapV_at, hv])) h3
            | some y => rfl)]
          exact hu
        · have hv := (hu.no (by omega)).mp h3
          rw [mapV_at] at hv
          refine x_aload0 C d_M_map_103 ?_
          refine x_bipush C d_M_map_104 kB_32 ?_
          refine x_iload1 C d_M_map_106 ?_
          refine x_imulN C d_M_map_107 ?_
          refine x_iload5 C d_M_map_108 ?_
          refine x_iaddN C d_M_map_110 ?_
          rw [ei]
          refine x_iconst C d_M_map_111 kI_0 ?_
          refine m_cV2 C k_M_36 d_M_map_112 (c_M_make a u _ hu (by omega)) (fun u2 hw => ?_)
          refine x_iincN5 C d_M_map_115 ?_
          refine x_goto C d_M_map_118 ?_
          refine ih (j + 1) _ (by omega) hle ?_
          rw [← mapV_n hv]
          exact hw
  have loop1 : ∀ m j, j + m = k' → xW Γ a (mP a) σ 28 [some (.ref (a.2.2.2 0)), some (.int (nI s')), some (.int (nI g')), some (.int (nI k')), some (.int (nI (cnR (fun q => (v q).isNone) (32 * s' + g') j))), some (.int (nI (g' + j)))] [] := by
    intro m
    induction m with
    | zero =>
      intro j hj
      have hj : j = k' := by omega
      subst hj
      refine x_iload5 C d_M_map_28 ?_
      refine x_iload2 C d_M_map_30 ?_
      refine x_iload3 C d_M_map_31 ?_
      refine x_iaddN C d_M_map_32 ?_
      refine x_icmp_geN C d_M_map_33 (by omega) (by omega) (fun h => ?_) (fun h => ?_)
      · refine x_aload0 C d_M_map_60 ?_
        refine m_cI0 C k_M_32 d_M_map_61 (c_M_used a σ hI) (fun r u hw => ?_)
        obtain ⟨e, rfl⟩ := hw
        rw [e]
        clear e u
        refine x_iload4 C d_M_map_64 ?_
        refine x_iaddN C d_M_map_66 ?_
        refine x_aload0 C d_M_map_67 ?_
        refine m_g0 C d_M_map_68 ?_
        rw [hI.1.1]
        refine x_icmp_leN C d_M_map_71 (by omega) (by omega) (fun h4 => ?_) (fun h4 => ?_)
        · refine x_iload2 C d_M_map_77 ?_
          refine x_istore5 C d_M_map_78 ?_
          exact loop2 j 0 σ (by omega) h4 (by rw [mapV_0]; exact hI)
        · refine x_bipush C d_M_map_74 kB_m3 ?_
          exact E d_M_map_76 (MPo_of (by rw [T_map, if_pos h4]) hI)
      · exact absurd h (by omega)
    | succ m ih =>
      intro j hj
      have ei : 32 * s' + (g' + j) = 32 * s' + g' + j := by omega
      refine x_iload5 C d_M_map_28 ?_
      refine x_iload2 C d_M_map_30 ?_
      refine x_iload3 C d_M_map_31 ?_
      refine x_iaddN C d_M_map_32 ?_
      refine x_icmp_geN C d_M_map_33 (by omega) (by omega) (fun h => ?_) (fun h => ?_)
      · exact absurd h (by omega)
      · refine x_aload0 C d_M_map_36 ?_
        refine m_g1 C d_M_map_37 ?_
        refine x_bipush C d_M_map_40 kB_32 ?_
        refine x_iload1 C d_M_map_42 ?_
        refine x_imulN C d_M_map_43 ?_
        refine x_iload5 C d_M_map_44 ?_
        refine x_iaddN C d_M_map_46 ?_
        rw [ei]
        refine m_ld0 C d_M_map_47 (by omega) ?_
        refine x_if_ne C d_M_map_48 (fun h3 => ?_) (fun h3 => ?_)
        · refine x_iincN5 C d_M_map_54 ?_
          refine x_goto C d_M_map_57 ?_
          rw [cnR_f (P := fun q => (v q).isNone) (by
            cases hv : v (32 * s' + g' + j) with
            | none => exact absurd ((hI.no (by omega)).mpr hv) h3
            | some y => rfl)]
          exact ih (j + 1) (by omega)
        · refine x_iincN4 C d_M_map_51 ?_
          refine x_iincN5 C d_M_map_54 ?_
          refine x_goto C d_M_map_57 ?_
          rw [cnR_t (P := fun q => (v q).isNone) (by rw [(hI.no (by omega)).mp h3]; rfl)]
          exact ih (j + 1) (by omega)
  refine x_iconst C d_M_map_22 kI_0 ?_
  refine x_istore4 C d_M_map_23 ?_
  refine x_iload2 C d_M_map_25 ?_
  refine x_istore5 C d_M_map_26 ?_
  exact loop1 k' 0 (by omega)
def wF (f : Int32) : Int32 := if f = 0 then nI 0 else nI 1
theorem zb_wF (f : Int32) : zb (wF f) := by
  unfold wF
  split
  · exact zb_0
  · exact zb_1
theorem c_M_protect (a : xA) (σ : xT) {n : Nat} {v : vT} (hI : MX σ n v) (s g k f : Int32) : MI a (mP a) y_M_protect b_M_protect 9 (some .int) 1 [.ref (a.2.2.2 0), .int s, .int g, .int k, .int f] σ (MPo n (gSR s g k v (fun s g k => T_prot v (32 * s + g) k (wF f)))) := by
  refine MI.ofI (L0 := [some (.ref (a.2.2.2 0)), some (.int s), some (.int g), some (.int k), some (.int f), none, none, none, none]) (by decide) (by simp [Value.category]) (Nat.le_of_ble_eq_true rfl) rfl (fun _ => rfl) (fun Γ C E => ?_)
  refine x_aload0 C d_M_protect_0 ?_
  refine x_iload1 C d_M_protect_1 ?_
  refine m_cI1 C k_M_24 d_M_protect_2 (c_M_badSpace a σ s) (fun r u hw => ?_)
  obtain ⟨e, rfl⟩ := hw
  rw [e]
  clear e u
  refine x_if_eq C d_M_protect_5 (fun h1 => ?_) (fun h1 => ?_)
  rotate_left
  · refine x_iconst C d_M_protect_8 kI_m1 ?_
    exact E d_M_protect_9 (MPo_of (gSR_1 (nb_f h1)) hI)
  obtain ⟨s', hs', rfl⟩ := sp_t (nb_t h1)
  refine x_aload0 C d_M_protect_10 ?_
  refine x_iload2 C d_M_protect_11 ?_
  refine x_iload3 C d_M_protect_12 ?_
  refine m_cI2 C k_M_28 d_M_protect_13 (c_M_badRange a σ g k) (fun r u hw => ?_)
  obtain ⟨e, rfl⟩ := hw
  rw [e]
  clear e u
  refine x_if_eq C d_M_protect_16 (fun h2 => ?_) (fun h2 => ?_)
  rotate_left
  · refine x_bipush C d_M_protect_19 kB_m2 ?_
    exact E d_M_protect_21 (MPo_of (gSR_2 hs' (nb_f h2)) hI)
  obtain ⟨g', k', hk1, hk2, rfl, rfl⟩ := rg_t (nb_t h2)
  rw [gSR_3 hs' hk1 hk2] at E
  have loop : ∀ m j u w8, j + m = k' → MX u n (prV v (32 * s' + g') j (wF f)) → xW Γ a (mP a) u 40 [some (.ref (a.2.2.2 0)), some (.int (nI s')), some (.int (nI g')), some (.int (nI k')), some (.int f), some (.int (wF f)), some (.int (nI (cnR (chB v (wF f)) (32 * s' + g') j))), some (.int (nI (g' + j))), w8] [] := by
    intro m
    induction m with
    | zero =>
      intro j u w8 hj hu
      have hj : j = k' := by omega
      subst hj
      refine x_iload7 C d_M_protect_40 ?_
      refine x_iload2 C d_M_protect_42 ?_
      refine x_iload3 C d_M_protect_43 ?_
      refine x_iaddN C d_M_protect_44 ?_
      refine x_icmp_geN C d_M_protect_45 (by omega) (by omega) (fun h => ?_) (fun h => ?_)
      · refine x_iload6 C d_M_protect_97 ?_
        exact E d_M_protect_99 (MPo_of rfl hu)
      · exact absurd h (by omega)
    | succ m ih =>
      intro j u w8 hj hu
      have ei : 32 * s' + (g' + j) = 32 * s' + g' + j := by omega
      have keep : chB v (wF f) (32 * s' + g' + j) = false → ∀ w8, xW Γ a (mP a) u 91 [some (.ref (a.2.2.2 0)), some (.int (nI s')), some (.int (nI g')), some (.int (nI k')), some (.int f), some (.int (wF f)), some (.int (nI (cnR (chB v (wF f)) (32 * s' + g') j))), some (.int (nI (g' + j))), w8] [] := by
        intro hc w8
        refine x_iincN7 C d_M_protect_91 ?_
        refine x_goto C d_M_protect_94 ?_
        rw [cnR_f hc]
        refine ih (j + 1) _ _ (by omega) ?_
        rw [← prV_k hc]
        exact hu
      refine x_iload7 C d_M_protect_40 ?_
      refine x_iload2 C d_M_protect_42 ?_
      refine x_iload3 C d_M_protect_43 ?_
      refine x_iaddN C d_M_protect_44 ?_
      refine x_icmp_geN C d_M_protect_45 (by omega) (by omega) (fun h => ?_) (fun h => ?_)
      · exact absurd h (by omega)
      · refine x_bipush C d_M_protect_48 kB_32 ?_
        refine x_iload1 C d_M_protect_50 ?_
        refine x_imulN C d_M_protect_51 ?_
        refine x_iload7 C d_M_protect_52 ?_
        refine x_iaddN C d_M_protect_54 ?_
        rw [ei]
        refine x_istore8 C d_M_protect_55 ?_
        refine x_aload0 C d_M_protect_57 ?_
        refine m_g1 C d_M_protect_58 ?_
        refine x_iload8 C d_M_protect_61 ?_
        refine m_ld0 C d_M_protect_63 (by omega) ?_
        refine x_if_eq C d_M_protect_64 (fun h3 => ?_) (fun h3 => ?_)
        · have hv := (hu.no (by omega)).mp h3
          rw [prV_at] at hv
          exact keep (by rw [chB, hv]) _
        · cases hv : v (32 * s' + g' + j) with
          | none => exact absurd ((hu.no (by omega)).mpr (by rw [prV_at, hv])) h3
          | some y =>
            obtain ⟨o, x⟩ := y
            have hv' : prV v (32 * s' + g') j (wF f) (32 * s' + g' + j) = some (o, x) := by rw [prV_at, hv]
            obtain ⟨a1, a2, a3⟩ := hu.at (by omega) hv'
            refine x_aload0 C d_M_protect_67 ?_
            refine m_g2 C d_M_protect_68 ?_
            refine x_iload8 C d_M_protect_71 ?_
            refine m_ld1 C d_M_protect_73 (by omega) ?_
            rw [a2]
            refine x_iload5 C d_M_protect_74 ?_
            refine x_icmp_eq C d_M_protect_76 (fun h4 => ?_) (fun h4 => ?_)
            · exact keep (by rw [chB, hv]; simp [h4]) _
            · refine x_aload0 C d_M_protect_79 ?_
              refine m_g2 C d_M_protect_80 ?_
              refine x_iload8 C d_M_protect_83 ?_
              refine x_iload5 C d_M_protect_85 ?_
              refine m_st1 C d_M_protect_87 (by omega) (zb_nar (zb_wF f)) ?_
              refine x_iincN6 C d_M_protect_88 ?_
              refine x_iincN7 C d_M_protect_91 ?_
              refine x_goto C d_M_protect_94 ?_
              rw [cnR_t (P := chB v (wF f)) (by rw [chB, hv]; simp [h4])]
              refine ih (j + 1) _ _ (by omega) ?_
              rw [← prV_s hv]
              exact hu.setW (by omega) hv' (zb_wF f)
  have start : xW Γ a (mP a) σ 32 [some (.ref (a.2.2.2 0)), some (.int (nI s')), some (.int (nI g')), some (.int (nI k')), some (.int f), none, none, none, none] [.int (wF f)] := by
    refine x_istore5 C d_M_protect_32 ?_
    refine x_iconst C d_M_protect_34 kI_0 ?_
    refine x_istore6 C d_M_protect_35 ?_
    refine x_iload2 C d_M_protect_37 ?_
    refine x_istore7 C d_M_protect_38 ?_
    exact loop k' 0 σ _ (by omega) (by rw [prV_0]; exact hI)
  refine x_iload4 C d_M_protect_22 ?_
  refine x_if_eq C d_M_protect_24 (fun h3 => ?_) (fun h3 => ?_)
  · refine x_iconst C d_M_protect_31 kI_0 ?_
    rw [wF, if_pos h3] at start
    exact start
  · refine x_iconst C d_M_protect_27 kI_1 ?_
    refine x_goto C d_M_protect_28 ?_
    rw [wF, if_neg h3] at start
    exact start
def gST (s r : Int32) (v : vT) (f : Nat → Nat → Nat → Int32 × vT) : Int32 × vT := if spB s = true then (if ¬ r < 0 ∧ rgB (nI (r.toNatClampNeg / 64)) (nI (r.toNatClampNeg % 64)) = true then f s.toNatClampNeg (r.toNatClampNeg / 64) (r.toNatClampNeg % 64) else (-2, v)) else (-1, v)
section gS
variable {s r : Int32} {v : vT} {f3 : Nat → Nat → Nat → Int32 × vT}
theorem gST_1 (h : spB s = false) : gST s r v f3 = (-1, v) := by rw [gST, h]; rfl
theorem gST_2 {k : Nat} (hk : k < 2) (h : r < 0) : gST (nI k) r v f3 = (-2, v) := by rw [gST, if_pos (spB_n hk), if_neg (fun q => q.1 h)]
theorem gST_3 {k ρ : Nat} (hk : k < 2) (hρ : ρ < 2 ^ 31) (h : rgB (nI (ρ / 64)) (nI (ρ % 64)) = false) : gST (nI k) (nI ρ) v f3 = (-2, v) := by rw [gST, if_pos (spB_n hk), nI_clamp hρ, if_neg (fun q => by rw [h] at q; cases q.2)]
theorem gST_4 {k ρ : Nat} (hk : k < 2) (hρ : ρ < 2 ^ 31) (h : rgB (nI (ρ / 64)) (nI (ρ % 64)) = true) : gST (nI k) (nI ρ) v f3 = f3 k (ρ / 64) (ρ % 64) := by rw [gST, if_pos (spB_n hk), nI_clamp hρ, if_pos ⟨nI_pos hρ, h⟩, nI_clamp (by omega)]
end gS
theorem rg_d {ρ : Nat} (hρ : ρ < 2 ^ 31) (h : rgB (nI (ρ / 64)) (nI (ρ % 64)) = true) : 1 ≤ ρ % 64 ∧ ρ / 64 + ρ % 64 ≤ 32 := by
  obtain ⟨i, k, h1, h2, h3, h4⟩ := rg_t h
  have e1 := nIe (by omega) (by omega) h3
  have e2 := nIe (by omega) (by omega) h4
  omega
theorem c_M_stamp (a : xA) (σ : xT) {n : Nat} {v : vT} (hI : MX σ n v) (s r x : Int32) : MI a (mP a) y_M_stamp b_M_stamp 9 (some .int) 1 [.ref (a.2.2.2 0), .int s, .int r, .int x] σ (MPo n (gST s r v (fun s g k => T_stamp v (32 * s + g) k x))) := by
  refine MI.ofI (L0 := [some (.ref (a.2.2.2 0)), some (.int s), some (.int r), some (.int x), none, none, none, none, none]) (by decide) (by simp [Value.category]) (Nat.le_of_ble_eq_true rfl) rfl (fun _ => rfl) (fun Γ C E => ?_)
  refine x_aload0 C d_M_stamp_0 ?_
  refine x_iload1 C d_M_stamp_1 ?_
  refine m_cI1 C k_M_24 d_M_stamp_2 (c_M_badSpace a σ s) (fun r u hw => ?_)
  obtain ⟨e, rfl⟩ := hw
  rw [e]
  clear e u
  refine x_if_eq C d_M_stamp_5 (fun h1 => ?_) (fun h1 => ?_)
  rotate_left
  · refine x_iconst C d_M_stamp_8 kI_m1 ?_
    exact E d_M_stamp_9 (MPo_of (gST_1 (nb_f h1)) hI)
  obtain ⟨s', hs', rfl⟩ := sp_t (nb_t h1)
  refine x_iload2 C d_M_stamp_10 ?_
  refine x_if_ge C d_M_stamp_11 (fun h2 => ?_) (fun h2 => ?_)
  rotate_left
  · refine x_bipush C d_M_stamp_14 kB_m2 ?_
    exact E d_M_stamp_16 (MPo_of (gST_2 hs' (Classical.byContradiction fun q => h2 (by
      obtain ⟨j, j1, j2⟩ := nI_of q
      rw [j2]; exact nI_pos' j1))) hI)
  have h2' : ¬ r < 0 := fun q => lt_le.mp q h2
  obtain ⟨ρ, hρ, rfl⟩ := nI_of h2'
  have n64 : ¬ nI 64 = 0 := by decide +kernel
  refine x_iload2 C d_M_stamp_17 ?_
  refine x_bipush C d_M_stamp_18 kB_64 ?_
  refine x_idiv C d_M_stamp_20 n64 (pk_div hρ (by decide) (by decide)) ?_
  refine x_istore4 C d_M_stamp_21 ?_
  refine x_iload2 C d_M_stamp_23 ?_
  refine x_bipush C d_M_stamp_24 kB_64 ?_
  refine x_irem C d_M_stamp_26 n64 (pk_rem hρ (by decide) (by decide)) ?_
  refine x_istore5 C d_M_stamp_27 ?_
  refine x_aload0 C d_M_stamp_29 ?_
  refine x_iload4 C d_M_stamp_30 ?_
  refine x_iload5 C d_M_stamp_32 ?_
  refine m_cI2 C k_M_28 d_M_stamp_34 (c_M_badRange a σ _ _) (fun r u hw => ?_)
  obtain ⟨e, rfl⟩ := hw
  rw [e]
  clear e u
  refine x_if_eq C d_M_stamp_37 (fun h3 => ?_) (fun h3 => ?_)
  rotate_left
  · refine x_bipush C d_M_stamp_40 kB_m2 ?_
    exact E d_M_stamp_42 (MPo_of (gST_3 hs' hρ (nb_f h3)) hI)
  rw [gST_4 hs' hρ (nb_t h3)] at E
  obtain ⟨hk1, hk2⟩ := rg_d hρ (nb_t h3)
  generalize ρ / 64 = g' at E hk2 ⊢
  generalize ρ % 64 = k' at E hk1 hk2 ⊢
  have loop : ∀ m j u w8, j + m = k' → MX u n (stV v (32 * s' + g') j x) → xW Γ a (mP a) u 50 [some (.ref (a.2.2.2 0)), some (.int (nI s')), some (.int (nI ρ)), some (.int x), some (.int (nI g')), some (.int (nI k')), some (.int (nI (cnR (fun q => (v q).isSome) (32 * s' + g') j))), some (.int (nI (g' + j))), w8] [] := by
    intro m
    induction m with
    | zero =>
      intro j u w8 hj hu
      have hj : j = k' := by omega
      subst hj
      refine x_iload7 C d_M_stamp_50 ?_
      refine x_iload4 C d_M_stamp_52 ?_
      refine x_iload5 C d_M_stamp_54 ?_
      refine x_iaddN C d_M_stamp_56 ?_
      refine x_icmp_geN C d_M_stamp_57 (by omega) (by omega) (fun h => ?_) (fun h => ?_)
      · refine x_iload6 C d_M_stamp_99 ?_
        exact E d_M_stamp_101 (MPo_of rfl hu)
      · exact absurd h (by omega)
    | succ m ih =>
      intro j u w8 hj hu
      have ei : 32 * s' + (g' + j) = 32 * s' + g' + j := by omega
      refine x_iload7 C d_M_stamp_50 ?_
      refine x_iload4 C d_M_stamp_52 ?_
      refine x_iload5 C d_M_stamp_54 ?_
      refine x_iaddN C d_M_stamp_56 ?_
      refine x_icmp_geN C d_M_stamp_57 (by omega) (by omega) (fun h => ?_) (fun h => ?_)
      · exact absurd h (by omega)
      · refine x_bipush C d_M_stamp_60 kB_32 ?_
        refine x_iload1 C d_M_stamp_62 ?_
        refine x_imulN C d_M_stamp_63 ?_
        refine x_iload7 C d_M_stamp_64 ?_
        refine x_iaddN C d_M_stamp_66 ?_
        rw [ei]
        refine x_istore8 C d_M_stamp_67 ?_
        refine x_aload0 C d_M_stamp_69 ?_
        refine m_g1 C d_M_stamp_70 ?_
        refine x_iload8 C d_M_stamp_73 ?_
        refine m_ld0 C d_M_stamp_75 (by omega) ?_
        refine x_if_eq C d_M_stamp_76 (fun h3 => ?_) (fun h3 => ?_)
        · have hv := (hu.no (by omega)).mp h3
          rw [stV_at] at hv
          refine x_iincN7 C d_M_stamp_93 ?_
          refine x_goto C d_M_stamp_96 ?_
          rw [cnR_f (P := fun q => (v q).isSome) (by rw [hv]; rfl)]
          refine ih (j + 1) _ _ (by omega) ?_
          rw [← stV_k hv]
          exact hu
        · cases hv : v (32 * s' + g' + j) with
          | none => exact absurd ((hu.no (by omega)).mpr (by rw [stV_at, hv])) h3
          | some y =>
            obtain ⟨o, z⟩ := y
            have hv' : stV v (32 * s' + g') j x (32 * s' + g' + j) = some (o, z) := by rw [stV_at, hv]
            refine x_aload0 C d_M_stamp_79 ?_
            refine m_g3 C d_M_stamp_80 ?_
            refine x_iload8 C d_M_stamp_83 ?_
            refine x_iload3 C d_M_stamp_85 ?_
            refine x_iload6 C d_M_stamp_86 ?_
            refine x_iadd C d_M_stamp_88 rfl ?_
            refine m_st2 C d_M_stamp_89 (by omega) ?_
            refine x_iincN6 C d_M_stamp_90 ?_
            refine x_iincN7 C d_M_stamp_93 ?_
            refine x_goto C d_M_stamp_96 ?_
            rw [cnR_t (P := fun q => (v q).isSome) (by rw [hv]; rfl)]
            refine ih (j + 1) _ _ (by omega) ?_
            rw [← stV_s hv]
            exact hu.setC (by omega) hv'
  refine x_iconst C d_M_stamp_43 kI_0 ?_
  refine x_istore6 C d_M_stamp_44 ?_
  refine x_iload4 C d_M_stamp_46 ?_
  refine x_istore7 C d_M_stamp_48 ?_
  exact loop k' 0 σ _ (by omega) (by rw [stV_0]; exact hI)
end
section
/-! PageRangeStore: the public methods, by the view -/
theorem c_X_frames (a : xA) (σ : xT) {n : Nat} {v : vT} (hI : XI σ n v) : MI a (xP a) y_X_frames b_X_frames 1 (some .int) 0 [.ref (a.2.2.2 0)] σ (XPo n ((nI n, v))) := by
  refine MI.ofI (L0 := [some (.ref (a.2.2.2 0))]) (by decide) (by simp [Value.category]) (Nat.le_of_ble_eq_true rfl) rfl (fun _ => rfl) (fun Γ C E => ?_)
  refine x_aload0 C d_X_frames_0 ?_
  refine x_g9 C d_X_frames_1 ?_
  exact E d_X_frames_4 ⟨hI.fc, hI⟩
theorem c_X_used (a : xA) (σ : xT) {n : Nat} {v : vT} (hI : XI σ n v) : MI a (xP a) y_X_used b_X_used 1 (some .int) 0 [.ref (a.2.2.2 0)] σ (XPo n ((nI (cnV v), v))) := by
  refine MI.ofI (L0 := [some (.ref (a.2.2.2 0))]) (by decide) (by simp [Value.category]) (Nat.le_of_ble_eq_true rfl) rfl (fun _ => rfl) (fun Γ C E => ?_)
  refine x_aload0 C d_X_used_0 ?_
  refine x_g10 C d_X_used_1 ?_
  exact E d_X_used_4 ⟨hI.used, hI⟩
theorem c_X_mapped (a : xA) (σ : xT) {n : Nat} {v : vT} (hI : XI σ n v) (s g : Int32) : MI a (xP a) y_X_mapped b_X_mapped 3 (some .int) 1 [.ref (a.2.2.2 0), .int s, .int g] σ (XPo n (gSP (-1) (-2) s g v (fun s g => T_mapped v (32 * s + g)))) := by
  refine MI.ofI (L0 := [some (.ref (a.2.2.2 0)), some (.int s), some (.int g)]) (by decide) (by simp [Value.category]) (Nat.le_of_ble_eq_true rfl) rfl (fun _ => rfl) (fun Γ C E => ?_)
  refine x_iload1 C d_X_mapped_0 ?_
  refine x_sI1 C k_X_45 d_X_mapped_1 (c_X_isSpace a (fun _ _ => rfl) σ s) (fun r u hw => ?_)
  obtain ⟨e, rfl⟩ := hw
  rw [e]
  clear e u
  refine x_if_ne C d_X_mapped_4 (fun h1 => ?_) (fun h1 => ?_)
  rotate_left
  · refine x_iconst C d_X_mapped_7 kI_m1 ?_
    exact E d_X_mapped_8 (XPo_of (gSP_1 (bI_0.mp h1)) hI)
  obtain ⟨s', hs', rfl⟩ := sp_t (bI_ne h1)
  refine x_iload2 C d_X_mapped_9 ?_
  refine x_sI1 C k_X_75 d_X_mapped_10 (c_X_isPage a (fun _ _ => rfl) σ g) (fun r u hw => ?_)
  obtain ⟨e, rfl⟩ := hw
  rw [e]
  clear e u
  refine x_if_ne C d_X_mapped_13 (fun h2 => ?_) (fun h2 => ?_)
  rotate_left
  · refine x_bipush C d_X_mapped_16 kB_m2 ?_
    exact E d_X_mapped_18 (XPo_of (gSP_2 hs' (bI_0.mp h2)) hI)
  obtain ⟨g', hg', rfl⟩ := pg_t (bI_ne h2)
  rw [gSP_3 hs' hg'] at E
  refine x_aload0 C d_X_mapped_19 ?_
  refine x_bipush C d_X_mapped_20 kB_32 ?_
  refine x_iload1 C d_X_mapped_22 ?_
  refine x_imulN C d_X_mapped_23 ?_
  refine x_iload2 C d_X_mapped_24 ?_
  refine x_iaddN C d_X_mapped_25 ?_
  refine x_cI1 C k_X_57 d_X_mapped_26 (cv_has a hI (by omega)) (fun r u hw => ?_)
  obtain ⟨e, rfl⟩ := hw
  rw [e]
  clear e u
  refine x_if_eq C d_X_mapped_29 (fun h3 => ?_) (fun h3 => ?_)
  · refine x_iconst C d_X_mapped_36 kI_0 ?_
    exact E d_X_mapped_37 (XPo_of (by rw [T_mapped, bI_0.mp h3]; rfl) hI)
  · refine x_iconst C d_X_mapped_32 kI_1 ?_
    refine x_goto C d_X_mapped_33 ?_
    exact E d_X_mapped_37 (XPo_of (by rw [T_mapped, bI_ne h3]; rfl) hI)
theorem no_of {y : Option (Int32 × Int32)} (h : bI y.isSome = 0) : y = none := by
  cases y
  · rfl
  · exact absurd (bI_0.mp h) (by simp)
theorem so_of {y : Option (Int32 × Int32)} (h : ¬ bI y.isSome = 0) : ∃ o x, y = some (o, x) := by
  cases y with
  | none => exact absurd (bI_ne h) (by simp)
  | some z => exact ⟨z.1, z.2, rfl⟩
theorem c_X_writable (a : xA) (σ : xT) {n : Nat} {v : vT} (hI : XI σ n v) (s g : Int32) : MI a (xP a) y_X_writable b_X_writable 4 (some .int) 1 [.ref (a.2.2.2 0), .int s, .int g] σ (XPo n (gSP (-1) (-2) s g v (fun s g => T_writable v (32 * s + g)))) := by
  refine MI.ofI (L0 := [some (.ref (a.2.2.2 0)), some (.int s), some (.int g), none]) (by decide) (by simp [Value.category]) (Nat.le_of_ble_eq_true rfl) rfl (fun _ => rfl) (fun Γ C E => ?_)
  refine x_iload1 C d_X_writable_0 ?_
  refine x_sI1 C k_X_45 d_X_writable_1 (c_X_isSpace a (fun _ _ => rfl) σ s) (fun r u hw => ?_)
  obtain ⟨e, rfl⟩ := hw
  rw [e]
  clear e u
  refine x_if_ne C d_X_writable_4 (fun h1 => ?_) (fun h1 => ?_)
  rotate_left
  · refine x_iconst C d_X_writable_7 kI_m1 ?_
    exact E d_X_writable_8 (XPo_of (gSP_1 (bI_0.mp h1)) hI)
  obtain ⟨s', hs', rfl⟩ := sp_t (bI_ne h1)
  refine x_iload2 C d_X_writable_9 ?_
  refine x_sI1 C k_X_75 d_X_writable_10 (c_X_isPage a (fun _ _ => rfl) σ g) (fun r u hw => ?_)
  obtain ⟨e, rfl⟩ := hw
  rw [e]
  clear e u
  refine x_if_ne C d_X_writable_13 (fun h2 => ?_) (fun h2 => ?_)
  rotate_left
  · refine x_bipush C d_X_writable_16 kB_m2 ?_
    exact E d_X_writable_18 (XPo_of (gSP_2 hs' (bI_0.mp h2)) hI)
  obtain ⟨g', hg', rfl⟩ := pg_t (bI_ne h2)
  rw [gSP_3 hs' hg'] at E
  refine x_bipush C d_X_writable_19 kB_32 ?_
  refine x_iload1 C d_X_writable_21 ?_
  refine x_imulN C d_X_writable_22 ?_
  refine x_iload2 C d_X_writable_23 ?_
  refine x_iaddN C d_X_writable_24 ?_
  refine x_istore3 C d_X_writable_25 ?_
  refine x_aload0 C d_X_writable_26 ?_
  refine x_iload3 C d_X_writable_27 ?_
  refine x_cI1 C k_X_57 d_X_writable_28 (cv_has a hI (by omega)) (fun r u hw => ?_)
  obtain ⟨e, rfl⟩ := hw
  rw [e]
  clear e u
  refine x_if_eq C d_X_writable_31 (fun h3 => ?_) (fun h3 => ?_)
  · refine x_iconst C d_X_writable_46 kI_0 ?_
    exact E d_X_writable_47 (XPo_of (by rw [T_writable, no_of h3]) hI)
  · obtain ⟨o, x, hv⟩ := so_of h3
    refine x_aload0 C d_X_writable_34 ?_
    refine x_iload3 C d_X_writable_35 ?_
    refine x_cI1 C k_X_68 d_X_writable_36 (cv_mayWrite a hI (by omega) hv) (fun r u hw => ?_)
    obtain ⟨e, rfl⟩ := hw
    rw [e]
    clear e u
    refine x_if_eq C d_X_writable_39 (fun h4 => ?_) (fun h4 => ?_)
    · refine x_iconst C d_X_writable_46 kI_0 ?_
      exact E d_X_writable_47 (XPo_of (by rw [T_writable, hv]; simp [h4]) hI)
    · refine x_iconst C d_X_writable_42 kI_1 ?_
      refine x_goto C d_X_writable_43 ?_
      exact E d_X_writable_47 (XPo_of (by rw [T_writable, hv]; simp [h4]) hI)
theorem c_X_read (a : xA) (σ : xT) {n : Nat} {v : vT} (hI : XI σ n v) (s g : Int32) : MI a (xP a) y_X_read b_X_read 4 (some .int) 2 [.ref (a.2.2.2 0), .int s, .int g] σ (XPo n (gSP (nI 0) (nI 0) s g v (fun s g => T_read v (32 * s + g)))) := by
  refine MI.ofI (L0 := [some (.ref (a.2.2.2 0)), some (.int s), some (.int g), none]) (by decide) (by simp [Value.category]) (Nat.le_of_ble_eq_true rfl) rfl (fun _ => rfl) (fun Γ C E => ?_)
  refine x_iload1 C d_X_read_0 ?_
  refine x_sI1 C k_X_45 d_X_read_1 (c_X_isSpace a (fun _ _ => rfl) σ s) (fun r u hw => ?_)
  obtain ⟨e, rfl⟩ := hw
  rw [e]
  clear e u
  refine x_if_eq C d_X_read_4 (fun h1 => ?_) (fun h1 => ?_)
  · refine x_iconst C d_X_read_14 kI_0 ?_
    exact E d_X_read_15 (XPo_of (gSP_1 (bI_0.mp h1)) hI)
  obtain ⟨s', hs', rfl⟩ := sp_t (bI_ne h1)
  refine x_iload2 C d_X_read_7 ?_
  refine x_sI1 C k_X_75 d_X_read_8 (c_X_isPage a (fun _ _ => rfl) σ g) (fun r u hw => ?_)
  obtain ⟨e, rfl⟩ := hw
  rw [e]
  clear e u
  refine x_if_ne C d_X_read_11 (fun h2 => ?_) (fun h2 => ?_)
  rotate_left
  · refine x_iconst C d_X_read_14 kI_0 ?_
    exact E d_X_read_15 (XPo_of (gSP_2 hs' (bI_0.mp h2)) hI)
  obtain ⟨g', hg', rfl⟩ := pg_t (bI_ne h2)
  rw [gSP_3 hs' hg'] at E
  refine x_bipush C d_X_read_16 kB_32 ?_
  refine x_iload1 C d_X_read_18 ?_
  refine x_imulN C d_X_read_19 ?_
  refine x_iload2 C d_X_read_20 ?_
  refine x_iaddN C d_X_read_21 ?_
  refine x_istore3 C d_X_read_22 ?_
  refine x_aload0 C d_X_read_23 ?_
  refine x_iload3 C d_X_read_24 ?_
  refine x_cI1 C k_X_57 d_X_read_25 (cv_has a hI (by omega)) (fun r u hw => ?_)
  obtain ⟨e, rfl⟩ := hw
  rw [e]
  clear e u
  refine x_if_eq C d_X_read_28 (fun h3 => ?_) (fun h3 => ?_)
  · refine x_iconst C d_X_read_39 kI_0 ?_
    exact E d_X_read_40 (XPo_of (by rw [T_read, no_of h3]) hI)
  · obtain ⟨o, x, hv⟩ := so_of h3
    refine x_aload0 C d_X_read_31 ?_
    refine x_iload3 C d_X_read_32 ?_
    refine x_cI1 C k_X_78 d_X_read_33 (cv_content a hI (by omega) hv) (fun r u hw => ?_)
    obtain ⟨e, rfl⟩ := hw
    rw [e]
    clear e u
    refine x_goto C d_X_read_36 ?_
    exact E d_X_read_40 (XPo_of (by rw [T_read, hv]) hI)
theorem c_X_write (a : xA) (σ : xT) {n : Nat} {v : vT} (hI : XI σ n v) (s g x : Int32) : MI a (xP a) y_X_write b_X_write 5 (some .int) 2 [.ref (a.2.2.2 0), .int s, .int g, .int x] σ (XPo n (gSP (-1) (-2) s g v (fun s g => T_write v (32 * s + g) x))) := by
  refine MI.ofI (L0 := [some (.ref (a.2.2.2 0)), some (.int s), some (.int g), some (.int x), none]) (by decide) (by simp [Value.category]) (Nat.le_of_ble_eq_true rfl) rfl (fun _ => rfl) (fun Γ C E => ?_)
  refine x_iload1 C d_X_write_0 ?_
  refine x_sI1 C k_X_45 d_X_write_1 (c_X_isSpace a (fun _ _ => rfl) σ s) (fun r u hw => ?_)
  obtain ⟨e, rfl⟩ := hw
  rw [e]
  clear e u
  refine x_if_ne C d_X_write_4 (fun h1 => ?_) (fun h1 => ?_)
  rotate_left
  · refine x_iconst C d_X_write_7 kI_m1 ?_
    exact E d_X_write_8 (XPo_of (gSP_1 (bI_0.mp h1)) hI)
  obtain ⟨s', hs', rfl⟩ := sp_t (bI_ne h1)
  refine x_iload2 C d_X_write_9 ?_
  refine x_sI1 C k_X_75 d_X_write_10 (c_X_isPage a (fun _ _ => rfl) σ g) (fun r u hw => ?_)
  obtain ⟨e, rfl⟩ := hw
  rw [e]
  clear e u
  refine x_if_ne C d_X_write_13 (fun h2 => ?_) (fun h2 => ?_)
  rotate_left
  · refine x_bipush C d_X_write_16 kB_m2 ?_
    exact E d_X_write_18 (XPo_of (gSP_2 hs' (bI_0.mp h2)) hI)
  obtain ⟨g', hg', rfl⟩ := pg_t (bI_ne h2)
  rw [gSP_3 hs' hg'] at E
  refine x_bipush C d_X_write_19 kB_32 ?_
  refine x_iload1 C d_X_write_21 ?_
  refine x_imulN C d_X_write_22 ?_
  refine x_iload2 C d_X_write_23 ?_
  refine x_iaddN C d_X_write_24 ?_
  refine x_istore4 C d_X_write_25 ?_
  refine x_aload0 C d_X_write_27 ?_
  refine x_iload4 C d_X_write_28 ?_
  refine x_cI1 C k_X_57 d_X_write_30 (cv_has a hI (by omega)) (fun r u hw => ?_)
  obtain ⟨e, rfl⟩ := hw
  rw [e]
  clear e u
  refine x_if_ne C d_X_write_33 (fun h3 => ?_) (fun h3 => ?_)
  · obtain ⟨o, z, hv⟩ := so_of h3
    refine x_aload0 C d_X_write_39 ?_
    refine x_iload4 C d_X_write_40 ?_
    refine x_cI1 C k_X_68 d_X_write_42 (cv_mayWrite a hI (by omega) hv) (fun r u hw => ?_)
    obtain ⟨e, rfl⟩ := hw
    rw [e]
    clear e u
    refine x_if_ne C d_X_write_45 (fun h4 => ?_) (fun h4 => ?_)
    · refine x_aload0 C d_X_write_51 ?_
      refine x_iload4 C d_X_write_52 ?_
      refine x_iload3 C d_X_write_54 ?_
      refine x_cV2 C k_X_81 d_X_write_55 (cv_setContent a x hI (by omega) hv) (fun u hw => ?_)
      refine x_iconst C d_X_write_58 kI_0 ?_
      exact E d_X_write_59 (XPo_of (by rw [T_write, hv]; simp [h4]) hw)
    · refine x_bipush C d_X_write_48 kB_m4 ?_
      exact E d_X_write_50 (XPo_of (by rw [T_write, hv]; simp [h4]) hI)
  · refine x_bipush C d_X_write_36 kB_m3 ?_
    exact E d_X_write_38 (XPo_of (by rw [T_write, no_of h3]) hI)
theorem c_X_touch (a : xA) (σ : xT) {n : Nat} {v : vT} (hI : XI σ n v) (s g x : Int32) : MI a (xP a) y_X_touch b_X_touch 5 (some .int) 3 [.ref (a.2.2.2 0), .int s, .int g, .int x] σ (XPo n (gSP (-1) (-2) s g v (fun s g => T_touch n v (32 * s + g) x))) := by
  refine MI.ofI (L0 := [some (.ref (a.2.2.2 0)), some (.int s), some (.int g), some (.int x), none]) (by decide) (by simp [Value.category]) (Nat.le_of_ble_eq_true rfl) rfl (fun _ => rfl) (fun Γ C E => ?_)
  refine x_iload1 C d_X_touch_0 ?_
  refine x_sI1 C k_X_45 d_X_touch_1 (c_X_isSpace a (fun _ _ => rfl) σ s) (fun r u hw => ?_)
  obtain ⟨e, rfl⟩ := hw
  rw [e]
  clear e u
  refine x_if_ne C d_X_touch_4 (fun h1 => ?_) (fun h1 => ?_)
  rotate_left
  · refine x_iconst C d_X_touch_7 kI_m1 ?_
    exact E d_X_touch_8 (XPo_of (gSP_1 (bI_0.mp h1)) hI)
  obtain ⟨s', hs', rfl⟩ := sp_t (bI_ne h1)
  refine x_iload2 C d_X_touch_9 ?_
  refine x_sI1 C k_X_75 d_X_touch_10 (c_X_isPage a (fun _ _ => rfl) σ g) (fun r u hw => ?_)
  obtain ⟨e, rfl⟩ := hw
  rw [e]
  clear e u
  refine x_if_ne C d_X_touch_13 (fun h2 => ?_) (fun h2 => ?_)
  rotate_left
  · refine x_bipush C d_X_touch_16 kB_m2 ?_
    exact E d_X_touch_18 (XPo_of (gSP_2 hs' (bI_0.mp h2)) hI)
  obtain ⟨g', hg', rfl⟩ := pg_t (bI_ne h2)
  rw [gSP_3 hs' hg'] at E
  have h48 := hI.n48
  have h64 := cnV_64 v
  have hle := hI.le
  refine x_bipush C d_X_touch_19 kB_32 ?_
  refine x_iload1 C d_X_touch_21 ?_
  refine x_imulN C d_X_touch_22 ?_
  refine x_iload2 C d_X_touch_23 ?_
  refine x_iaddN C d_X_touch_24 ?_
  refine x_istore4 C d_X_touch_25 ?_
  refine x_aload0 C d_X_touch_27 ?_
  refine x_iload4 C d_X_touch_28 ?_
  refine x_cI1 C k_X_57 d_X_touch_30 (cv_has a hI (by omega)) (fun r u hw => ?_)
  obtain ⟨e, rfl⟩ := hw
  rw [e]
  clear e u
  refine x_if_ne C d_X_touch_33 (fun h3 => ?_) (fun h3 => ?_)
  · obtain ⟨o, z, hv⟩ := so_of h3
    refine x_aload0 C d_X_touch_60 ?_
    refine x_iload4 C d_X_touch_61 ?_
    refine x_cI1 C k_X_68 d_X_touch_63 (cv_mayWrite a hI (by omega) hv) (fun r u hw => ?_)
    obtain ⟨e, rfl⟩ := hw
    rw [e]
    clear e u
    refine x_if_ne C d_X_touch_66 (fun h4 => ?_) (fun h4 => ?_)
    · refine x_aload0 C d_X_touch_72 ?_
      refine x_iload4 C d_X_touch_73 ?_
      refine x_iload3 C d_X_touch_75 ?_
      refine x_cV2 C k_X_81 d_X_touch_76 (cv_setContent a x hI (by omega) hv) (fun u hw => ?_)
      refine x_iconst C d_X_touch_79 kI_0 ?_
      exact E d_X_touch_80 (XPo_of (by rw [T_touch, hv]; simp [h4]) hw)
    · refine x_bipush C d_X_touch_69 kB_m4 ?_
      exact E d_X_touch_71 (XPo_of (by rw [T_touch, hv]; simp [h4]) hI)
  · have hv := no_of h3
    refine x_aload0 C d_X_touch_36 ?_
    refine x_g10 C d_X_touch_37 ?_
    rw [hI.used]
    refine x_aload0 C d_X_touch_40 ?_
    refine x_g9 C d_X_touch_41 ?_
    rw [hI.fc]
    refine x_icmp_neN C d_X_touch_44 (by omega) (by omega) (fun h4 => ?_) (fun h4 => ?_)
    · refine x_aload0 C d_X_touch_50 ?_
      refine x_iload4 C d_X_touch_51 ?_
      refine x_iconst C d_X_touch_53 kI_1 ?_
      refine x_iload3 C d_X_touch_54 ?_
      refine x_cV3 C k_X_60 d_X_touch_55 (cv_bringIn a (nI 1) x hI (by omega) hv (by omega) zb_1) (fun u hw => ?_)
      refine x_iconst C d_X_touch_58 kI_1 ?_
      exact E d_X_touch_59 (XPo_of (by rw [T_touch, hv]; simp [h4]) hw)
    · refine x_bipush C d_X_touch_47 kB_m3 ?_
      exact E d_X_touch_49 (XPo_of (by rw [T_touch, hv]; simp [h4]) hI)
theorem c_X_remap (a : xA) (σ : xT) {n : Nat} {v : vT} (hI : XI σ n v) (s g t : Int32) : MI a (xP a) y_X_remap b_X_remap 6 (some .int) 4 [.ref (a.2.2.2 0), .int s, .int g, .int t] σ (XPo n (gSPP s g t v (fun s g t => T_remap v (32 * s + g) (32 * s + t)))) := by
  refine MI.ofI (L0 := [some (.ref (a.2.2.2 0)), some (.int s), some (.int g), some (.int t), none, none]) (by decide) (by simp [Value.category]) (Nat.le_of_ble_eq_true rfl) rfl (fun _ => rfl) (fun Γ C E => ?_)
  refine x_iload1 C d_X_remap_0 ?_
  refine x_sI1 C k_X_45 d_X_remap_1 (c_X_isSpace a (fun _ _ => rfl) σ s) (fun r u hw => ?_)
  obtain ⟨e, rfl⟩ := hw
  rw [e]
  clear e u
  refine x_if_ne C d_X_remap_4 (fun h1 => ?_) (fun h1 => ?_)
  rotate_left
  · refine x_iconst C d_X_remap_7 kI_m1 ?_
    exact E d_X_remap_8 (XPo_of (gSPP_1 (bI_0.mp h1)) hI)
  obtain ⟨s', hs', rfl⟩ := sp_t (bI_ne h1)
  refine x_iload2 C d_X_remap_9 ?_
  refine x_sI1 C k_X_75 d_X_remap_10 (c_X_isPage a (fun _ _ => rfl) σ g) (fun r u hw => ?_)
  obtain ⟨e, rfl⟩ := hw
  rw [e]
  clear e u
  refine x_if_eq C d_X_remap_13 (fun h2 => ?_) (fun h2 => ?_)
  · refine x_bipush C d_X_remap_23 kB_m2 ?_
    exact E d_X_remap_25 (XPo_of (gSPP_2 hs' (fun q => by rw [bI_0.mp h2] at q; cases q.1)) hI)
  refine x_iload3 C d_X_remap_16 ?_
  refine x_sI1 C k_X_75 d_X_remap_17 (c_X_isPage a (fun _ _ => rfl) σ t) (fun r u hw => ?_)
  obtain ⟨e, rfl⟩ := hw
  rw [e]
  clear e u
  refine x_if_ne C d_X_remap_20 (fun h3 => ?_) (fun h3 => ?_)
  rotate_left
  · refine x_bipush C d_X_remap_23 kB_m2 ?_
    exact E d_X_remap_25 (XPo_of (gSPP_2 hs' (fun q => by rw [bI_0.mp h3] at q; cases q.2)) hI)
  obtain ⟨g', hg', rfl⟩ := pg_t (bI_ne h2)
  obtain ⟨t', ht', rfl⟩ := pg_t (bI_ne h3)
  rw [gSPP_3 hs' hg' ht'] at E
  refine x_bipush C d_X_remap_26 kB_32 ?_
  refine x_iload1 C d_X_remap_28 ?_
  refine x_imulN C d_X_remap_29 ?_
  refine x_iload2 C d_X_remap_30 ?_
  refine x_iaddN C d_X_remap_31 ?_
  refine x_istore4 C d_X_remap_32 ?_
  refine x_bipush C d_X_remap_34 kB_32 ?_
  refine x_iload1 C d_X_remap_36 ?_
  refine x_imulN C d_X_remap_37 ?_
  refine x_iload3 C d_X_remap_38 ?_
  refine x_iaddN C d_X_remap_39 ?_
  refine x_istore5 C d_X_remap_40 ?_
  refine x_aload0 C d_X_remap_42 ?_
  refine x_iload4 C d_X_remap_43 ?_
  refine x_cI1 C k_X_57 d_X_remap_45 (cv_has a hI (by omega)) (fun r u hw => ?_)
  obtain ⟨e, rfl⟩ := hw
  rw [e]
  clear e u
  refine x_if_ne C d_X_remap_48 (fun h4 => ?_) (fun h4 => ?_)
  rotate_left
  · refine x_bipush C d_X_remap_51 kB_m3 ?_
    exact E d_X_remap_53 (XPo_of (by rw [T_remap, no_of h4]) hI)
  obtain ⟨o, x, hv⟩ := so_of h4
  refine x_aload0 C d_X_remap_54 ?_
  refine x_iload5 C d_X_remap_55 ?_
  refine x_cI1 C k_X_57 d_X_remap_57 (cv_has a hI (by omega)) (fun r u hw => ?_)
  obtain ⟨e, rfl⟩ := hw
  rw [e]
  clear e u
  refine x_if_eq C d_X_remap_60 (fun h5 => ?_) (fun h5 => ?_)
  · have hv2 := no_of h5
    refine x_aload0 C d_X_remap_66 ?_
    refine x_iload4 C d_X_remap_67 ?_
    refine x_iload5 C d_X_remap_69 ?_
    refine x_cV2 C k_X_85 d_X_remap_71 (cv_carry a hI (by omega) hv (by omega) hv2) (fun u hw => ?_)
    refine x_iconst C d_X_remap_74 kI_0 ?_
    exact E d_X_remap_75 (XPo_of (by rw [T_remap, hv]; simp [hv2]) hw)
  · obtain ⟨o2, x2, hv2⟩ := so_of h5
    refine x_bipush C d_X_remap_63 kB_m4 ?_
    exact E d_X_remap_65 (XPo_of (by rw [T_remap, hv]; simp [hv2]) hI)
theorem c_X_duplicate (a : xA) (σ : xT) {n : Nat} {v : vT} (hI : XI σ n v) (s g : Int32) : MI a (xP a) y_X_duplicate b_X_duplicate 7 (some .int) 3 [.ref (a.2.2.2 0), .int s, .int g] σ (XPo n (gSP (-1) (-2) s g v (fun s g => T_dup n v (32 * s + g) (32 * (1 - s) + g)))) := by
  refine MI.ofI (L0 := [some (.ref (a.2.2.2 0)), some (.int s), some (.int g), none, none, none, none]) (by decide) (by simp [Value.category]) (Nat.le_of_ble_eq_true rfl) rfl (fun _ => rfl) (fun Γ C E => ?_)
  refine x_iload1 C d_X_duplicate_0 ?_
  refine x_sI1 C k_X_45 d_X_duplicate_1 (c_X_isSpace a (fun _ _ => rfl) σ s) (fun r u hw => ?_)
  obtain ⟨e, rfl⟩ := hw
  rw [e]
  clear e u
  refine x_if_ne C d_X_duplicate_4 (fun h1 => ?_) (fun h1 => ?_)
  rotate_left
  · refine x_iconst C d_X_duplicate_7 kI_m1 ?_
    exact E d_X_duplicate_8 (XPo_of (gSP_1 (bI_0.mp h1)) hI)
  obtain ⟨s', hs', rfl⟩ := sp_t (bI_ne h1)
  refine x_iload2 C d_X_duplicate_9 ?_
  refine x_sI1 C k_X_75 d_X_duplicate_10 (c_X_isPage a (fun _ _ => rfl) σ g) (fun r u hw => ?_)
  obtain ⟨e, rfl⟩ := hw
  rw [e]
  clear e u
  refine x_if_ne C d_X_duplicate_13 (fun h2 => ?_) (fun h2 => ?_)
  rotate_left
  · refine x_bipush C d_X_duplicate_16 kB_m2 ?_
    exact E d_X_duplicate_18 (XPo_of (gSP_2 hs' (bI_0.mp h2)) hI)
  obtain ⟨g', hg', rfl⟩ := pg_t (bI_ne h2)
  rw [gSP_3 hs' hg'] at E
  have h48 := hI.n48
  have h64 := cnV_64 v
  have hle := hI.le
  have e1 : nI 1 - nI s' = nI (1 - s') := pk_sub (by omega)
  refine x_bipush C d_X_duplicate_19 kB_32 ?_
  refine x_iload1 C d_X_duplicate_21 ?_
  refine x_imulN C d_X_duplicate_22 ?_
  refine x_iload2 C d_X_duplicate_23 ?_
  refine x_iaddN C d_X_duplicate_24 ?_
  refine x_istore3 C d_X_duplicate_25 ?_
  refine x_bipush C d_X_duplicate_26 kB_32 ?_
  refine x_iconst C d_X_duplicate_28 kI_1 ?_
  refine x_iload1 C d_X_duplicate_29 ?_
  refine x_isub C d_X_duplicate_30 e1 ?_
  refine x_imulN C d_X_duplicate_31 ?_
  refine x_iload2 C d_X_duplicate_32 ?_
  refine x_iaddN C d_X_duplicate_33 ?_
  refine x_istore4 C d_X_duplicate_34 ?_
  refine x_aload0 C d_X_duplicate_36 ?_
  refine x_iload3 C d_X_duplicate_37 ?_
  refine x_cI1 C k_X_57 d_X_duplicate_38 (cv_has a hI (by omega)) (fun r u hw => ?_)
  obtain ⟨e, rfl⟩ := hw
  rw [e]
  clear e u
  refine x_if_ne C d_X_duplicate_41 (fun h4 => ?_) (fun h4 => ?_)
  rotate_left
  · refine x_bipush C d_X_duplicate_44 kB_m3 ?_
    exact E d_X_duplicate_46 (XPo_of (by rw [T_dup, no_of h4]) hI)
  obtain ⟨o, x, hv⟩ := so_of h4
  refine x_aload0 C d_X_duplicate_47 ?_
  refine x_iload4 C d_X_duplicate_48 ?_
  refine x_cI1 C k_X_57 d_X_duplicate_50 (cv_has a hI (by omega)) (fun r u hw => ?_)
  obtain ⟨e, rfl⟩ := hw
  rw [e]
  clear e u
  refine x_if_eq C d_X_duplicate_53 (fun h5 => ?_) (fun h5 => ?_)
  · have hv2 := no_of h5
    refine x_aload0 C d_X_duplicate_59 ?_
    refine x_g10 C d_X_duplicate_60 ?_
    rw [hI.used]
    refine x_aload0 C d_X_duplicate_63 ?_
    refine x_g9 C d_X_duplicate_64 ?_
    rw [hI.fc]
    refine x_icmp_neN C d_X_duplicate_67 (by omega) (by omega) (fun h6 => ?_) (fun h6 => ?_)
    · refine x_aload0 C d_X_duplicate_73 ?_
      refine x_iload3 C d_X_duplicate_74 ?_
      refine x_cI1 C k_X_68 d_X_duplicate_75 (cv_mayWrite a hI (by omega) hv) (fun r u hw => ?_)
      obtain ⟨e, rfl⟩ := hw
      rw [e]
      clear e u
      refine x_istore5 C d_X_duplicate_78 ?_
      refine x_aload0 C d_X_duplicate_80 ?_
      refine x_iload3 C d_X_duplicate_81 ?_
      refine x_cI1 C k_X_78 d_X_duplicate_82 (cv_content a hI (by omega) hv) (fun r u hw => ?_)
      obtain ⟨e, rfl⟩ := hw
      rw [e]
      clear e u
      refine x_istore6 C d_X_duplicate_85 ?_
      refine x_aload0 C d_X_duplicate_87 ?_
      refine x_iload4 C d_X_duplicate_88 ?_
      refine x_iload5 C d_X_duplicate_90 ?_
      refine x_iload6 C d_X_duplicate_92 ?_
      refine x_cV3 C k_X_60 d_X_duplicate_94 (cv_bringIn a _ _ hI (by omega) hv2 (by omega) (hI.at (by omega) hv).2.2.1) (fun u hw => ?_)
      refine x_iconst C d_X_duplicate_97 kI_0 ?_
      exact E d_X_duplicate_98 (XPo_of (by rw [T_dup, hv]; simp [hv2, h6]) hw)
    · refine x_bipush C d_X_duplicate_70 kB_m5 ?_
      exact E d_X_duplicate_72 (XPo_of (by rw [T_dup, hv]; simp [hv2, h6]) hI)
  · obtain ⟨o2, x2, hv2⟩ := so_of h5
    refine x_bipush C d_X_duplicate_56 kB_m4 ?_
    exact E d_X_duplicate_58 (XPo_of (by rw [T_dup, hv]; simp [hv2]) hI)
theorem c_X_exchange (a : xA) (σ : xT) {n : Nat} {v : vT} (hI : XI σ n v) (g : Int32) : MI a (xP a) y_X_exchange b_X_exchange 7 (some .int) 4 [.ref (a.2.2.2 0), .int g] σ (XPo n (gP1 (-1) g v (fun g => T_exch v g (32 + g)))) := by
  refine MI.ofI (L0 := [some (.ref (a.2.2.2 0)), some (.int g), none, none, none, none, none]) (by decide) (by simp [Value.category]) (Nat.le_of_ble_eq_true rfl) rfl (fun _ => rfl) (fun Γ C E => ?_)
  refine x_iload1 C d_X_exchange_0 ?_
  refine x_sI1 C k_X_75 d_X_exchange_1 (c_X_isPage a (fun _ _ => rfl) σ g) (fun r u hw => ?_)
  obtain ⟨e, rfl⟩ := hw
  rw [e]
  clear e u
  refine x_if_ne C d_X_exchange_4 (fun h1 => ?_) (fun h1 => ?_)
  rotate_left
  · refine x_iconst C d_X_exchange_7 kI_m1 ?_
    exact E d_X_exchange_8 (XPo_of (gP1_1 (bI_0.mp h1)) hI)
  obtain ⟨g', hg', rfl⟩ := pg_t (bI_ne h1)
  rw [gP1_2 hg'] at E
  refine x_iload1 C d_X_exchange_9 ?_
  refine x_istore2 C d_X_exchange_10 ?_
  refine x_bipush C d_X_exchange_11 kB_32 ?_
  refine x_iload1 C d_X_exchange_13 ?_
  refine x_iaddN C d_X_exchange_14 ?_
  refine x_istore3 C d_X_exchange_15 ?_
  refine x_aload0 C d_X_exchange_16 ?_
  refine x_iload2 C d_X_exchange_17 ?_
  refine x_cI1 C k_X_57 d_X_exchange_18 (cv_has a hI (by omega)) (fun r u hw => ?_)
  obtain ⟨e, rfl⟩ := hw
  rw [e]
  clear e u
  have tail : (v g' = none ∨ v (32 + g') = none) → xW Γ a (xP a) σ 92 [some (.ref (a.2.2.2 0)), some (.int (nI g')), some (.int (nI g')), some (.int (nI (32 + g'))), none, none, none] [] := by
    intro hor
    refine x_aload0 C d_X_exchange_92 ?_
    refine x_iload2 C d_X_exchange_93 ?_
    refine x_cI1 C k_X_57 d_X_exchange_94 (cv_has a hI (by omega)) (fun r u hw => ?_)
    obtain ⟨e, rfl⟩ := hw
    rw [e]
    clear e u
    refine x_if_eq C d_X_exchange_97 (fun h3 => ?_) (fun h3 => ?_)
    · have hv := no_of h3
      refine x_aload0 C d_X_exchange_109 ?_
      refine x_iload3 C d_X_exchange_110 ?_
      refine x_cI1 C k_X_57 d_X_exchange_111 (cv_has a hI (by omega)) (fun r u hw => ?_)
      obtain ⟨e, rfl⟩ := hw
      rw [e]
      clear e u
      refine x_if_eq C d_X_exchange_114 (fun h4 => ?_) (fun h4 => ?_)
      · have hv2 := no_of h4
        refine x_iconst C d_X_exchange_123 kI_0 ?_
        refine E d_X_exchange_124 (XPo_of rfl (hI.to (fun q hq => ?_)))
        unfold vs
        by_cases h5 : q = 32 + g'
        · rw [if_pos h5, h5, hv, hv2]
        · rw [if_neg h5]
          by_cases h6 : q = g'
          · rw [if_pos h6, h6, hv, hv2]
          · rw [if_neg h6]
      · obtain ⟨o2, x2, hv2⟩ := so_of h4
        refine x_aload0 C d_X_exchange_117 ?_
        refine x_iload3 C d_X_exchange_118 ?_
        refine x_iload2 C d_X_exchange_119 ?_
        refine x_cV2 C k_X_85 d_X_exchange_120 (cv_carry a hI (by omega) hv2 (by omega) hv) (fun u hw => ?_)
        refine x_iconst C d_X_exchange_123 kI_0 ?_
        refine E d_X_exchange_124 (XPo_of rfl (hw.to (fun q hq => ?_)))
        rw [hv, hv2, vs_vs (by omega)]
    · obtain ⟨o, x, hv⟩ := so_of h3
      have hv2 : v (32 + g') = none := hor.elim (fun z => by rw [hv] at z; cases z) id
      refine x_aload0 C d_X_exchange_100 ?_
      refine x_iload2 C d_X_exchange_101 ?_
      refine x_iload3 C d_X_exchange_102 ?_
      refine x_cV2 C k_X_85 d_X_exchange_103 (cv_carry a hI (by omega) hv (by omega) hv2) (fun u hw => ?_)
      refine x_goto C d_X_exchange_106 ?_
      refine x_iconst C d_X_exchange_123 kI_0 ?_
      refine E d_X_exchange_124 (XPo_of rfl (hw.to (fun q hq => ?_)))
      rw [hv, hv2]
  refine x_if_eq C d_X_exchange_21 (fun h2 => ?_) (fun h2 => ?_)
  · exact tail (Or.inl (no_of h2))
  refine x_aload0 C d_X_exchange_24 ?_
  refine x_iload3 C d_X_exchange_25 ?_
  refine x_cI1 C k_X_57 d_X_exchange_26 (cv_has a hI (by omega)) (fun r u hw => ?_)
  obtain ⟨e, rfl⟩ := hw
  rw [e]
  clear e u
  refine x_if_eq C d_X_exchange_29 (fun h3 => ?_) (fun h3 => ?_)
  · exact tail (Or.inr (no_of h3))
  obtain ⟨o, x, hv⟩ := so_of h2
  obtain ⟨o2, x2, hv2⟩ := so_of h3
  obtain ⟨p1, p2, p3, f, p4, p5, p6⟩ := hI.at (by omega) hv
  refine x_aload0 C d_X_exchange_32 ?_
  refine x_iload2 C d_X_exchange_33 ?_
  refine x_cI1 C k_X_78 d_X_exchange_34 (cv_content a hI (by omega) hv) (fun r u hw => ?_)
  obtain ⟨e, e2⟩ := hw
  rw [e, e2]
  clear e e2 u r
  refine x_istore4 C d_X_exchange_37 ?_
  refine x_aload0 C d_X_exchange_39 ?_
  refine x_iload2 C d_X_exchange_40 ?_
  refine x_cI1 C k_X_68 d_X_exchange_41 (cv_mayWrite a hI (by omega) hv) (fun r u hw => ?_)
  obtain ⟨e, e2⟩ := hw
  rw [e, e2]
  clear e e2 u r
  refine x_istore5 C d_X_exchange_44 ?_
  refine x_aload0 C d_X_exchange_46 ?_
  refine x_iload3 C d_X_exchange_47 ?_
  refine x_cI1 C k_X_68 d_X_exchange_48 (cv_mayWrite a hI (by omega) hv2) (fun r u hw => ?_)
  obtain ⟨e, e2⟩ := hw
  rw [e, e2]
  clear e e2 u r
  refine x_istore6 C d_X_exchange_51 ?_
  refine x_aload0 C d_X_exchange_53 ?_
  refine x_g0 C d_X_exchange_54 ?_
  refine x_aload0 C d_X_exchange_57 ?_
  refine x_iload2 C d_X_exchange_58 ?_
  refine x_cI1 C k_X_88 d_X_exchange_59 (c_X_translate a σ (by omega)) (fun r u hw => ?_)
  obtain ⟨e, rfl⟩ := hw
  rw [e, p5]
  clear e u
  refine x_aload0 C d_X_exchange_62 ?_
  refine x_iload3 C d_X_exchange_63 ?_
  refine x_cI1 C k_X_78 d_X_exchange_64 (cv_content a hI (by omega) hv2) (fun r u hw => ?_)
  obtain ⟨e, e2⟩ := hw
  rw [e, e2]
  clear e e2 u r
  refine x_st0 C d_X_exchange_67 (by omega) ?_
  have hI1 : XI (sS σ 0 f x2) n (vs v g' (some (o, x2))) := by
    obtain ⟨own, q1, q2⟩ := hI.1
    obtain ⟨q3, q4⟩ := P_ct (v := x2) q1 (p := g') (by omega) p1 p5 p4
    refine ⟨⟨own, q3, q2⟩, fun q hq => ?_⟩
    rw [q4 q hq, hI.2 g' (by omega), hI.2 q hq, hv]
    rfl
  have w1 : vs v g' (some (o, x2)) (32 + g') = some (o2, x2) := by
    unfold vs
    rw [if_neg (by omega), hv2]
  refine x_aload0 C d_X_exchange_68 ?_
  refine x_iload3 C d_X_exchange_69 ?_
  refine x_iload4 C d_X_exchange_70 ?_
  refine x_cV2 C k_X_81 d_X_exchange_72 (cv_setContent a _ hI1 (by omega) w1) (fun u hw => ?_)
  have w2 : vs (vs v g' (some (o, x2))) (32 + g') (some (o2, x)) g' = some (o, x2) := by
    unfold vs
    rw [if_neg (by omega), if_pos rfl]
  refine x_aload0 C d_X_exchange_75 ?_
  refine x_iload2 C d_X_exchange_76 ?_
  refine x_iload6 C d_X_exchange_77 ?_
  refine x_cV2 C k_X_71 d_X_exchange_79 (cv_setWrite a hw (by omega) w2 (hI.at (by omega) hv2).2.2.1) (fun u2 hw2 => ?_)
  have w3 : vs (vs (vs v g' (some (o, x2))) (32 + g') (some (o2, x))) g' (some (o2, x2)) (32 + g') = some (o2, x) := by
    unfold vs
    rw [if_neg (by omega), if_pos rfl]
  refine x_aload0 C d_X_exchange_82 ?_
  refine x_iload3 C d_X_exchange_83 ?_
  refine x_iload5 C d_X_exchange_84 ?_
  refine x_cV2 C k_X_71 d_X_exchange_86 (cv_setWrite a hw2 (by omega) w3 p3) (fun u3 hw3 => ?_)
  refine x_goto C d_X_exchange_89 ?_
  refine x_iconst C d_X_exchange_123 kI_0 ?_
  refine E d_X_exchange_124 (XPo_of rfl (hw3.to (fun q hq => ?_)))
  unfold vs
  by_cases h5 : q = 32 + g'
  · simp [h5, hv]
  · by_cases h6 : q = g'
    · have h7 : ¬ g' = 32 + g' := by omega
      simp [h6, h7, hv2]
    · simp [h5, h6]
end
section
/-! PageRangeStore: the public methods with loops -/
theorem cnR_4 {σ : xT} {n : Nat} {v : vT} {b : Nat} (hI : XI σ n v) (hb : b < 16) : btS (σ 5 b) 4 = nI (cnR (fun q => (v q).isSome) (4 * b) 4) := by
  obtain ⟨own, h, -⟩ := hI.1
  obtain ⟨x, x1, x2⟩ := h.2.2.1 b hb
  have hb4 : ∀ k, k < 4 → (v (4 * b + k)).isSome = btB (nI x) k := fun k hk => by rw [← hI.has (by omega), hb_e σ hk, x2]
  have key : ∀ x, x < 16 → btS (nI x) 4 = nI ((btB (nI x) 0).toNat + (btB (nI x) 1).toNat + (btB (nI x) 2).toNat + (btB (nI x) 3).toNat) := by decide +kernel
  rw [x2, key x x1, cnR, cnR, cnR, cnR, cnR, hb4 0 (by omega), hb4 1 (by omega), hb4 2 (by omega), hb4 3 (by omega), Nat.zero_add]
theorem cnR_add (P : Nat → Bool) (i j : Nat) : ∀ k, cnR P i (j + k) = cnR P i j + cnR P (i + j) k
  | 0 => rfl
  | k + 1 => by
    rw [← Nat.add_assoc, cnR, cnR, cnR_add P i j k]
    rw [Nat.add_assoc, Nat.add_assoc i j k]
theorem c_X_mappedIn (a : xA) (σ : xT) {n : Nat} {v : vT} (hI : XI σ n v) (s : Int32) : MI a (xP a) y_X_mappedIn b_X_mappedIn 4 (some .int) 1 [.ref (a.2.2.2 0), .int s] σ (XPo n (gS1 (-1) s v (fun s => (nI (cnR (fun q => (v q).isSome) (32 * s) 32), v)))) := by
  refine MI.ofI (L0 := [some (.ref (a.2.2.2 0)), some (.int s), none, none]) (by decide) (by simp [Value.category]) (Nat.le_of_ble_eq_true rfl) rfl (fun _ => rfl) (fun Γ C E => ?_)
  refine x_iload1 C d_X_mappedIn_0 ?_
  refine x_sI1 C k_X_45 d_X_mappedIn_1 (c_X_isSpace a (fun _ _ => rfl) σ s) (fun r u hw => ?_)
  obtain ⟨e, rfl⟩ := hw
  rw [e]
  clear e u
  refine x_if_ne C d_X_mappedIn_4 (fun h1 => ?_) (fun h1 => ?_)
  rotate_left
  · refine x_iconst C d_X_mappedIn_7 kI_m1 ?_
    exact E d_X_mappedIn_8 (XPo_of (gS1_1 (bI_0.mp h1)) hI)
  obtain ⟨s', hs', rfl⟩ := sp_t (bI_ne h1)
  rw [gS1_2 hs'] at E
  have loop : ∀ m j, j + m = 8 → xW Γ a (xP a) σ 16 [some (.ref (a.2.2.2 0)), some (.int (nI s')), some (.int (nI (cnR (fun q => (v q).isSome) (32 * s') (4 * j)))), some (.int (nI (8 * s' + j)))] [] := by
    intro m
    induction m with
    | zero =>
      intro j hj
      have hj : j = 8 := by omega
      subst hj
      refine x_iload3 C d_X_mappedIn_16 ?_
      refine x_bipush C d_X_mappedIn_17 kB_8 ?_
      refine x_iload1 C d_X_mappedIn_19 ?_
      refine x_imulN C d_X_mappedIn_20 ?_
      refine x_bipush C d_X_mappedIn_21 kB_8 ?_
      refine x_iaddN C d_X_mappedIn_23 ?_
      refine x_icmp_geN C d_X_mappedIn_24 (by omega) (by omega) (fun h => ?_) (fun h => ?_)
      · refine x_iload2 C d_X_mappedIn_45 ?_
        exact E d_X_mappedIn_46 (XPo_of rfl hI)
      · exact absurd h (by omega)
    | succ m ih =>
      intro j hj
      refine x_iload3 C d_X_mappedIn_16 ?_
      refine x_bipush C d_X_mappedIn_17 kB_8 ?_
      refine x_iload1 C d_X_mappedIn_19 ?_
      refine x_imulN C d_X_mappedIn_20 ?_
      refine x_bipush C d_X_mappedIn_21 kB_8 ?_
      refine x_iaddN C d_X_mappedIn_23 ?_
      refine x_icmp_geN C d_X_mappedIn_24 (by omega) (by omega) (fun h => ?_) (fun h => ?_)
      · exact absurd h (by omega)
      · refine x_iload2 C d_X_mappedIn_27 ?_
        refine x_aload0 C d_X_mappedIn_28 ?_
        refine x_g5 C d_X_mappedIn_29 ?_
        refine x_iload3 C d_X_mappedIn_32 ?_
        refine x_ld5 C d_X_mappedIn_33 (by omega) ?_
        refine x_sI1 C k_X_49 d_X_mappedIn_34 (c_X_bits a (fun _ _ => rfl) σ _) (fun r u hw => ?_)
        obtain ⟨e, rfl⟩ := hw
        rw [e, cnR_4 hI (by omega)]
        clear e u
        refine x_iaddN C d_X_mappedIn_37 ?_
        refine x_istore2 C d_X_mappedIn_38 ?_
        refine x_iincN3 C d_X_mappedIn_39 ?_
        refine x_goto C d_X_mappedIn_42 ?_
        rw [show 4 * (8 * s' + j) = 32 * s' + 4 * j by omega, ← cnR_add, show 4 * j + 4 = 4 * (j + 1) by omega]
        exact ih (j + 1) (by omega)
  refine x_iconst C d_X_mappedIn_9 kI_0 ?_
  refine x_istore2 C d_X_mappedIn_10 ?_
  refine x_bipush C d_X_mappedIn_11 kB_8 ?_
  refine x_iload1 C d_X_mappedIn_13 ?_
  refine x_imulN C d_X_mappedIn_14 ?_
  refine x_istore3 C d_X_mappedIn_15 ?_
  exact loop 8 0 rfl
theorem c_X_sum (a : xA) (σ : xT) {n : Nat} {v : vT} (hI : XI σ n v) (s : Int32) : MI a (xP a) y_X_sum b_X_sum 4 (some .int) 2 [.ref (a.2.2.2 0), .int s] σ (XPo n (gS1 (nI 0) s v (fun s => (smV v (32 * s) 32, v)))) := by
  refine MI.ofI (L0 := [some (.ref (a.2.2.2 0)), some (.int s), none, none]) (by decide) (by simp [Value.category]) (Nat.le_of_ble_eq_true rfl) rfl (fun _ => rfl) (fun Γ C E => ?_)
  refine x_iload1 C d_X_sum_0 ?_
  refine x_sI1 C k_X_45 d_X_sum_1 (c_X_isSpace a (fun _ _ => rfl) σ s) (fun r u hw => ?_)
  obtain ⟨e, rfl⟩ := hw
  rw [e]
  clear e u
  refine x_if_ne C d_X_sum_4 (fun h1 => ?_) (fun h1 => ?_)
  rotate_left
  · refine x_iconst C d_X_sum_7 kI_0 ?_
    exact E d_X_sum_8 (XPo_of (gS1_1 (bI_0.mp h1)) hI)
  obtain ⟨s', hs', rfl⟩ := sp_t (bI_ne h1)
  rw [gS1_2 hs'] at E
  have loop : ∀ m j, j + m = 32 → xW Γ a (xP a) σ 16 [some (.ref (a.2.2.2 0)), some (.int (nI s')), some (.int (smV v (32 * s') j)), some (.int (nI (32 * s' + j)))] [] := by
    intro m
    induction m with
    | zero =>
      intro j hj
      have hj : j = 32 := by omega
      subst hj
      refine x_iload3 C d_X_sum_16 ?_
      refine x_bipush C d_X_sum_17 kB_32 ?_
      refine x_iload1 C d_X_sum_19 ?_
      refine x_imulN C d_X_sum_20 ?_
      refine x_bipush C d_X_sum_21 kB_32 ?_
      refine x_iaddN C d_X_sum_23 ?_
      refine x_icmp_geN C d_X_sum_24 (by omega) (by omega) (fun h => ?_) (fun h => ?_)
      · refine x_iload2 C d_X_sum_49 ?_
        exact E d_X_sum_50 (XPo_of rfl hI)
      · exact absurd h (by omega)
    | succ m ih =>
      intro j hj
      refine x_iload3 C d_X_sum_16 ?_
      refine x_bipush C d_X_sum_17 kB_32 ?_
      refine x_iload1 C d_X_sum_19 ?_
      refine x_imulN C d_X_sum_20 ?_
      refine x_bipush C d_X_sum_21 kB_32 ?_
      refine x_iaddN C d_X_sum_23 ?_
      refine x_icmp_geN C d_X_sum_24 (by omega) (by omega) (fun h => ?_) (fun h => ?_)
      · exact absurd h (by omega)
      · refine x_aload0 C d_X_sum_27 ?_
        refine x_iload3 C d_X_sum_28 ?_
        refine x_cI1 C k_X_57 d_X_sum_29 (cv_has a hI (by omega)) (fun r u hw => ?_)
        obtain ⟨e, rfl⟩ := hw
        rw [e]
        clear e u
        refine x_if_eq C d_X_sum_32 (fun h2 => ?_) (fun h2 => ?_)
        · refine x_iincN3 C d_X_sum_43 ?_
          refine x_goto C d_X_sum_46 ?_
          have e : smV v (32 * s') j = smV v (32 * s') (j + 1) := by rw [smV, no_of h2]
          rw [e]
          exact ih (j + 1) (by omega)
        · obtain ⟨o, x, hv⟩ := so_of h2
          refine x_iload2 C d_X_sum_35 ?_
          refine x_aload0 C d_X_sum_36 ?_
          refine x_iload3 C d_X_sum_37 ?_
          refine x_cI1 C k_X_78 d_X_sum_38 (cv_content a hI (by omega) hv) (fun r u hw => ?_)
          obtain ⟨e, e2⟩ := hw
          rw [e, e2]
          clear e e2 u r
          refine x_iadd C d_X_sum_41 rfl ?_
          refine x_istore2 C d_X_sum_42 ?_
          refine x_iincN3 C d_X_sum_43 ?_
          refine x_goto C d_X_sum_46 ?_
          have e : smV v (32 * s') j + x = smV v (32 * s') (j + 1) := by rw [smV, hv]
          rw [e]
          exact ih (j + 1) (by omega)
  refine x_iconst C d_X_sum_9 kI_0 ?_
  refine x_istore2 C d_X_sum_10 ?_
  refine x_bipush C d_X_sum_11 kB_32 ?_
  refine x_iload1 C d_X_sum_13 ?_
  refine x_imulN C d_X_sum_14 ?_
  refine x_istore3 C d_X_sum_15 ?_
  exact loop 32 0 rfl
theorem c_X_nextMapped (a : xA) (σ : xT) {n : Nat} {v : vT} (hI : XI σ n v) (s g : Int32) : MI a (xP a) y_X_nextMapped b_X_nextMapped 4 (some .int) 1 [.ref (a.2.2.2 0), .int s, .int g] σ (XPo n (gSP (-1) (-2) s g v (fun s g => (nxV v s (32 - g) g, v)))) := by
  refine MI.ofI (L0 := [some (.ref (a.2.2.2 0)), some (.int s), some (.int g), none]) (by decide) (by simp [Value.category]) (Nat.le_of_ble_eq_true rfl) rfl (fun _ => rfl) (fun Γ C E => ?_)
  refine x_iload1 C d_X_nextMapped_0 ?_
  refine x_sI1 C k_X_45 d_X_nextMapped_1 (c_X_isSpace a (fun _ _ => rfl) σ s) (fun r u hw => ?_)
  obtain ⟨e, rfl⟩ := hw
  rw [e]
  clear e u
  refine x_if_ne C d_X_nextMapped_4 (fun h1 => ?_) (fun h1 => ?_)
  rotate_left
  · refine x_iconst C d_X_nextMapped_7 kI_m1 ?_
    exact E d_X_nextMapped_8 (XPo_of (gSP_1 (bI_0.mp h1)) hI)
  obtain ⟨s', hs', rfl⟩ := sp_t (bI_ne h1)
  refine x_iload2 C d_X_nextMapped_9 ?_
  refine x_sI1 C k_X_75 d_X_nextMapped_10 (c_X_isPage a (fun _ _ => rfl) σ g) (fun r u hw => ?_)
  obtain ⟨e, rfl⟩ := hw
  rw [e]
  clear e u
  refine x_if_ne C d_X_nextMapped_13 (fun h2 => ?_) (fun h2 => ?_)
  rotate_left
  · refine x_bipush C d_X_nextMapped_16 kB_m2 ?_
    exact E d_X_nextMapped_18 (XPo_of (gSP_2 hs' (bI_0.mp h2)) hI)
  obtain ⟨g', hg', rfl⟩ := pg_t (bI_ne h2)
  rw [gSP_3 hs' hg'] at E
  have loop : ∀ m p, p + m = 32 → nxV v s' m p = nxV v s' (32 - g') g' → xW Γ a (xP a) σ 21 [some (.ref (a.2.2.2 0)), some (.int (nI s')), some (.int (nI g')), some (.int (nI p))] [] := by
    intro m
    induction m with
    | zero =>
      intro p hp hx
      have hp : p = 32 := by omega
      subst hp
      refine x_iload3 C d_X_nextMapped_21 ?_
      refine x_bipush C d_X_nextMapped_22 kB_32 ?_
      refine x_icmp_geN C d_X_nextMapped_24 (by omega) (by omega) (fun h => ?_) (fun h => ?_)
      · refine x_bipush C d_X_nextMapped_48 kB_m3 ?_
        exact E d_X_nextMapped_50 (XPo_of (by rw [← hx]; rfl) hI)
      · exact absurd h (by omega)
    | succ m ih =>
      intro p hp hx
      rw [nxV] at hx
      refine x_iload3 C d_X_nextMapped_21 ?_
      refine x_bipush C d_X_nextMapped_22 kB_32 ?_
      refine x_icmp_geN C d_X_nextMapped_24 (by omega) (by omega) (fun h => ?_) (fun h => ?_)
      · exact absurd h (by omega)
      · refine x_aload0 C d_X_nextMapped_27 ?_
        refine x_bipush C d_X_nextMapped_28 kB_32 ?_
        refine x_iload1 C d_X_nextMapped_30 ?_
        refine x_imulN C d_X_nextMapped_31 ?_
        refine x_iload3 C d_X_nextMapped_32 ?_
        refine x_iaddN C d_X_nextMapped_33 ?_
        refine x_cI1 C k_X_57 d_X_nextMapped_34 (cv_has a hI (by omega)) (fun r u hw => ?_)
        obtain ⟨e, rfl⟩ := hw
        rw [e]
        clear e u
        refine x_if_eq C d_X_nextMapped_37 (fun h3 => ?_) (fun h3 => ?_)
        · refine x_iincN3 C d_X_nextMapped_42 ?_
          refine x_goto C d_X_nextMapped_45 ?_
          rw [no_of h3, if_neg (by decide)] at hx
          exact ih (p + 1) (by omega) hx
        · refine x_iload3 C d_X_nextMapped_40 ?_
          rw [if_pos (bI_ne h3)] at hx
          exact E d_X_nextMapped_41 (XPo_of (by rw [← hx]) hI)
  refine x_iload2 C d_X_nextMapped_19 ?_
  refine x_istore3 C d_X_nextMapped_20 ?_
  exact loop (32 - g') g' (by omega) rfl
theorem c_X_unmap (a : xA) (σ : xT) {n : Nat} {v : vT} (hI : XI σ n v) (s g k : Int32) : MI a (xP a) y_X_unmap b_X_unmap 7 (some .int) 2 [.ref (a.2.2.2 0), .int s, .int g, .int k] σ (XPo n (gSR s g k v (fun s g k => T_unmap v (32 * s + g) k))) := by
  refine MI.ofI (L0 := [some (.ref (a.2.2.2 0)), some (.int s), some (.int g), some (.int k), none, none, none]) (by decide) (by simp [Value.category]) (Nat.le_of_ble_eq_true rfl) rfl (fun _ => rfl) (fun Γ C E => ?_)
  refine x_iload1 C d_X_unmap_0 ?_
  refine x_sI1 C k_X_45 d_X_unmap_1 (c_X_isSpace a (fun _ _ => rfl) σ s) (fun r u hw => ?_)
  obtain ⟨e, rfl⟩ := hw
  rw [e]
  clear e u
  refine x_if_ne C d_X_unmap_4 (fun h1 => ?_) (fun h1 => ?_)
  rotate_left
  · refine x_iconst C d_X_unmap_7 kI_m1 ?_
    exact E d_X_unmap_8 (XPo_of (gSR_1 (bI_0.mp h1)) hI)
  obtain ⟨s', hs', rfl⟩ := sp_t (bI_ne h1)
  refine x_iload2 C d_X_unmap_9 ?_
  refine x_iload3 C d_X_unmap_10 ?_
  refine x_sI2 C k_X_53 d_X_unmap_11 (c_X_isRange a (fun _ _ => rfl) σ g k) (fun r u hw => ?_)
  obtain ⟨e, rfl⟩ := hw
  rw [e]
  clear e u
  refine x_if_ne C d_X_unmap_14 (fun h2 => ?_) (fun h2 => ?_)
  rotate_left
  · refine x_bipush C d_X_unmap_17 kB_m2 ?_
    exact E d_X_unmap_19 (XPo_of (gSR_2 hs' (bI_0.mp h2)) hI)
  obtain ⟨g', k', hk1, hk2, rfl, rfl⟩ := rg_t (bI_ne h2)
  rw [gSR_3 hs' hk1 hk2] at E
  have loop : ∀ m j u, j + m = k' → XI u n (unmV v (32 * s' + g') j) → xW Γ a (xP a) u 35 [some (.ref (a.2.2.2 0)), some (.int (nI s')), some (.int (nI g')), some (.int (nI k')), some (.int (nI (32 * s' + g'))), some (.int (nI (cnR (fun q => (v q).isSome) (32 * s' + g') j))), some (.int (nI (32 * s' + g' + j)))] [] := by
    intro m
    induction m with
    | zero =>
      intro j u hj hu
      have hj : j = k' := by omega
      subst hj
      refine x_iload6 C d_X_unmap_35 ?_
      refine x_iload4 C d_X_unmap_37 ?_
      refine x_iload3 C d_X_unmap_39 ?_
      refine x_iaddN C d_X_unmap_40 ?_
      refine x_icmp_geN C d_X_unmap_41 (by omega) (by omega) (fun h => ?_) (fun h => ?_)
      · refine x_iload5 C d_X_unmap_68 ?_
        exact E d_X_unmap_70 (XPo_of rfl hu)
      · exact absurd h (by omega)
    | succ m ih =>
      intro j u hj hu
      refine x_iload6 C d_X_unmap_35 ?_
      refine x_iload4 C d_X_unmap_37 ?_
      refine x_iload3 C d_X_unmap_39 ?_
      refine x_iaddN C d_X_unmap_40 ?_
      refine x_icmp_geN C d_X_unmap_41 (by omega) (by omega) (fun h => ?_) (fun h => ?_)
      · exact absurd h (by omega)
      · refine x_aload0 C d_X_unmap_44 ?_
        refine x_iload6 C d_X_unmap_45 ?_
        refine x_cI1 C k_X_57 d_X_unmap_47 (cv_has a hu (by omega)) (fun r u2 hw => ?_)
        obtain ⟨e, rfl⟩ := hw
        rw [e, unmV_at]
        clear e u2
        refine x_if_eq C d_X_unmap_50 (fun h3 => ?_) (fun h3 => ?_)
        · have hv := no_of h3
          refine x_iincN6 C d_X_unmap_62 ?_
          refine x_goto C d_X_unmap_65 ?_
          rw [cnR_f (P := fun q => (v q).isSome) (by rw [hv]; rfl)]
          refine ih (j + 1) _ (by omega) ?_
          rw [← unmV_n hv]
          exact hu
        · refine x_aload0 C d_X_unmap_53 ?_
          refine x_iload6 C d_X_unmap_54 ?_
          refine x_cV1 C k_X_64 d_X_unmap_56 (cv_takeOut a hu (by omega) (by rw [unmV_at]; exact bI_ne h3)) (fun u2 hw => ?_)
          refine x_iincN5 C d_X_unmap_59 ?_
          refine x_iincN6 C d_X_unmap_62 ?_
          refine x_goto C d_X_unmap_65 ?_
          rw [cnR_t (P := fun q => (v q).isSome) (bI_ne h3)]
          refine ih (j + 1) _ (by omega) ?_
          rw [← unmV_s]
          exact hw
  refine x_bipush C d_X_unmap_20 kB_32 ?_
  refine x_iload1 C d_X_unmap_22 ?_
  refine x_imulN C d_X_unmap_23 ?_
  refine x_iload2 C d_X_unmap_24 ?_
  refine x_iaddN C d_X_unmap_25 ?_
  refine x_istore4 C d_X_unmap_26 ?_
  refine x_iconst C d_X_unmap_28 kI_0 ?_
  refine x_istore5 C d_X_unmap_29 ?_
  refine x_iload4 C d_X_unmap_31 ?_
  refine x_istore6 C d_X_unmap_33 ?_
  exact loop k' 0 σ (by omega) (by rw [unmV_0]; exact hI)
theorem cnV_map {v : vT} {i : Nat} : ∀ {k : Nat}, i + k ≤ 64 → cnV (mapV v i k) = cnV v + cnR (fun q => (v q).isNone) i k
  | 0, _ => by rw [mapV_0]; rfl
  | k + 1, h => by
    have ih := cnV_map (v := v) (i := i) (k := k) (by omega)
    rw [cnR]
    cases hv : v (i + k) with
    | none =>
      have e := cnt_add (P := fun q => (mapV v i k q).isSome) (Q := fun q => (mapV v i (k + 1) q).isSome) (p := i + k) (N := 64) (by omega) (by rw [mapV_at, hv]; rfl) (by rw [← mapV_n hv, vs, if_pos rfl]; rfl) (fun q _ hq => by rw [← mapV_n hv, vs, if_neg hq])
      unfold cnV at ih ⊢
      rw [e, ih]
      rfl
    | some y =>
      rw [← mapV_y (by rw [hv]; rfl), ih]
      rfl
theorem cnR_m {P : Nat → Bool} {i j k : Nat} (h : j ≤ k) : cnR P i j ≤ cnR P i k := by
  obtain ⟨d, rfl⟩ : ∃ d, k = j + d := ⟨k - j, by omega⟩
  rw [cnR_add]
  omega
theorem c_X_map (a : xA) (σ : xT) {n : Nat} {v : vT} (hI : XI σ n v) (s g k : Int32) : MI a (xP a) y_X_map b_X_map 7 (some .int) 3 [.ref (a.2.2.2 0), .int s, .int g, .int k] σ (XPo n (gSR s g k v (fun s g k => T_map n v (32 * s + g) k))) := by
  refine MI.ofI (L0 := [some (.ref (a.2.2.2 0)), some (.int s), some (.int g), some (.int k), none, none, none]) (by decide) (by simp [Value.category]) (Nat.le_of_ble_eq_true rfl) rfl (fun _ => rfl) (fun Γ C E => ?_)
  refine x_iload1 C d_X_map_0 ?_
  refine x_sI1 C k_X_45 d_X_map_1 (c_X_isSpace a (fun _ _ => rfl) σ s) (fun r u hw => ?_)
  obtain ⟨e, rfl⟩ := hw
  rw [e]
  clear e u
  refine x_if_ne C d_X_map_4 (fun h1 => ?_) (fun h1 => ?_)
  rotate_left
  · refine x_iconst C d_X_map_7 kI_m1 ?_
    exact E d_X_map_8 (XPo_of (gSR_1 (bI_0.mp h1)) hI)
  obtain ⟨s', hs', rfl⟩ := sp_t (bI_ne h1)
  refine x_iload2 C d_X_map_9 ?_
  refine x_iload3 C d_X_map_10 ?_
  refine x_sI2 C k_X_53 d_X_map_11 (c_X_isRange a (fun _ _ => rfl) σ g k) (fun r u hw => ?_)
  obtain ⟨e, rfl⟩ := hw
  rw [e]
  clear e u
  refine x_if_ne C d_X_map_14 (fun h2 => ?_) (fun h2 => ?_)
  rotate_left
  · refine x_bipush C d_X_map_17 kB_m2 ?_
    exact E d_X_map_19 (XPo_of (gSR_2 hs' (bI_0.mp h2)) hI)
  obtain ⟨g', k', hk1, hk2, rfl, rfl⟩ := rg_t (bI_ne h2)
  rw [gSR_3 hs' hk1 hk2] at E
  have h48 := hI.n48
  have h64 := cnV_64 v
  have hcr := cnR_le (fun q => (v q).isNone) (32 * s' + g') k'
  have loop2 : ∀ m j u, j + m = k' → cnV v + cnR (fun q => (v q).isNone) (32 * s' + g') k' ≤ n → XI u n (mapV v (32 * s' + g') j) → xW Γ a (xP a) u 83 [some (.ref (a.2.2.2 0)), some (.int (nI s')), some (.int (nI g')), some (.int (nI k')), some (.int (nI (32 * s' + g'))), some (.int (nI (cnR (fun q => (v q).isNone) (32 * s' + g') k'))), some (.int (nI (32 * s' + g' + j)))] [] := by
    intro m
    induction m with
    | zero =>
      intro j u hj hle hu
      have hj : j = k' := by omega
      subst hj
      refine x_iload6 C d_X_map_83 ?_
      refine x_iload4 C d_X_map_85 ?_
      refine x_iload3 C d_X_map_87 ?_
      refine x_iaddN C d_X_map_88 ?_
      refine x_icmp_geN C d_X_map_89 (by omega) (by omega) (fun h => ?_) (fun h => ?_)
      · refine x_iload5 C d_X_map_115 ?_
        exact E d_X_map_117 (XPo_of (by rw [T_map, if_neg (by omega)]) hu)
      · exact absurd h (by omega)
    | succ m ih =>
      intro j u hj hle hu
      refine x_iload6 C d_X_map_83 ?_
      refine x_iload4 C d_X_map_85 ?_
      refine x_iload3 C d_X_map_87 ?_
      refine x_iaddN C d_X_map_88 ?_
      refine x_icmp_geN C d_X_map_89 (by omega) (by omega) (fun h => ?_) (fun h => ?_)
      · exact absurd h (by omega)
      · refine x_aload0 C d_X_map_92 ?_
        refine x_iload6 C d_X_map_93 ?_
        refine x_cI1 C k_X_57 d_X_map_95 (cv_has a hu (by omega)) (fun r u2 hw => ?_)
        obtain ⟨e, rfl⟩ := hw
        rw [e, mapV_at]
        clear e u2
        refine x_if_ne C d_X_map_98 (fun h3 => ?_) (fun h3 => ?_)
        · obtain ⟨o, x, hv⟩ := so_of h3
          refine x_iincN6 C d_X_map_109 ?_
          refine x_goto C d_X_map_112 ?_
          refine ih (j + 1) _ (by omega) hle ?_
          rw [← mapV_y (by rw [hv]; rfl)]
          exact hu
        · have hv := no_of h3
          have hcm := cnV_map (v := v) (i := 32 * s' + g') (k := j) (by omega)
          have hct := cnR_t (P := fun q => (v q).isNone) (i := 32 * s' + g') (k := j) (by rw [hv]; rfl)
          have hmo := cnR_m (P := fun q => (v q).isNone) (i := 32 * s' + g') (j := j + 1) (k := k') (by omega)
          refine x_aload0 C d_X_map_101 ?_
          refine x_iload6 C d_X_map_102 ?_
          refine x_iconst C d_X_map_104 kI_1 ?_
          refine x_iconst C d_X_map_105 kI_0 ?_
          refine x_cV3 C k_X_60 d_X_map_106 (cv_bringIn a (nI 1) (nI 0) hu (by omega) (by rw [mapV_at, hv]) (by omega) zb_1) (fun u2 hw => ?_)
          refine x_iincN6 C d_X_map_109 ?_
          refine x_goto C d_X_map_112 ?_
          refine ih (j + 1) _ (by omega) hle ?_
          rw [← mapV_n hv]
          exact hw
  have loop1 : ∀ m j, j + m = k' → xW Γ a (xP a) σ 35 [some (.ref (a.2.2.2 0)), some (.int (nI s')), some (.int (nI g')), some (.int (nI k')), some (.int (nI (32 * s' + g'))), some (.int (nI (cnR (fun q => (v q).isNone) (32 * s' + g') j))), some (.int (nI (32 * s' + g' + j)))] [] := by
    intro m
    induction m with
    | zero =>
      intro j hj
      have hj : j = k' := by omega
      subst hj
      refine x_iload6 C d_X_map_35 ?_
      refine x_iload4 C d_X_map_37 ?_
      refine x_iload3 C d_X_map_39 ?_
      refine x_iaddN C d_X_map_40 ?_
      refine x_icmp_geN C d_X_map_41 (by omega) (by omega) (fun h => ?_) (fun h => ?_)
      · refine x_aload0 C d_X_map_62 ?_
        refine x_g10 C d_X_map_63 ?_
        rw [hI.used]
        refine x_iload5 C d_X_map_66 ?_
        refine x_iaddN C d_X_map_68 ?_
        refine x_aload0 C d_X_map_69 ?_
        refine x_g9 C d_X_map_70 ?_
        rw [hI.fc]
        refine x_icmp_leN C d_X_map_73 (by omega) (by omega) (fun h4 => ?_) (fun h4 => ?_)
        · refine x_iload4 C d_X_map_79 ?_
          refine x_istore6 C d_X_map_81 ?_
          exact loop2 j 0 σ (by omega) h4 (by rw [mapV_0]; exact hI)
        · refine x_bipush C d_X_map_76 kB_m3 ?_
          exact E d_X_map_78 (XPo_of (by rw [T_map, if_pos h4]) hI)
      · exact absurd h (by omega)
    | succ m ih =>
      intro j hj
      refine x_iload6 C d_X_map_35 ?_
      refine x_iload4 C d_X_map_37 ?_
      refine x_iload3 C d_X_map_39 ?_
      refine x_iaddN C d_X_map_40 ?_
      refine x_icmp_geN C d_X_map_41 (by omega) (by omega) (fun h => ?_) (fun h => ?_)
      · exact absurd h (by omega)
      · refine x_aload0 C d_X_map_44 ?_
        refine x_iload6 C d_X_map_45 ?_
        refine x_cI1 C k_X_57 d_X_map_47 (cv_has a hI (by omega)) (fun r u2 hw => ?_)
        obtain ⟨e, rfl⟩ := hw
        rw [e]
        clear e u2
        refine x_if_ne C d_X_map_50 (fun h3 => ?_) (fun h3 => ?_)
        · obtain ⟨o, x, hv⟩ := so_of h3
          refine x_iincN6 C d_X_map_56 ?_
          refine x_goto C d_X_map_59 ?_
          rw [cnR_f (P := fun q => (v q).isNone) (by rw [hv]; rfl)]
          exact ih (j + 1) (by omega)
        · refine x_iincN5 C d_X_map_53 ?_
          refine x_iincN6 C d_X_map_56 ?_
          refine x_goto C d_X_map_59 ?_
          rw [cnR_t (P := fun q => (v q).isNone) (by rw [no_of h3]; rfl)]
          exact ih (j + 1) (by omega)
  refine x_bipush C d_X_map_20 kB_32 ?_
  refine x_iload1 C d_X_map_22 ?_
  refine x_imulN C d_X_map_23 ?_
  refine x_iload2 C d_X_map_24 ?_
  refine x_iaddN C d_X_map_25 ?_
  refine x_istore4 C d_X_map_26 ?_
  refine x_iconst C d_X_map_28 kI_0 ?_
  refine x_istore5 C d_X_map_29 ?_
  refine x_iload4 C d_X_map_31 ?_
  refine x_istore6 C d_X_map_33 ?_
  exact loop1 k' 0 (by omega)
theorem c_X_protect (a : xA) (σ : xT) {n : Nat} {v : vT} (hI : XI σ n v) (s g k f : Int32) : MI a (xP a) y_X_protect b_X_protect 9 (some .int) 2 [.ref (a.2.2.2 0), .int s, .int g, .int k, .int f] σ (XPo n (gSR s g k v (fun s g k => T_prot v (32 * s + g) k (wF f)))) := by
  refine MI.ofI (L0 := [some (.ref (a.2.2.2 0)), some (.int s), some (.int g), some (.int k), some (.int f), none, none, none, none]) (by decide) (by simp [Value.category]) (Nat.le_of_ble_eq_true rfl) rfl (fun _ => rfl) (fun Γ C E => ?_)
  refine x_iload1 C d_X_protect_0 ?_
  refine x_sI1 C k_X_45 d_X_protect_1 (c_X_isSpace a (fun _ _ => rfl) σ s) (fun r u hw => ?_)
  obtain ⟨e, rfl⟩ := hw
  rw [e]
  clear e u
  refine x_if_ne C d_X_protect_4 (fun h1 => ?_) (fun h1 => ?_)
  rotate_left
  · refine x_iconst C d_X_protect_7 kI_m1 ?_
    exact E d_X_protect_8 (XPo_of (gSR_1 (bI_0.mp h1)) hI)
  obtain ⟨s', hs', rfl⟩ := sp_t (bI_ne h1)
  refine x_iload2 C d_X_protect_9 ?_
  refine x_iload3 C d_X_protect_10 ?_
  refine x_sI2 C k_X_53 d_X_protect_11 (c_X_isRange a (fun _ _ => rfl) σ g k) (fun r u hw => ?_)
  obtain ⟨e, rfl⟩ := hw
  rw [e]
  clear e u
  refine x_if_ne C d_X_protect_14 (fun h2 => ?_) (fun h2 => ?_)
  rotate_left
  · refine x_bipush C d_X_protect_17 kB_m2 ?_
    exact E d_X_protect_19 (XPo_of (gSR_2 hs' (bI_0.mp h2)) hI)
  obtain ⟨g', k', hk1, hk2, rfl, rfl⟩ := rg_t (bI_ne h2)
  rw [gSR_3 hs' hk1 hk2] at E
  have loop : ∀ m j u w8, j + m = k' → XI u n (prV v (32 * s' + g') j (wF f)) → xW Γ a (xP a) u 35 [some (.ref (a.2.2.2 0)), some (.int (nI s')), some (.int (nI g')), some (.int (nI k')), some (.int f), some (.int (nI (32 * s' + g'))), some (.int (nI (cnR (chB v (wF f)) (32 * s' + g') j))), some (.int (nI (32 * s' + g' + j))), w8] [] := by
    intro m
    induction m with
    | zero =>
      intro j u w8 hj hu
      have hj : j = k' := by omega
      subst hj
      refine x_iload7 C d_X_protect_35 ?_
      refine x_iload5 C d_X_protect_37 ?_
      refine x_iload3 C d_X_protect_39 ?_
      refine x_iaddN C d_X_protect_40 ?_
      refine x_icmp_geN C d_X_protect_41 (by omega) (by omega) (fun h => ?_) (fun h => ?_)
      · refine x_iload6 C d_X_protect_101 ?_
        exact E d_X_protect_103 (XPo_of rfl hu)
      · exact absurd h (by omega)
    | succ m ih =>
      intro j u w8 hj hu
      have keep : chB v (wF f) (32 * s' + g' + j) = false → ∀ w8, xW Γ a (xP a) u 95 [some (.ref (a.2.2.2 0)), some (.int (nI s')), some (.int (nI g')), some (.int (nI k')), some (.int f), some (.int (nI (32 * s' + g'))), some (.int (nI (cnR (chB v (wF f)) (32 * s' + g') j))), some (.int (nI (32 * s' + g' + j))), w8] [] := by
        intro hc w8
        refine x_iincN7 C d_X_protect_95 ?_
        refine x_goto C d_X_protect_98 ?_
        rw [cnR_f hc]
        refine ih (j + 1) _ _ (by omega) ?_
        rw [← prV_k hc]
        exact hu
      refine x_iload7 C d_X_protect_35 ?_
      refine x_iload5 C d_X_protect_37 ?_
      refine x_iload3 C d_X_protect_39 ?_
      refine x_iaddN C d_X_protect_40 ?_
      refine x_icmp_geN C d_X_protect_41 (by omega) (by omega) (fun h => ?_) (fun h => ?_)
      · exact absurd h (by omega)
      · refine x_aload0 C d_X_protect_44 ?_
        refine x_iload7 C d_X_protect_45 ?_
        refine x_cI1 C k_X_57 d_X_protect_47 (cv_has a hu (by omega)) (fun r u2 hw => ?_)
        obtain ⟨e, rfl⟩ := hw
        rw [e, prV_at]
        clear e u2
        refine x_if_eq C d_X_protect_50 (fun h3 => ?_) (fun h3 => ?_)
        · exact keep (by rw [chB, no_of h3]) _
        · obtain ⟨o, x, hv⟩ := so_of h3
          have hv' : prV v (32 * s' + g') j (wF f) (32 * s' + g' + j) = some (o, x) := by rw [prV_at, hv]
          refine x_aload0 C d_X_protect_53 ?_
          refine x_iload7 C d_X_protect_54 ?_
          refine x_cI1 C k_X_68 d_X_protect_56 (cv_mayWrite a hu (by omega) hv') (fun r u2 hw => ?_)
          obtain ⟨e, e2⟩ := hw
          rw [e, e2]
          clear e e2 u2 r
          have set : ¬ o = wF f → xW Γ a (xP a) u 89 [some (.ref (a.2.2.2 0)), some (.int (nI s')), some (.int (nI g')), some (.int (nI k')), some (.int f), some (.int (nI (32 * s' + g'))), some (.int (nI (cnR (chB v (wF f)) (32 * s' + g') j))), some (.int (nI (32 * s' + g' + j))), some (.int o)] [.int (wF f), .int (nI (32 * s' + g' + j)), .ref (a.2.2.2 0)] := by
            intro hne
            refine x_cV2 C k_X_71 d_X_protect_89 (cv_setWrite a hu (by omega) hv' (zb_wF f)) (fun u2 hw => ?_)
            refine x_iincN6 C d_X_protect_92 ?_
            refine x_iincN7 C d_X_protect_95 ?_
            refine x_goto C d_X_protect_98 ?_
            rw [cnR_t (P := chB v (wF f)) (by rw [chB, hv]; simp [hne])]
            refine ih (j + 1) _ _ (by omega) ?_
            rw [← prV_s hv]
            exact hw
          have cmp : xW Γ a (xP a) u 73 [some (.ref (a.2.2.2 0)), some (.int (nI s')), some (.int (nI g')), some (.int (nI k')), some (.int f), some (.int (nI (32 * s' + g'))), some (.int (nI (cnR (chB v (wF f)) (32 * s' + g') j))), some (.int (nI (32 * s' + g' + j))), some (.int o)] [.int (wF f), .int o] := by
            refine x_icmp_eq C d_X_protect_73 (fun h4 => ?_) (fun h4 => ?_)
            · exact keep (by rw [chB, hv]; simp [h4]) _
            · have set := set h4
              refine x_aload0 C d_X_protect_76 ?_
              refine x_iload7 C d_X_protect_77 ?_
              refine x_iload4 C d_X_protect_79 ?_
              refine x_if_eq C d_X_protect_81 (fun h5 => ?_) (fun h5 => ?_)
              · refine x_iconst C d_X_protect_88 kI_0 ?_
                have e : wF f = nI 0 := by rw [wF, if_pos h5]
                rw [← e]
                exact set
              · refine x_iconst C d_X_protect_84 kI_1 ?_
                refine x_goto C d_X_protect_85 ?_
                have e : wF f = nI 1 := by rw [wF, if_neg h5]
                rw [← e]
                exact set
          refine x_istore8 C d_X_protect_59 ?_
          refine x_iload8 C d_X_protect_61 ?_
          refine x_iload4 C d_X_protect_63 ?_
          refine x_if_eq C d_X_protect_65 (fun h5 => ?_) (fun h5 => ?_)
          · refine x_iconst C d_X_protect_72 kI_0 ?_
            have e : wF f = nI 0 := by rw [wF, if_pos h5]
            rw [← e]
            exact cmp
          · refine x_iconst C d_X_protect_68 kI_1 ?_
            refine x_goto C d_X_protect_69 ?_
            have e : wF f = nI 1 := by rw [wF, if_neg h5]
            rw [← e]
            exact cmp
  refine x_bipush C d_X_protect_20 kB_32 ?_
  refine x_iload1 C d_X_protect_22 ?_
  refine x_imulN C d_X_protect_23 ?_
  refine x_iload2 C d_X_protect_24 ?_
  refine x_iaddN C d_X_protect_25 ?_
  refine x_istore5 C d_X_protect_26 ?_
  refine x_iconst C d_X_protect_28 kI_0 ?_
  refine x_istore6 C d_X_protect_29 ?_
  refine x_iload5 C d_X_protect_31 ?_
  refine x_istore7 C d_X_protect_33 ?_
  exact loop k' 0 σ _ (by omega) (by rw [prV_0]; exact hI)
theorem c_X_stamp (a : xA) (σ : xT) {n : Nat} {v : vT} (hI : XI σ n v) (s r x : Int32) : MI a (xP a) y_X_stamp b_X_stamp 7 (some .int) 2 [.ref (a.2.2.2 0), .int s, .int r, .int x] σ (XPo n (gST s r v (fun s g k => T_stamp v (32 * s + g) k x))) := by
  refine MI.ofI (L0 := [some (.ref (a.2.2.2 0)), some (.int s), some (.int r), some (.int x), none, none, none]) (by decide) (by simp [Value.category]) (Nat.le_of_ble_eq_true rfl) rfl (fun _ => rfl) (fun Γ C E => ?_)
  refine x_iload1 C d_X_stamp_0 ?_
  refine x_sI1 C k_X_45 d_X_stamp_1 (c_X_isSpace a (fun _ _ => rfl) σ s) (fun r u hw => ?_)
  obtain ⟨e, rfl⟩ := hw
  rw [e]
  clear e u
  refine x_if_ne C d_X_stamp_4 (fun h1 => ?_) (fun h1 => ?_)
  rotate_left
  · refine x_iconst C d_X_stamp_7 kI_m1 ?_
    exact E d_X_stamp_8 (XPo_of (gST_1 (bI_0.mp h1)) hI)
  obtain ⟨s', hs', rfl⟩ := sp_t (bI_ne h1)
  refine x_iload2 C d_X_stamp_9 ?_
  refine x_if_lt C d_X_stamp_10 (fun h2 => ?_) (fun h2 => ?_)
  · refine x_bipush C d_X_stamp_27 kB_m2 ?_
    exact E d_X_stamp_29 (XPo_of (gST_2 hs' h2) hI)
  obtain ⟨ρ, hρ, rfl⟩ := nI_of h2
  have e6 : nI ρ >>> (nI 6 &&& 31) = nI (ρ / 64) := pk_shrN hρ _ 6 (by decide +kernel)
  have e63 : nI ρ &&& nI 63 = nI (ρ % 64) := pk_andN (by omega) 6 (by decide +kernel)
  refine x_iload2 C d_X_stamp_13 ?_
  refine x_bipush C d_X_stamp_14 kB_6 ?_
  refine x_ishr C d_X_stamp_16 e6 ?_
  refine x_iload2 C d_X_stamp_17 ?_
  refine x_bipush C d_X_stamp_18 kB_63 ?_
  refine x_iand C d_X_stamp_20 e63 ?_
  refine x_sI2 C k_X_53 d_X_stamp_21 (c_X_isRange a (fun _ _ => rfl) σ _ _) (fun r u hw => ?_)
  obtain ⟨e, rfl⟩ := hw
  rw [e]
  clear e u
  refine x_if_ne C d_X_stamp_24 (fun h3 => ?_) (fun h3 => ?_)
  rotate_left
  · refine x_bipush C d_X_stamp_27 kB_m2 ?_
    exact E d_X_stamp_29 (XPo_of (gST_3 hs' hρ (bI_0.mp h3)) hI)
  rw [gST_4 hs' hρ (bI_ne h3)] at E
  obtain ⟨hk1, hk2⟩ := rg_d hρ (bI_ne h3)
  generalize ρ / 64 = g' at E hk2 e6 ⊢
  generalize ρ % 64 = k' at E hk1 hk2 e63 ⊢
  have loop : ∀ m j u, j + m = k' → XI u n (stV v (32 * s' + g') j x) → xW Γ a (xP a) u 48 [some (.ref (a.2.2.2 0)), some (.int (nI s')), some (.int (nI ρ)), some (.int x), some (.int (nI (32 * s' + g'))), some (.int (nI (cnR (fun q => (v q).isSome) (32 * s' + g') j))), some (.int (nI (32 * s' + g' + j)))] [] := by
    intro m
    induction m with
    | zero =>
      intro j u hj hu
      have hj : j = k' := by omega
      subst hj
      refine x_iload6 C d_X_stamp_48 ?_
      refine x_iload4 C d_X_stamp_50 ?_
      refine x_iload2 C d_X_stamp_52 ?_
      refine x_bipush C d_X_stamp_53 kB_63 ?_
      refine x_iand C d_X_stamp_55 e63 ?_
      refine x_iaddN C d_X_stamp_56 ?_
      refine x_icmp_geN C d_X_stamp_57 (by omega) (by omega) (fun h => ?_) (fun h => ?_)
      · refine x_iload5 C d_X_stamp_88 ?_
        exact E d_X_stamp_90 (XPo_of rfl hu)
      · exact absurd h (by omega)
    | succ m ih =>
      intro j u hj hu
      refine x_iload6 C d_X_stamp_48 ?_
      refine x_iload4 C d_X_stamp_50 ?_
      refine x_iload2 C d_X_stamp_52 ?_
      refine x_bipush C d_X_stamp_53 kB_63 ?_
      refine x_iand C d_X_stamp_55 e63 ?_
      refine x_iaddN C d_X_stamp_56 ?_
      refine x_icmp_geN C d_X_stamp_57 (by omega) (by omega) (fun h => ?_) (fun h => ?_)
      · exact absurd h (by omega)
      · refine x_aload0 C d_X_stamp_60 ?_
        refine x_iload6 C d_X_stamp_61 ?_
        refine x_cI1 C k_X_57 d_X_stamp_63 (cv_has a hu (by omega)) (fun r u2 hw => ?_)
        obtain ⟨e, rfl⟩ := hw
        rw [e, stV_at]
        clear e u2
        refine x_if_eq C d_X_stamp_66 (fun h3 => ?_) (fun h3 => ?_)
        · have hv := no_of h3
          refine x_iincN6 C d_X_stamp_82 ?_
          refine x_goto C d_X_stamp_85 ?_
          rw [cnR_f (P := fun q => (v q).isSome) (by rw [hv]; rfl)]
          refine ih (j + 1) _ (by omega) ?_
          rw [← stV_k hv]
          exact hu
        · obtain ⟨o, z, hv⟩ := so_of h3
          have hv' : stV v (32 * s' + g') j x (32 * s' + g' + j) = some (o, z) := by rw [stV_at, hv]
          refine x_aload0 C d_X_stamp_69 ?_
          refine x_iload6 C d_X_stamp_70 ?_
          refine x_iload3 C d_X_stamp_72 ?_
          refine x_iload5 C d_X_stamp_73 ?_
          refine x_iadd C d_X_stamp_75 rfl ?_
          refine x_cV2 C k_X_81 d_X_stamp_76 (cv_setContent a _ hu (by omega) hv') (fun u2 hw => ?_)
          refine x_iincN5 C d_X_stamp_79 ?_
          refine x_iincN6 C d_X_stamp_82 ?_
          refine x_goto C d_X_stamp_85 ?_
          rw [cnR_t (P := fun q => (v q).isSome) (by rw [hv]; rfl)]
          refine ih (j + 1) _ (by omega) ?_
          rw [← stV_s hv]
          exact hw
  refine x_bipush C d_X_stamp_30 kB_32 ?_
  refine x_iload1 C d_X_stamp_32 ?_
  refine x_imulN C d_X_stamp_33 ?_
  refine x_iload2 C d_X_stamp_34 ?_
  refine x_bipush C d_X_stamp_35 kB_6 ?_
  refine x_ishr C d_X_stamp_37 e6 ?_
  refine x_iaddN C d_X_stamp_38 ?_
  refine x_istore4 C d_X_stamp_39 ?_
  refine x_iconst C d_X_stamp_41 kI_0 ?_
  refine x_istore5 C d_X_stamp_42 ?_
  refine x_iload4 C d_X_stamp_44 ?_
  refine x_istore6 C d_X_stamp_46 ?_
  exact loop k' 0 σ (by omega) (by rw [stV_0]; exact hI)
end
section
/-! The constructors -/
theorem ac_I : Cond.arrayClass .int ∈ xw_T := xw_in (i := 69) rfl rfl
theorem ac_Z : Cond.arrayClass .boolean ∈ xw_T := xw_in (i := 70) rfl rfl
theorem ob_X : Cond.methodLink R_X 1 objectInit ∈ xw_T := xw_in (i := 29) rfl rfl
theorem ob_M : Cond.methodLink R_M 1 objectInit ∈ xw_T := xw_in (i := 223) rfl rfl
theorem ob_i : Cond.instanceMethod objectInit ∈ xw_T := xw_in (i := 30) rfl rfl
theorem ob_c : Cond.code objectInit ⟨#[0xb1]⟩ 1 none ∈ xw_T := xw_in (i := 31) rfl rfl
theorem nw_X_l : Cond.classLink R_law 7 R_X ∈ xw_T := xw_in (i := 24) rfl rfl
theorem nw_X_n : Cond.instantiable R_X 12 ∈ xw_T := xw_in (i := 25) rfl rfl
theorem nw_X_i : Cond.initialized R_X ∈ xw_T := xw_in (i := 22) rfl rfl
theorem nw_X_m : Cond.methodLink R_law 15 y_X_init ∈ xw_T := xw_in (i := 26) rfl rfl
theorem nw_X_j : Cond.instanceMethod y_X_init ∈ xw_T := xw_in (i := 27) rfl rfl
theorem nw_X_c : Cond.code y_X_init b_X_init 4 none ∈ xw_T := xw_in (i := 28) rfl rfl
theorem nw_M_l : Cond.classLink R_law 18 R_M ∈ xw_T := xw_in (i := 218) rfl rfl
theorem nw_M_n : Cond.instantiable R_M 4 ∈ xw_T := xw_in (i := 219) rfl rfl
theorem nw_M_i : Cond.initialized R_M ∈ xw_T := xw_in (i := 23) rfl rfl
theorem nw_M_m : Cond.methodLink R_law 20 y_M_init ∈ xw_T := xw_in (i := 220) rfl rfl
theorem nw_M_j : Cond.instanceMethod y_M_init ∈ xw_T := xw_in (i := 221) rfl rfl
theorem nw_M_c : Cond.code y_M_init b_M_init 3 none ∈ xw_T := xw_in (i := 222) rfl rfl
def nC (f : Int32) : Nat := if f < nI 8 then 8 else if nI 48 < f then 48 else f.toNatClampNeg
def nF (f : Int32) : Nat := nC f - nC f % 8
theorem nC_c (f : Int32) : 8 ≤ nC f ∧ nC f ≤ 48 := by
  unfold nC
  split
  · omega
  · next h1 =>
    split
    · omega
    · next h2 =>
      have h0 : ¬ f < 0 := fun q => h1 (by
        rw [Int32.lt_iff_toInt_lt] at q ⊢
        rw [nI_toInt (by decide)]
        rw [Int32.toInt_zero] at q
        omega)
      obtain ⟨j, j1, rfl⟩ := nI_of h0
      rw [nI_ltI j1 (by decide)] at h1
      rw [nI_ltI (by decide) j1] at h2
      rw [nI_clamp j1]
      omega
theorem nC_e {f : Int32} (h1 : ¬ f < nI 8) (h2 : ¬ nI 48 < f) : f = nI (nC f) := by
  have h0 : ¬ f < 0 := fun q => h1 (by
    rw [Int32.lt_iff_toInt_lt] at q ⊢
    rw [nI_toInt (by decide)]
    rw [Int32.toInt_zero] at q
    omega)
  obtain ⟨j, j1, rfl⟩ := nI_of h0
  unfold nC
  rw [if_neg h1, if_neg h2, nI_clamp j1]
theorem FI_0 (n : Nat) : FI (fun _ => 0) n (fun f => f < 0) := by
  refine ⟨fun o s _ _ h => absurd rfl h, fun f h => absurd h (Nat.not_lt_zero f), fun o s o' s' f _ _ _ _ h => absurd rfl h⟩
theorem P_init {u : xT} {n : Nat} (h9 : u 9 0 = nI n) (hn : n ≤ 48) (h8 : n % 8 = 0) (hF : FI (u 1) n (fun f => f < n)) (h3 : u 3 = fun _ => 0) (h4 : ∀ b, b < 16 → u 4 b = -1) (h5 : u 5 = fun _ => 0) (h6 : u 6 = fun _ => 0) (h7 : u 7 = fun _ => 0) (h10 : u 10 0 = 0) : XI u n (fun _ => none) := by
  have hh : ∀ q, hasB u q = false := fun q => by
    rw [hb_d, h5]
    show btB 0 (q % 4) = false
    rw [← nI0]
    exact bt_0 _ (by omega)
  have hc : ∀ N, cnt (hasB u) N = 0 := by
    intro N
    induction N with
    | zero => rfl
    | succ N ih => rw [cnt, ih, hh]; rfl
  have z0 : zb (0 : Int32) := by rw [← nI0]; exact zb_0
  refine ⟨⟨fun f => if f < n then 0 else 5000, ⟨⟨h9, hn, h8⟩, hF.to (fun f => ?_), fun b _ => ⟨0, by omega, by rw [h5, nI0]⟩, fun b hb q => absurd (h4 b hb) q, fun b f hb q => ?_, fun p _ q => ?_, fun p f hp q => ?_, fun b _ q => ?_, fun p _ q => ?_, ⟨fun p _ => by rw [h3]; exact z0, fun b _ => by rw [h7]; exact z0⟩, by rw [h10, hc, nI0], fun f hf => Or.inl (if_pos hf)⟩, fun f => ?_⟩, fun q _ => ?_⟩
  · dsimp only
    by_cases hf : f < n
    · rw [if_pos hf]; exact ⟨fun _ => rfl, fun _ => hf⟩
    · rw [if_neg hf]; exact ⟨fun z => absurd z hf, fun z => by omega⟩
  · dsimp only at q
    split at q <;> omega
  · rw [hh] at q; cases q
  · dsimp only at q
    split at q <;> omega
  · rw [h6] at q; exact absurd rfl q
  · rw [hh] at q; cases q
  · dsimp only
    split <;> omega
  · unfold vwF
    rw [hh]; rfl
theorem x_init_tail (a : xA) (f : Int32) (Γ : xG) (C : xC Γ a (xP a) b_X_init 4 R_X 0) (E : xRV Γ a (xP a) b_X_init (fun u => XI u (nF f) (fun _ => none))) :
    xW Γ a (xP a) (fun _ _ => 0) 77 [some (.ref (a.2.2.2 0)), some (.int f), none, none] [] := by
  obtain ⟨c1, c2⟩ := nC_c f
  have hn8 : nF f % 8 = 0 := by unfold nF; omega
  have hn48 : nF f ≤ 48 := by unfold nF; omega
  have ncz : ¬ nI 8 = 0 := by decide +kernel
  have loop3 : ∀ m i (τ : xT) (g : Nat → Int32), i + m = 16 → τ 9 0 = nI (nF f) → FI (τ 1) (nF f) (fun x => x < nF f) → τ 3 = (fun _ => 0) → τ 5 = (fun _ => 0) → τ 6 = (fun _ => 0) → τ 7 = (fun _ => 0) → τ 10 0 = 0 → (∀ b, b < i → g b = -1) →
      xW Γ a (xP a) (sA τ 4 g) 159 [some (.ref (a.2.2.2 0)), some (.int f), some (.int (nI (nC f))), some (.int (nI i))] [] := by
    intro m
    induction m with
    | zero =>
      intro i τ g hi h9 hF h3 h5 h6 h7 h10 hg
      have hi : i = 16 := by omega
      subst hi
      refine x_iload3 C d_X_init_159 ?_
      refine x_bipush C d_X_init_160 kB_16 ?_
      refine x_icmp_geN C d_X_init_162 (by omega) (by omega) (fun h => ?_) (fun h => ?_)
      · exact E d_X_init_178 (P_init h9 hn48 hn8 hF h3 hg h5 h6 h7 h10)
      · exact absurd h (by omega)
    | succ m ih =>
      intro i τ g hi h9 hF h3 h5 h6 h7 h10 hg
      refine x_iload3 C d_X_init_159 ?_
      refine x_bipush C d_X_init_160 kB_16 ?_
      refine x_icmp_geN C d_X_init_162 (by omega) (by omega) (fun h => ?_) (fun h => ?_)
      · exact absurd h (by omega)
      · refine x_aload0 C d_X_init_165 ?_
        refine x_g4 C d_X_init_166 ?_
        refine x_iload3 C d_X_init_169 ?_
        refine x_iconst C d_X_init_170 kI_m1 ?_
        refine x_st4 C d_X_init_171 (by omega) ?_
        refine x_iincN3 C d_X_init_172 ?_
        refine x_goto C d_X_init_175 ?_
        rw [sS_sA]
        refine ih (i + 1) τ _ (by omega) h9 hF h3 h5 h6 h7 h10 (fun b hb => ?_)
        unfold upd
        split
        · rfl
        · exact hg b (by omega)
  have loop2 : ∀ m i (τ : xT) (g : Nat → Int32), i + m = 64 → τ 9 0 = nI (nF f) → FI (τ 1) (nF f) (fun x => x < nF f) → τ 3 = (fun _ => 0) → τ 5 = (fun _ => 0) → τ 6 = (fun _ => 0) → τ 7 = (fun _ => 0) → τ 10 0 = 0 →
      xW Γ a (xP a) (sA τ 2 g) 138 [some (.ref (a.2.2.2 0)), some (.int f), some (.int (nI (nC f))), some (.int (nI i))] [] := by
    intro m
    induction m with
    | zero =>
      intro i τ g hi h9 hF h3 h5 h6 h7 h10
      have hi : i = 64 := by omega
      subst hi
      refine x_iload3 C d_X_init_138 ?_
      refine x_bipush C d_X_init_139 kB_64 ?_
      refine x_icmp_geN C d_X_init_141 (by omega) (by omega) (fun h => ?_) (fun h => ?_)
      · refine x_iconst C d_X_init_157 kI_0 ?_
        refine x_istore3 C d_X_init_158 ?_
        have h0 := loop3 16 0 (sA τ 2 g) (sA τ 2 g 4) rfl h9 hF h3 h5 h6 h7 h10 (fun b hb => absurd hb (by omega))
        rw [sA_self] at h0
        exact h0
      · exact absurd h (by omega)
    | succ m ih =>
      intro i τ g hi h9 hF h3 h5 h6 h7 h10
      refine x_iload3 C d_X_init_138 ?_
      refine x_bipush C d_X_init_139 kB_64 ?_
      refine x_icmp_geN C d_X_init_141 (by omega) (by omega) (fun h => ?_) (fun h => ?_)
      · exact absurd h (by omega)
      · refine x_aload0 C d_X_init_144 ?_
        refine x_g2 C d_X_init_145 ?_
        refine x_iload3 C d_X_init_148 ?_
        refine x_iconst C d_X_init_149 kI_m1 ?_
        refine x_st2 C d_X_init_150 (by omega) ?_
        refine x_iincN3 C d_X_init_151 ?_
        refine x_goto C d_X_init_154 ?_
        rw [sS_sA]
        exact ih (i + 1) τ _ (by omega) h9 hF h3 h5 h6 h7 h10
  have loop1 : ∀ m j (g : Nat → Int32), 8 * j + 8 * m = nF f → FI g (nF f) (fun x => x < 8 * j) →
      xW Γ a (xP a) (sA (sS (fun _ _ => 0) 9 0 (nI (nF f))) 1 g) 111 [some (.ref (a.2.2.2 0)), some (.int f), some (.int (nI (nC f))), some (.int (nI (8 * j)))] [] := by
    intro m
    induction m with
    | zero =>
      intro j g hj hg
      refine x_iload3 C d_X_init_111 ?_
      refine x_aload0 C d_X_init_112 ?_
      refine x_g9 C d_X_init_113 ?_
      refine x_top (y := nI (nF f)) rfl ?_
      refine x_icmp_geN C d_X_init_116 (by omega) (by omega) (fun h => ?_) (fun h => ?_)
      · refine x_iconst C d_X_init_136 kI_0 ?_
        refine x_istore3 C d_X_init_137 ?_
        have h0 := loop2 64 0 (sA (sS (fun _ _ => 0) 9 0 (nI (nF f))) 1 g) (fun _ => 0) rfl rfl (hg.to (fun x => by omega)) rfl rfl rfl rfl rfl
        have e : sA (sA (sS (fun _ _ => 0) 9 0 (nI (nF f))) 1 g) 2 (fun _ => 0) = sA (sS (fun _ _ => 0) 9 0 (nI (nF f))) 1 g := by
          have := sA_self (sA (sS (fun _ _ => 0) 9 0 (nI (nF f))) 1 g) 2
          exact this
        rw [e] at h0
        exact h0
      · exact absurd h (by omega)
    | succ m ih =>
      intro j g hj hg
      refine x_iload3 C d_X_init_111 ?_
      refine x_aload0 C d_X_init_112 ?_
      refine x_g9 C d_X_init_113 ?_
      refine x_top (y := nI (nF f)) rfl ?_
      refine x_icmp_geN C d_X_init_116 (by omega) (by omega) (fun h => ?_) (fun h => ?_)
      · exact absurd h (by omega)
      · refine x_aload0 C d_X_init_119 ?_
        refine x_g1 C d_X_init_120 ?_
        refine x_sipush C d_X_init_123 kS_144 ?_
        refine x_iload3 C d_X_init_126 ?_
        refine x_iaddN C d_X_init_127 ?_
        refine x_iconst C d_X_init_128 kI_1 ?_
        refine x_st1 C d_X_init_129 (by omega) (zb_nar zb_1) ?_
        refine x_iinc3 C d_X_init_130 (show nI (8 * j) + Int32.ofInt 8 = nI (8 * (j + 1)) by rw [show Int32.ofInt 8 = nI 8 by decide +kernel, nI_add, Nat.mul_succ]) ?_
        refine x_goto C d_X_init_133 ?_
        rw [sS_sA]
        refine ih (j + 1) _ (by omega) ((hg.add (o := 3) (s := 8 * j) (by omega) hn48 (by omega) (by omega) (fun x q1 q2 q3 => by omega)).to (fun x => ?_))
        constructor
        · rintro (q | q)
          · omega
          · omega
        · intro q
          by_cases h2 : x < 8 * j
          · exact Or.inl h2
          · exact Or.inr (by omega)
  have at99 : xW Γ a (xP a) (fun _ _ => 0) 99 [some (.ref (a.2.2.2 0)), some (.int f), some (.int (nI (nC f))), none] [] := by
    have e1 : nI (nC f) - nI (nC f % 8) = nI (nF f) := by rw [pk_sub (by omega)]; rfl
    refine x_aload0 C d_X_init_99 ?_
    refine x_iload2 C d_X_init_100 ?_
    refine x_iload2 C d_X_init_101 ?_
    refine x_bipush C d_X_init_102 kB_8 ?_
    refine x_irem C d_X_init_104 ncz (pk_rem (by omega) (by decide) (by decide)) ?_
    refine x_isub C d_X_init_105 e1 ?_
    refine x_p9 C d_X_init_106 ?_
    refine x_iconst C d_X_init_109 kI_0 ?_
    refine x_istore3 C d_X_init_110 ?_
    have h0 := loop1 (nF f / 8) 0 (fun _ => 0) (by omega) (FI_0 _)
    have e : sA (sS (fun _ _ => 0) 9 0 (nI (nF f))) 1 (fun _ => 0) = sS (fun _ _ => 0) 9 0 (nI (nF f)) := sA_self (sS (fun _ _ => 0) 9 0 (nI (nF f))) 1
    rw [e] at h0
    exact h0
  refine x_iload1 C d_X_init_77 ?_
  refine x_bipush C d_X_init_78 kB_8 ?_
  refine x_icmp_ge C d_X_init_80 (fun h1 => ?_) (fun h1 => ?_)
  · have h1 : ¬ f < nI 8 := fun q => lt_le.mp q h1
    refine x_iload1 C d_X_init_88 ?_
    refine x_istore2 C d_X_init_89 ?_
    refine x_iload2 C d_X_init_90 ?_
    refine x_bipush C d_X_init_91 kB_48 ?_
    refine x_icmp_le C d_X_init_93 (fun h2 => ?_) (fun h2 => ?_)
    · have h2 : ¬ nI 48 < f := fun q => lt_le.mp q h2
      have e := nC_e h1 h2
      generalize hk : nC f = k at e at99
      rw [e] at at99 ⊢
      exact at99
    · have h2 : nI 48 < f := lt_le.mpr h2
      have e : nC f = 48 := by unfold nC; rw [if_neg h1, if_pos h2]
      refine x_bipush C d_X_init_96 kB_48 ?_
      refine x_istore2 C d_X_init_98 ?_
      rw [e] at at99
      exact at99
  · have h1 : f < nI 8 := lt_le.mpr h1
    have e : nC f = 8 := by unfold nC; rw [if_pos h1]
    refine x_bipush C d_X_init_83 kB_8 ?_
    refine x_goto C d_X_init_85 ?_
    refine x_istore2 C d_X_init_89 ?_
    refine x_iload2 C d_X_init_90 ?_
    refine x_bipush C d_X_init_91 kB_48 ?_
    refine x_icmp_leN C d_X_init_93 (by omega) (by omega) (fun h2 => ?_) (fun h2 => ?_)
    · rw [e] at at99
      exact at99
    · exact absurd h2 (by omega)

def hs10 (h0 q1 q2 q3 q4 q5 q6 q7 q8 q9 : Nat) : Nat → Nat := fun k => match k with
  | 0 => h0 | 1 => q1 | 2 => q2 | 3 => q3 | 4 => q4 | 5 => q5 | 6 => q6 | 7 => q7 | 8 => q8 | _ => q9
abbrev w0X (h0 : Nat) : va_W := [(h0, .inr (0, [.null, .null, .null, .null, .null, .null, .null, .null, .null, .int 0, .int 0, .int 0]))]
set_option maxRecDepth 100000 in
/-- PageRangeStore(f): nine arrays come; no page is mapped -/
theorem c_X_init (l : Launch) (D : va_G) (cI cZ : ClassId) (h0 sz : Nat) (f : Int32) : Met l y_X_init (.code y_X_init b_X_init 4 none :: xw_T) { frames := 1, cells := 9, slots := 448, locals := 28 } (va_Pc [.ref h0, .int f] (fun U => U.heap.size = sz ∧ va_P D classes (w0X h0) U.heap ∧ va_K D classes [(cI, .int), (cZ, .boolean)] U ∧ va_D (fun _ => True) (w0X h0)))
    (va_Qv (fun u : (Nat → Nat) × xT => u.1 0 = h0 ∧ XI u.2 (nF f) (fun _ => none)) (fun u t => va_P D classes (xP (D, cI, cZ, u.1) u.2) t.heap ∧ va_D (va_A (w0X h0) sz) (xP (D, cI, cZ, u.1) u.2)) (va_A (w0X h0) sz)) 9 448 (va_A (w0X h0) sz) := by
  refine Met.ofW (cc := b_X_init) (maxL := 4) (ret := none) (by decide) rfl ?_
  intro p e s m args below meth c s₁ B hml hv
  obtain ⟨rfl, hsz, hP, hK, hD0⟩ := hv
  have hx := B.exec
  have hb := B.bytes
  have hr := B.returns
  have hts0 := atoms_spec (ws := .code y_X_init b_X_init 4 none :: xw_T) B.pre
  have hts : ∀ w ∈ xw_T, w.before ([.ref h0, .int f] : List Value).toArray s = true := fun w hw => hts0 w (List.mem_cons_of_mem _ hw)
  have hown : s.vm.findClass R_X = some m.cls := findClass_of_methodNamed B.named
  have hlocks := B.notSynchronized
  have hin : meth.name = "<init>" := (name_of_methodNamed B.named B.method).1
  subst hsz
  have hD := hD0.self (sz := s.heap.size)
  generalize hAe : va_A (w0X h0) s.heap.size = A at hD ⊢
  have hA : ∀ q : Nat, s.heap.size ≤ q → A q := fun q h => by rw [← hAe]; exact Or.inr h
  have hS : va_S A s.heap s.heap [] := va_S.rf
  have hl0 := lv_entry ([.ref h0, .int f]) (n := 4) (Nat.le_of_ble_eq_true rfl)
  rw [lg_entry_eq]
  generalize (lg_sl ([.ref h0, .int f]) ++ List.replicate (4 - (lg_sl ([.ref h0, .int f])).length) Slot.unset).toArray = ls at hl0 ⊢
  have hl : lv_has ls 4 [(0, .ref h0), (1, .int f)] := hl0
  refine lv_aload_n hx hb d_X_init_0.1 rfl (lv_at hl 0 rfl) ?_
  refine W.objInit hx hb hown (hts _ ob_X) (hts _ ob_i) (hts _ ob_c) rfl (by rw [hml]; exact hl.1) rfl d_X_init_1.1 (Nat.le_of_ble_eq_true rfl) (Nat.le_of_ble_eq_true rfl) ?_
  refine W.eq (g2 := F0 m 4 ls []) rfl ?_
  refine lv_aload_n hx hb d_X_init_4.1 rfl (lv_at hl 0 rfl) ?_
  refine lv_bipush (v := 48) hx hb d_X_init_5.1 (by decide) ?_
  refine va_newa (atype := .int) (a0 := (48, .inl (fun _ => 0))) (N' := 48) hx hb (hts (.arrayClass .int) ac_I) rfl hK hP hD hS hA (fun _ => rfl) (by decide) (by decide) (by decide) (Nat.le_of_ble_eq_true rfl) (Nat.le_of_ble_eq_true rfl) d_X_init_7.1 (fun q1 c1 H hK1 hP hD hS => ?_)
  have z1 : s.vm.findClass ("[" ++ FieldType.int.toString) = some c1 := (hK1.2 2 _ rfl).2
  have z2 : s.vm.findClass ("[" ++ FieldType.int.toString) = some cI := (hK1.2 0 _ rfl).2
  have z3 : cI = c1 := Option.some.inj (z2.symm.trans z1)
  subst z3
  clear z1 z2 hK1
  have hP : va_P D classes [(h0, .inr (0, [.null, .null, .null, .null, .null, .null, .null, .null, .null, .int 0, .int 0, .int 0])), (q1, .inl (cI, 48, .inl (fun _ => 0)))] H := hP
  have hD : va_D A [(h0, .inr (0, [.null, .null, .null, .null, .null, .null, .null, .null, .null, .int 0, .int 0, .int 0])), (q1, .inl (cI, 48, .inl (fun _ => 0)))] := hD
  refine va_putF (D := D) (ci := 0) (v := .ref q1) (ty := .array .int) (C := R_X) (T := F_X) (N := 12) hx hb hts i_X t_X t_X_ok n_X hown hK hP hD hS 0 rfl rfl 0 (by decide) (hts _ f_X_0) (fun _ h9 => h9) rfl hin rfl (by decide +kernel) rfl rfl (Nat.le_of_ble_eq_true rfl) d_X_init_9.1 (fun H locs hP hD hS => ?_)
  have hP : va_P D classes [(h0, .inr (0, [.ref q1, .null, .null, .null, .null, .null, .null, .null, .null, .int 0, .int 0, .int 0])), (q1, .inl (cI, 48, .inl (fun _ => 0)))] H := hP
  have hD : va_D A [(h0, .inr (0, [.ref q1, .null, .null, .null, .null, .null, .null, .null, .null, .int 0, .int 0, .int 0])), (q1, .inl (cI, 48, .inl (fun _ => 0)))] := hD
  refine lv_aload_n hx hb d_X_init_12.1 rfl (lv_at hl 0 rfl) ?_
  refine lv_sipush (v := 192) hx hb d_X_init_13.1 (by decide) ?_
  refine va_newa (atype := .boolean) (a0 := (192, .inl (fun _ => 0))) (N' := 192) hx hb (hts (.arrayClass .boolean) ac_Z) rfl hK hP hD hS hA (fun _ => rfl) (by decide) (by decide) (by decide) (Nat.le_of_ble_eq_true rfl) (Nat.le_of_ble_eq_true rfl) d_X_init_16.1 (fun q2 c1 H hK1 hP hD hS => ?_)
  have z1 : s.vm.findClass ("[" ++ FieldType.boolean.toString) = some c1 := (hK1.2 2 _ rfl).2
  have z2 : s.vm.findClass ("[" ++ FieldType.boolean.toString) = some cZ := (hK1.2 1 _ rfl).2
  have z3 : cZ = c1 := Option.some.inj (z2.symm.trans z1)
  subst z3
  clear z1 z2 hK1
  have hP : va_P D classes [(h0, .inr (0, [.ref q1, .null, .null, .null, .null, .null, .null, .null, .null, .int 0, .int 0, .int 0])), (q1, .inl (cI, 48, .inl (fun _ => 0))), (q2, .inl (cZ, 192, .inl (fun _ => 0)))] H := hP
  have hD : va_D A [(h0, .inr (0, [.ref q1, .null, .null, .null, .null, .null, .null, .null, .null, .int 0, .int 0, .int 0])), (q1, .inl (cI, 48, .inl (fun _ => 0))), (q2, .inl (cZ, 192, .inl (fun _ => 0)))] := hD
  refine va_putF (D := D) (ci := 0) (v := .ref q2) (ty := .array .boolean) (C := R_X) (T := F_X) (N := 12) hx hb hts i_X t_X t_X_ok n_X hown hK hP hD hS 0 rfl rfl 1 (by decide) (hts _ f_X_1) (fun _ h9 => h9) rfl hin rfl (by decide +kernel) rfl rfl (Nat.le_of_ble_eq_true rfl) d_X_init_18.1 (fun H locs hP hD hS => ?_)
  have hP : va_P D classes [(h0, .inr (0, [.ref q1, .ref q2, .null, .null, .null, .null, .null, .null, .null, .int 0, .int 0, .int 0])), (q1, .inl (cI, 48, .inl (fun _ => 0))), (q2, .inl (cZ, 192, .inl (fun _ => 0)))] H := hP
  have hD : va_D A [(h0, .inr (0, [.ref q1, .ref q2, .null, .null, .null, .null, .null, .null, .null, .int 0, .int 0, .int 0])), (q1, .inl (cI, 48, .inl (fun _ => 0))), (q2, .inl (cZ, 192, .inl (fun _ => 0)))] := hD
  refine lv_aload_n hx hb d_X_init_21.1 rfl (lv_at hl 0 rfl) ?_
  refine lv_bipush (v := 64) hx hb d_X_init_22.1 (by decide) ?_
  refine va_newa (atype := .int) (a0 := (64, .inl (fun _ => 0))) (N' := 64) hx hb (hts (.arrayClass .int) ac_I) rfl hK hP hD hS hA (fun _ => rfl) (by decide) (by decide) (by decide) (Nat.le_of_ble_eq_true rfl) (Nat.le_of_ble_eq_true rfl) d_X_init_24.1 (fun q3 c1 H hK1 hP hD hS => ?_)
  have z1 : s.vm.findClass ("[" ++ FieldType.int.toString) = some c1 := (hK1.2 2 _ rfl).2
  have z2 : s.vm.findClass ("[" ++ FieldType.int.toString) = some cI := (hK1.2 0 _ rfl).2
  have z3 : cI = c1 := Option.some.inj (z2.symm.trans z1)
  subst z3
  clear z1 z2 hK1
  have hP : va_P D classes [(h0, .inr (0, [.ref q1, .ref q2, .null, .null, .null, .null, .null, .null, .null, .int 0, .int 0, .int 0])), (q1, .inl (cI, 48, .inl (fun _ => 0))), (q2, .inl (cZ, 192, .inl (fun _ => 0))), (q3, .inl (cI, 64, .inl (fun _ => 0)))] H := hP
  have hD : va_D A [(h0, .inr (0, [.ref q1, .ref q2, .null, .null, .null, .null, .null, .null, .null, .int 0, .int 0, .int 0])), (q1, .inl (cI, 48, .inl (fun _ => 0))), (q2, .inl (cZ, 192, .inl (fun _ => 0))), (q3, .inl (cI, 64, .inl (fun _ => 0)))] := hD
  refine va_putF (D := D) (ci := 0) (v := .ref q3) (ty := .array .int) (C := R_X) (T := F_X) (N := 12) hx hb hts i_X t_X t_X_ok n_X hown hK hP hD hS 0 rfl rfl 2 (by decide) (hts _ f_X_2) (fun _ h9 => h9) rfl hin rfl (by decide +kernel) rfl rfl (Nat.le_of_ble_eq_true rfl) d_X_init_26.1 (fun H locs hP hD hS => ?_)
  have hP : va_P D classes [(h0, .inr (0, [.ref q1, .ref q2, .ref q3, .null, .null, .null, .null, .null, .null, .int 0, .int 0, .int 0])), (q1, .inl (cI, 48, .inl (fun _ => 0))), (q2, .inl (cZ, 192, .inl (fun _ => 0))), (q3, .inl (cI, 64, .inl (fun _ => 0)))] H := hP
  have hD : va_D A [(h0, .inr (0, [.ref q1, .ref q2, .ref q3, .null, .null, .null, .null, .null, .null, .int 0, .int 0, .int 0])), (q1, .inl (cI, 48, .inl (fun _ => 0))), (q2, .inl (cZ, 192, .inl (fun _ => 0))), (q3, .inl (cI, 64, .inl (fun _ => 0)))] := hD
  refine lv_aload_n hx hb d_X_init_29.1 rfl (lv_at hl 0 rfl) ?_
  refine lv_bipush (v := 64) hx hb d_X_init_30.1 (by decide) ?_
  refine va_newa (atype := .boolean) (a0 := (64, .inl (fun _ => 0))) (N' := 64) hx hb (hts (.arrayClass .boolean) ac_Z) rfl hK hP hD hS hA (fun _ => rfl) (by decide) (by decide) (by decide) (Nat.le_of_ble_eq_true rfl) (Nat.le_of_ble_eq_true rfl) d_X_init_32.1 (fun q4 c1 H hK1 hP hD hS => ?_)
  have z1 : s.vm.findClass ("[" ++ FieldType.boolean.toString) = some c1 := (hK1.2 2 _ rfl).2
  have z2 : s.vm.findClass ("[" ++ FieldType.boolean.toString) = some cZ := (hK1.2 1 _ rfl).2
  have z3 : cZ = c1 := Option.some.inj (z2.symm.trans z1)
  subst z3
  clear z1 z2 hK1
  have hP : va_P D classes [(h0, .inr (0, [.ref q1, .ref q2, .ref q3, .null, .null, .null, .null, .null, .null, .int 0, .int 0, .int 0])), (q1, .inl (cI, 48, .inl (fun _ => 0))), (q2, .inl (cZ, 192, .inl (fun _ => 0))), (q3, .inl (cI, 64, .inl (fun _ => 0))), (q4, .inl (cZ, 64, .inl (fun _ => 0)))] H := hP
  have hD : va_D A [(h0, .inr (0, [.ref q1, .ref q2, .ref q3, .null, .null, .null, .null, .null, .null, .int 0, .int 0, .int 0])), (q1, .inl (cI, 48, .inl (fun _ => 0))), (q2, .inl (cZ, 192, .inl (fun _ => 0))), (q3, .inl (cI, 64, .inl (fun _ => 0))), (q4, .inl (cZ, 64, .inl (fun _ => 0)))] := hD
  refine va_putF (D := D) (ci := 0) (v := .ref q4) (ty := .array .boolean) (C := R_X) (T := F_X) (N := 12) hx hb hts i_X t_X t_X_ok n_X hown hK hP hD hS 0 rfl rfl 3 (by decide) (hts _ f_X_3) (fun _ h9 => h9) rfl hin rfl (by decide +kernel) rfl rfl (Nat.le_of_ble_eq_true rfl) d_X_init_34.1 (fun H locs hP hD hS => ?_)
  have hP : va_P D classes [(h0, .inr (0, [.ref q1, .ref q2, .ref q3, .ref q4, .null, .null, .null, .null, .null, .int 0, .int 0, .int 0])), (q1, .inl (cI, 48, .inl (fun _ => 0))), (q2, .inl (cZ, 192, .inl (fun _ => 0))), (q3, .inl (cI, 64, .inl (fun _ => 0))), (q4, .inl (cZ, 64, .inl (fun _ => 0)))] H := hP
  have hD : va_D A [(h0, .inr (0, [.ref q1, .ref q2, .ref q3, .ref q4, .null, .null, .null, .null, .null, .int 0, .int 0, .int 0])), (q1, .inl (cI, 48, .inl (fun _ => 0))), (q2, .inl (cZ, 192, .inl (fun _ => 0))), (q3, .inl (cI, 64, .inl (fun _ => 0))), (q4, .inl (cZ, 64, .inl (fun _ => 0)))] := hD
  refine lv_aload_n hx hb d_X_init_37.1 rfl (lv_at hl 0 rfl) ?_
  refine lv_bipush (v := 16) hx hb d_X_init_38.1 (by decide) ?_
  refine va_newa (atype := .int) (a0 := (16, .inl (fun _ => 0))) (N' := 16) hx hb (hts (.arrayClass .int) ac_I) rfl hK hP hD hS hA (fun _ => rfl) (by decide) (by decide) (by decide) (Nat.le_of_ble_eq_true rfl) (Nat.le_of_ble_eq_true rfl) d_X_init_40.1 (fun q5 c1 H hK1 hP hD hS => ?_)
  have z1 : s.vm.findClass ("[" ++ FieldType.int.toString) = some c1 := (hK1.2 2 _ rfl).2
  have z2 : s.vm.findClass ("[" ++ FieldType.int.toString) = some cI := (hK1.2 0 _ rfl).2
  have z3 : cI = c1 := Option.some.inj (z2.symm.trans z1)
  subst z3
  clear z1 z2 hK1
  have hP : va_P D classes [(h0, .inr (0, [.ref q1, .ref q2, .ref q3, .ref q4, .null, .null, .null, .null, .null, .int 0, .int 0, .int 0])), (q1, .inl (cI, 48, .inl (fun _ => 0))), (q2, .inl (cZ, 192, .inl (fun _ => 0))), (q3, .inl (cI, 64, .inl (fun _ => 0))), (q4, .inl (cZ, 64, .inl (fun _ => 0))), (q5, .inl (cI, 16, .inl (fun _ => 0)))] H := hP
  have hD : va_D A [(h0, .inr (0, [.ref q1, .ref q2, .ref q3, .ref q4, .null, .null, .null, .null, .null, .int 0, .int 0, .int 0])), (q1, .inl (cI, 48, .inl (fun _ => 0))), (q2, .inl (cZ, 192, .inl (fun _ => 0))), (q3, .inl (cI, 64, .inl (fun _ => 0))), (q4, .inl (cZ, 64, .inl (fun _ => 0))), (q5, .inl (cI, 16, .inl (fun _ => 0)))] := hD
  refine va_putF (D := D) (ci := 0) (v := .ref q5) (ty := .array .int) (C := R_X) (T := F_X) (N := 12) hx hb hts i_X t_X t_X_ok n_X hown hK hP hD hS 0 rfl rfl 4 (by decide) (hts _ f_X_4) (fun _ h9 => h9) rfl hin rfl (by decide +kernel) rfl rfl (Nat.le_of_ble_eq_true rfl) d_X_init_42.1 (fun H locs hP hD hS => ?_)
  have hP : va_P D classes [(h0, .inr (0, [.ref q1, .ref q2, .ref q3, .ref q4, .ref q5, .null, .null, .null, .null, .int 0, .int 0, .int 0])), (q1, .inl (cI, 48, .inl (fun _ => 0))), (q2, .inl (cZ, 192, .inl (fun _ => 0))), (q3, .inl (cI, 64, .inl (fun _ => 0))), (q4, .inl (cZ, 64, .inl (fun _ => 0))), (q5, .inl (cI, 16, .inl (fun _ => 0)))] H := hP
  have hD : va_D A [(h0, .inr (0, [.ref q1, .ref q2, .ref q3, .ref q4, .ref q5, .null, .null, .null, .null, .int 0, .int 0, .int 0])), (q1, .inl (cI, 48, .inl (fun _ => 0))), (q2, .inl (cZ, 192, .inl (fun _ => 0))), (q3, .inl (cI, 64, .inl (fun _ => 0))), (q4, .inl (cZ, 64, .inl (fun _ => 0))), (q5, .inl (cI, 16, .inl (fun _ => 0)))] := hD
  refine lv_aload_n hx hb d_X_init_45.1 rfl (lv_at hl 0 rfl) ?_
  refine lv_bipush (v := 16) hx hb d_X_init_46.1 (by decide) ?_
  refine va_newa (atype := .int) (a0 := (16, .inl (fun _ => 0))) (N' := 16) hx hb (hts (.arrayClass .int) ac_I) rfl hK hP hD hS hA (fun _ => rfl) (by decide) (by decide) (by decide) (Nat.le_of_ble_eq_true rfl) (Nat.le_of_ble_eq_true rfl) d_X_init_48.1 (fun q6 c1 H hK1 hP hD hS => ?_)
  have z1 : s.vm.findClass ("[" ++ FieldType.int.toString) = some c1 := (hK1.2 2 _ rfl).2
  have z2 : s.vm.findClass ("[" ++ FieldType.int.toString) = some cI := (hK1.2 0 _ rfl).2
  have z3 : cI = c1 := Option.some.inj (z2.symm.trans z1)
  subst z3
  clear z1 z2 hK1
  have hP : va_P D classes [(h0, .inr (0, [.ref q1, .ref q2, .ref q3, .ref q4, .ref q5, .null, .null, .null, .null, .int 0, .int 0, .int 0])), (q1, .inl (cI, 48, .inl (fun _ => 0))), (q2, .inl (cZ, 192, .inl (fun _ => 0))), (q3, .inl (cI, 64, .inl (fun _ => 0))), (q4, .inl (cZ, 64, .inl (fun _ => 0))), (q5, .inl (cI, 16, .inl (fun _ => 0))), (q6, .inl (cI, 16, .inl (fun _ => 0)))] H := hP
  have hD : va_D A [(h0, .inr (0, [.ref q1, .ref q2, .ref q3, .ref q4, .ref q5, .null, .null, .null, .null, .int 0, .int 0, .int 0])), (q1, .inl (cI, 48, .inl (fun _ => 0))), (q2, .inl (cZ, 192, .inl (fun _ => 0))), (q3, .inl (cI, 64, .inl (fun _ => 0))), (q4, .inl (cZ, 64, .inl (fun _ => 0))), (q5, .inl (cI, 16, .inl (fun _ => 0))), (q6, .inl (cI, 16, .inl (fun _ => 0)))] := hD
  refine va_putF (D := D) (ci := 0) (v := .ref q6) (ty := .array .int) (C := R_X) (T := F_X) (N := 12) hx hb hts i_X t_X t_X_ok n_X hown hK hP hD hS 0 rfl rfl 5 (by decide) (hts _ f_X_5) (fun _ h9 => h9) rfl hin rfl (by decide +kernel) rfl rfl (Nat.le_of_ble_eq_true rfl) d_X_init_50.1 (fun H locs hP hD hS => ?_)
  have hP : va_P D classes [(h0, .inr (0, [.ref q1, .ref q2, .ref q3, .ref q4, .ref q5, .ref q6, .null, .null, .null, .int 0, .int 0, .int 0])), (q1, .inl (cI, 48, .inl (fun _ => 0))), (q2, .inl (cZ, 192, .inl (fun _ => 0))), (q3, .inl (cI, 64, .inl (fun _ => 0))), (q4, .inl (cZ, 64, .inl (fun _ => 0))), (q5, .inl (cI, 16, .inl (fun _ => 0))), (q6, .inl (cI, 16, .inl (fun _ => 0)))] H := hP
  have hD : va_D A [(h0, .inr (0, [.ref q1, .ref q2, .ref q3, .ref q4, .ref q5, .ref q6, .null, .null, .null, .int 0, .int 0, .int 0])), (q1, .inl (cI, 48, .inl (fun _ => 0))), (q2, .inl (cZ, 192, .inl (fun _ => 0))), (q3, .inl (cI, 64, .inl (fun _ => 0))), (q4, .inl (cZ, 64, .inl (fun _ => 0))), (q5, .inl (cI, 16, .inl (fun _ => 0))), (q6, .inl (cI, 16, .inl (fun _ => 0)))] := hD
  refine lv_aload_n hx hb d_X_init_53.1 rfl (lv_at hl 0 rfl) ?_
  refine lv_bipush (v := 16) hx hb d_X_init_54.1 (by decide) ?_
  refine va_newa (atype := .boolean) (a0 := (16, .inl (fun _ => 0))) (N' := 16) hx hb (hts (.arrayClass .boolean) ac_Z) rfl hK hP hD hS hA (fun _ => rfl) (by decide) (by decide) (by decide) (Nat.le_of_ble_eq_true rfl) (Nat.le_of_ble_eq_true rfl) d_X_init_56.1 (fun q7 c1 H hK1 hP hD hS => ?_)
  have z1 : s.vm.findClass ("[" ++ FieldType.boolean.toString) = some c1 := (hK1.2 2 _ rfl).2
  have z2 : s.vm.findClass ("[" ++ FieldType.boolean.toString) = some cZ := (hK1.2 1 _ rfl).2
  have z3 : cZ = c1 := Option.some.inj (z2.symm.trans z1)
  subst z3
  clear z1 z2 hK1
  have hP : va_P D classes [(h0, .inr (0, [.ref q1, .ref q2, .ref q3, .ref q4, .ref q5, .ref q6, .null, .null, .null, .int 0, .int 0, .int 0])), (q1, .inl (cI, 48, .inl (fun _ => 0))), (q2, .inl (cZ, 192, .inl (fun _ => 0))), (q3, .inl (cI, 64, .inl (fun _ => 0))), (q4, .inl (cZ, 64, .inl (fun _ => 0))), (q5, .inl (cI, 16, .inl (fun _ => 0))), (q6, .inl (cI, 16, .inl (fun _ => 0))), (q7, .inl (cZ, 16, .inl (fun _ => 0)))] H := hP
  have hD : va_D A [(h0, .inr (0, [.ref q1, .ref q2, .ref q3, .ref q4, .ref q5, .ref q6, .null, .null, .null, .int 0, .int 0, .int 0])), (q1, .inl (cI, 48, .inl (fun _ => 0))), (q2, .inl (cZ, 192, .inl (fun _ => 0))), (q3, .inl (cI, 64, .inl (fun _ => 0))), (q4, .inl (cZ, 64, .inl (fun _ => 0))), (q5, .inl (cI, 16, .inl (fun _ => 0))), (q6, .inl (cI, 16, .inl (fun _ => 0))), (q7, .inl (cZ, 16, .inl (fun _ => 0)))] := hD
  refine va_putF (D := D) (ci := 0) (v := .ref q7) (ty := .array .boolean) (C := R_X) (T := F_X) (N := 12) hx hb hts i_X t_X t_X_ok n_X hown hK hP hD hS 0 rfl rfl 6 (by decide) (hts _ f_X_6) (fun _ h9 => h9) rfl hin rfl (by decide +kernel) rfl rfl (Nat.le_of_ble_eq_true rfl) d_X_init_58.1 (fun H locs hP hD hS => ?_)
  have hP : va_P D classes [(h0, .inr (0, [.ref q1, .ref q2, .ref q3, .ref q4, .ref q5, .ref q6, .ref q7, .null, .null, .int 0, .int 0, .int 0])), (q1, .inl (cI, 48, .inl (fun _ => 0))), (q2, .inl (cZ, 192, .inl (fun _ => 0))), (q3, .inl (cI, 64, .inl (fun _ => 0))), (q4, .inl (cZ, 64, .inl (fun _ => 0))), (q5, .inl (cI, 16, .inl (fun _ => 0))), (q6, .inl (cI, 16, .inl (fun _ => 0))), (q7, .inl (cZ, 16, .inl (fun _ => 0)))] H := hP
  have hD : va_D A [(h0, .inr (0, [.ref q1, .ref q2, .ref q3, .ref q4, .ref q5, .ref q6, .ref q7, .null, .null, .int 0, .int 0, .int 0])), (q1, .inl (cI, 48, .inl (fun _ => 0))), (q2, .inl (cZ, 192, .inl (fun _ => 0))), (q3, .inl (cI, 64, .inl (fun _ => 0))), (q4, .inl (cZ, 64, .inl (fun _ => 0))), (q5, .inl (cI, 16, .inl (fun _ => 0))), (q6, .inl (cI, 16, .inl (fun _ => 0))), (q7, .inl (cZ, 16, .inl (fun _ => 0)))] := hD
  refine lv_aload_n hx hb d_X_init_61.1 rfl (lv_at hl 0 rfl) ?_
  refine lv_bipush (v := 16) hx hb d_X_init_62.1 (by decide) ?_
  refine va_newa (atype := .boolean) (a0 := (16, .inl (fun _ => 0))) (N' := 16) hx hb (hts (.arrayClass .boolean) ac_Z) rfl hK hP hD hS hA (fun _ => rfl) (by decide) (by decide) (by decide) (Nat.le_of_ble_eq_true rfl) (Nat.le_of_ble_eq_true rfl) d_X_init_64.1 (fun q8 c1 H hK1 hP hD hS => ?_)
  have z1 : s.vm.findClass ("[" ++ FieldType.boolean.toString) = some c1 := (hK1.2 2 _ rfl).2
  have z2 : s.vm.findClass ("[" ++ FieldType.boolean.toString) = some cZ := (hK1.2 1 _ rfl).2
  have z3 : cZ = c1 := Option.some.inj (z2.symm.trans z1)
  subst z3
  clear z1 z2 hK1
  have hP : va_P D classes [(h0, .inr (0, [.ref q1, .ref q2, .ref q3, .ref q4, .ref q5, .ref q6, .ref q7, .null, .null, .int 0, .int 0, .int 0])), (q1, .inl (cI, 48, .inl (fun _ => 0))), (q2, .inl (cZ, 192, .inl (fun _ => 0))), (q3, .inl (cI, 64, .inl (fun _ => 0))), (q4, .inl (cZ, 64, .inl (fun _ => 0))), (q5, .inl (cI, 16, .inl (fun _ => 0))), (q6, .inl (cI, 16, .inl (fun _ => 0))), (q7, .inl (cZ, 16, .inl (fun _ => 0))), (q8, .inl (cZ, 16, .inl (fun _ => 0)))] H := hP
  have hD : va_D A [(h0, .inr (0, [.ref q1, .ref q2, .ref q3, .ref q4, .ref q5, .ref q6, .ref q7, .null, .null, .int 0, .int 0, .int 0])), (q1, .inl (cI, 48, .inl (fun _ => 0))), (q2, .inl (cZ, 192, .inl (fun _ => 0))), (q3, .inl (cI, 64, .inl (fun _ => 0))), (q4, .inl (cZ, 64, .inl (fun _ => 0))), (q5, .inl (cI, 16, .inl (fun _ => 0))), (q6, .inl (cI, 16, .inl (fun _ => 0))), (q7, .inl (cZ, 16, .inl (fun _ => 0))), (q8, .inl (cZ, 16, .inl (fun _ => 0)))] := hD
  refine va_putF (D := D) (ci := 0) (v := .ref q8) (ty := .array .boolean) (C := R_X) (T := F_X) (N := 12) hx hb hts i_X t_X t_X_ok n_X hown hK hP hD hS 0 rfl rfl 7 (by decide) (hts _ f_X_7) (fun _ h9 => h9) rfl hin rfl (by decide +kernel) rfl rfl (Nat.le_of_ble_eq_true rfl) d_X_init_66.1 (fun H locs hP hD hS => ?_)
  have hP : va_P D classes [(h0, .inr (0, [.ref q1, .ref q2, .ref q3, .ref q4, .ref q5, .ref q6, .ref q7, .ref q8, .null, .int 0, .int 0, .int 0])), (q1, .inl (cI, 48, .inl (fun _ => 0))), (q2, .inl (cZ, 192, .inl (fun _ => 0))), (q3, .inl (cI, 64, .inl (fun _ => 0))), (q4, .inl (cZ, 64, .inl (fun _ => 0))), (q5, .inl (cI, 16, .inl (fun _ => 0))), (q6, .inl (cI, 16, .inl (fun _ => 0))), (q7, .inl (cZ, 16, .inl (fun _ => 0))), (q8, .inl (cZ, 16, .inl (fun _ => 0)))] H := hP
  have hD : va_D A [(h0, .inr (0, [.ref q1, .ref q2, .ref q3, .ref q4, .ref q5, .ref q6, .ref q7, .ref q8, .null, .int 0, .int 0, .int 0])), (q1, .inl (cI, 48, .inl (fun _ => 0))), (q2, .inl (cZ, 192, .inl (fun _ => 0))), (q3, .inl (cI, 64, .inl (fun _ => 0))), (q4, .inl (cZ, 64, .inl (fun _ => 0))), (q5, .inl (cI, 16, .inl (fun _ => 0))), (q6, .inl (cI, 16, .inl (fun _ => 0))), (q7, .inl (cZ, 16, .inl (fun _ => 0))), (q8, .inl (cZ, 16, .inl (fun _ => 0)))] := hD
  refine lv_aload_n hx hb d_X_init_69.1 rfl (lv_at hl 0 rfl) ?_
  refine lv_bipush (v := 16) hx hb d_X_init_70.1 (by decide) ?_
  refine va_newa (atype := .int) (a0 := (16, .inl (fun _ => 0))) (N' := 16) hx hb (hts (.arrayClass .int) ac_I) rfl hK hP hD hS hA (fun _ => rfl) (by decide) (by decide) (by decide) (Nat.le_of_ble_eq_true rfl) (Nat.le_of_ble_eq_true rfl) d_X_init_72.1 (fun q9 c1 H hK1 hP hD hS => ?_)
  have z1 : s.vm.findClass ("[" ++ FieldType.int.toString) = some c1 := (hK1.2 2 _ rfl).2
  have z2 : s.vm.findClass ("[" ++ FieldType.int.toString) = some cI := (hK1.2 0 _ rfl).2
  have z3 : cI = c1 := Option.some.inj (z2.symm.trans z1)
  subst z3
  clear z1 z2 hK1
  have hP : va_P D classes [(h0, .inr (0, [.ref q1, .ref q2, .ref q3, .ref q4, .ref q5, .ref q6, .ref q7, .ref q8, .null, .int 0, .int 0, .int 0])), (q1, .inl (cI, 48, .inl (fun _ => 0))), (q2, .inl (cZ, 192, .inl (fun _ => 0))), (q3, .inl (cI, 64, .inl (fun _ => 0))), (q4, .inl (cZ, 64, .inl (fun _ => 0))), (q5, .inl (cI, 16, .inl (fun _ => 0))), (q6, .inl (cI, 16, .inl (fun _ => 0))), (q7, .inl (cZ, 16, .inl (fun _ => 0))), (q8, .inl (cZ, 16, .inl (fun _ => 0))), (q9, .inl (cI, 16, .inl (fun _ => 0)))] H := hP
  have hD : va_D A [(h0, .inr (0, [.ref q1, .ref q2, .ref q3, .ref q4, .ref q5, .ref q6, .ref q7, .ref q8, .null, .int 0, .int 0, .int 0])), (q1, .inl (cI, 48, .inl (fun _ => 0))), (q2, .inl (cZ, 192, .inl (fun _ => 0))), (q3, .inl (cI, 64, .inl (fun _ => 0))), (q4, .inl (cZ, 64, .inl (fun _ => 0))), (q5, .inl (cI, 16, .inl (fun _ => 0))), (q6, .inl (cI, 16, .inl (fun _ => 0))), (q7, .inl (cZ, 16, .inl (fun _ => 0))), (q8, .inl (cZ, 16, .inl (fun _ => 0))), (q9, .inl (cI, 16, .inl (fun _ => 0)))] := hD
  refine va_putF (D := D) (ci := 0) (v := .ref q9) (ty := .array .int) (C := R_X) (T := F_X) (N := 12) hx hb hts i_X t_X t_X_ok n_X hown hK hP hD hS 0 rfl rfl 8 (by decide) (hts _ f_X_8) (fun _ h9 => h9) rfl hin rfl (by decide +kernel) rfl rfl (Nat.le_of_ble_eq_true rfl) d_X_init_74.1 (fun H locs hP hD hS => ?_)
  have hP : va_P D classes [(h0, .inr (0, [.ref q1, .ref q2, .ref q3, .ref q4, .ref q5, .ref q6, .ref q7, .ref q8, .ref q9, .int 0, .int 0, .int 0])), (q1, .inl (cI, 48, .inl (fun _ => 0))), (q2, .inl (cZ, 192, .inl (fun _ => 0))), (q3, .inl (cI, 64, .inl (fun _ => 0))), (q4, .inl (cZ, 64, .inl (fun _ => 0))), (q5, .inl (cI, 16, .inl (fun _ => 0))), (q6, .inl (cI, 16, .inl (fun _ => 0))), (q7, .inl (cZ, 16, .inl (fun _ => 0))), (q8, .inl (cZ, 16, .inl (fun _ => 0))), (q9, .inl (cI, 16, .inl (fun _ => 0)))] H := hP
  have hD : va_D A [(h0, .inr (0, [.ref q1, .ref q2, .ref q3, .ref q4, .ref q5, .ref q6, .ref q7, .ref q8, .ref q9, .int 0, .int 0, .int 0])), (q1, .inl (cI, 48, .inl (fun _ => 0))), (q2, .inl (cZ, 192, .inl (fun _ => 0))), (q3, .inl (cI, 64, .inl (fun _ => 0))), (q4, .inl (cZ, 64, .inl (fun _ => 0))), (q5, .inl (cI, 16, .inl (fun _ => 0))), (q6, .inl (cI, 16, .inl (fun _ => 0))), (q7, .inl (cZ, 16, .inl (fun _ => 0))), (q8, .inl (cZ, 16, .inl (fun _ => 0))), (q9, .inl (cI, 16, .inl (fun _ => 0)))] := hD
  refine W.widen (k := 9) (n := 448) (Nat.le_of_ble_eq_true rfl) (Nat.le_of_ble_eq_true rfl) ?_
  refine x_init_tail (D, cI, cZ, hs10 h0 q1 q2 q3 q4 q5 q6 q7 q8 q9) f (p, l, e, _, s, m, _, below, meth, c, 9, 448, _, A, 4) ⟨hx, hb, hml, rfl, hown, hts, hK, fun u => by refine xD_adr ?_ hD; rfl, hA, hlocks, ⟨Nat.zero_le _, Nat.zero_le _, Nat.le_refl _, Nat.le_refl _⟩⟩ ?_ H locs ls hP hS (xl_entry hl0 (by simp [Value.category]) rfl)
  intro pc pc' u L d hpost H locs ls hP hS hl
  exact W.vret hx hb hr (fun t ht hW => ⟨⟨(hs10 h0 q1 q2 q3 q4 q5 q6 q7 q8 q9, u), rfl, ⟨rfl, hpost⟩, by rw [ht]; exact hP, by refine xD_adr ?_ hD; rfl⟩, hS.F ht⟩) hS.2.2 d.1 hlocks
theorem MX_0 {u : xT} {n : Nat} (h3 : u 3 0 = nI n) (hn : n ≤ 48) (h0 : u 0 = fun _ => 0) (h1 : u 1 = fun _ => 0) : MX u n (fun _ => none) := by
  have z0 : zb (0 : Int32) := by rw [← nI0]; exact zb_0
  refine ⟨⟨h3, hn⟩, fun q _ => ⟨by rw [h0]; exact z0, by rw [h1]; exact z0⟩, fun q _ => ?_⟩
  unfold mvF
  rw [h0, if_pos rfl]
theorem m_init_tail (a : xA) (f : Int32) (Γ : xG) (C : xC Γ a (mP a) b_M_init 3 R_M 0) (E : xRV Γ a (mP a) b_M_init (fun u => MX u (nF f) (fun _ => none))) :
    xW Γ a (mP a) (fun _ _ => 0) 28 [some (.ref (a.2.2.2 0)), some (.int f), none] [] := by
  obtain ⟨c1, c2⟩ := nC_c f
  have hn48 : nF f ≤ 48 := by unfold nF; omega
  have ncz : ¬ nI 8 = 0 := by decide +kernel
  have at51 : xW Γ a (mP a) (fun _ _ => 0) 51 [some (.ref (a.2.2.2 0)), some (.int f), none] [.int (nI (nC f))] := by
    have e1 : nI (nC f) - nI (nC f % 8) = nI (nF f) := by rw [pk_sub (by omega)]; rfl
    refine x_istore2 C d_M_init_51 ?_
    refine x_aload0 C d_M_init_52 ?_
    refine x_iload2 C d_M_init_53 ?_
    refine x_iload2 C d_M_init_54 ?_
    refine x_bipush C d_M_init_55 kB_8 ?_
    refine x_irem C d_M_init_57 ncz (pk_rem (by omega) (by decide) (by decide)) ?_
    refine x_isub C d_M_init_58 e1 ?_
    refine m_p0 C d_M_init_59 ?_
    exact E d_M_init_62 (MX_0 rfl hn48 rfl rfl)
  refine x_iload1 C d_M_init_28 ?_
  refine x_bipush C d_M_init_29 kB_8 ?_
  refine x_icmp_ge C d_M_init_31 (fun h1 => ?_) (fun h1 => ?_)
  · have h1 : ¬ f < nI 8 := fun q => lt_le.mp q h1
    refine x_iload1 C d_M_init_39 ?_
    refine x_bipush C d_M_init_40 kB_48 ?_
    refine x_icmp_le C d_M_init_42 (fun h2 => ?_) (fun h2 => ?_)
    · have h2 : ¬ nI 48 < f := fun q => lt_le.mp q h2
      refine x_iload1 C d_M_init_50 ?_
      have e := nC_e h1 h2
      generalize nC f = k at e at51
      rw [e] at at51 ⊢
      exact at51
    · have h2 : nI 48 < f := lt_le.mpr h2
      have e : nC f = 48 := by unfold nC; rw [if_neg h1, if_pos h2]
      refine x_bipush C d_M_init_45 kB_48 ?_
      refine x_goto C d_M_init_47 ?_
      rw [e] at at51
      exact at51
  · have h1 : f < nI 8 := lt_le.mpr h1
    have e : nC f = 8 := by unfold nC; rw [if_pos h1]
    refine x_bipush C d_M_init_34 kB_8 ?_
    refine x_goto C d_M_init_36 ?_
    rw [e] at at51
    exact at51
def hs4 (h0 q1 q2 q3 : Nat) : Nat → Nat := fun k => match k with
  | 0 => h0 | 1 => q1 | 2 => q2 | _ => q3
abbrev w0M (h0 : Nat) : va_W := [(h0, .inr (1, [.int 0, .null, .null, .null]))]
set_option maxRecDepth 100000 in
/-- PageRangeStoreModel(f): three arrays come; no page is there -/
theorem c_M_init (l : Launch) (D : va_G) (cI cZ : ClassId) (h0 sz : Nat) (f : Int32) : Met l y_M_init (.code y_M_init b_M_init 3 none :: xw_T) { frames := 1, cells := 3, slots := 192, locals := 28 } (va_Pc [.ref h0, .int f] (fun U => U.heap.size = sz ∧ va_P D classes (w0M h0) U.heap ∧ va_K D classes [(cI, .int), (cZ, .boolean)] U ∧ va_D (fun _ => True) (w0M h0)))
    (va_Qv (fun u : (Nat → Nat) × xT => u.1 0 = h0 ∧ MX u.2 (nF f) (fun _ => none)) (fun u t => va_P D classes (mP (D, cI, cZ, u.1) u.2) t.heap ∧ va_D (va_A (w0M h0) sz) (mP (D, cI, cZ, u.1) u.2)) (va_A (w0M h0) sz)) 3 192 (va_A (w0M h0) sz) := by
  refine Met.ofW (cc := b_M_init) (maxL := 3) (ret := none) (by decide) rfl ?_
  intro p e s m args below meth c s₁ B hml hv
  obtain ⟨rfl, hsz, hP, hK, hD0⟩ := hv
  have hx := B.exec
  have hb := B.bytes
  have hr := B.returns
  have hts0 := atoms_spec (ws := .code y_M_init b_M_init 3 none :: xw_T) B.pre
  have hts : ∀ w ∈ xw_T, w.before ([.ref h0, .int f] : List Value).toArray s = true := fun w hw => hts0 w (List.mem_cons_of_mem _ hw)
  have hown : s.vm.findClass R_M = some m.cls := findClass_of_methodNamed B.named
  have hlocks := B.notSynchronized
  subst hsz
  have hD := hD0.self (sz := s.heap.size)
  generalize hAe : va_A (w0M h0) s.heap.size = A at hD ⊢
  have hA : ∀ q : Nat, s.heap.size ≤ q → A q := fun q h => by rw [← hAe]; exact Or.inr h
  have hS : va_S A s.heap s.heap [] := va_S.rf
  have hl0 := lv_entry ([.ref h0, .int f]) (n := 3) (Nat.le_of_ble_eq_true rfl)
  rw [lg_entry_eq]
  generalize (lg_sl ([.ref h0, .int f]) ++ List.replicate (3 - (lg_sl ([.ref h0, .int f])).length) Slot.unset).toArray = ls at hl0 ⊢
  have hl : lv_has ls 3 [(0, .ref h0), (1, .int f)] := hl0
  refine lv_aload_n hx hb d_M_init_0.1 rfl (lv_at hl 0 rfl) ?_
  refine W.objInit hx hb hown (hts _ ob_M) (hts _ ob_i) (hts _ ob_c) rfl (by rw [hml]; exact hl.1) rfl d_M_init_1.1 (Nat.le_of_ble_eq_true rfl) (Nat.le_of_ble_eq_true rfl) ?_
  refine W.eq (g2 := F0 m 4 ls []) rfl ?_
  refine lv_aload_n hx hb d_M_init_4.1 rfl (lv_at hl 0 rfl) ?_
  refine lv_bipush (v := 64) hx hb d_M_init_5.1 (by decide) ?_
  refine va_newa (atype := .boolean) (a0 := (64, .inl (fun _ => 0))) (N' := 64) hx hb (hts (.arrayClass .boolean) ac_Z) rfl hK hP hD hS hA (fun _ => rfl) (by decide) (by decide) (by decide) (Nat.le_of_ble_eq_true rfl) (Nat.le_of_ble_eq_true rfl) d_M_init_7.1 (fun q1 c1 H hK1 hP hD hS => ?_)
  have z1 : s.vm.findClass ("[" ++ FieldType.boolean.toString) = some c1 := (hK1.2 2 _ rfl).2
  have z2 : s.vm.findClass ("[" ++ FieldType.boolean.toString) = some cZ := (hK1.2 1 _ rfl).2
  have z3 : cZ = c1 := Option.some.inj (z2.symm.trans z1)
  subst z3
  clear z1 z2 hK1
  have hP : va_P D classes [(h0, .inr (1, [.int 0, .null, .null, .null])), (q1, .inl (cZ, 64, .inl (fun _ => 0)))] H := hP
  have hD : va_D A [(h0, .inr (1, [.int 0, .null, .null, .null])), (q1, .inl (cZ, 64, .inl (fun _ => 0)))] := hD
  refine va_put (D := D) (ci := 1) (v := .ref q1) (ty := .array .boolean) (C := R_M) (T := F_M) (N := 4) hx hb hts i_M t_M t_M_ok n_M hown hK hP hD hS 0 rfl rfl 1 (by decide) (hts _ f_M_1) (fun _ h9 => h9) rfl (by decide +kernel) rfl rfl (Nat.le_of_ble_eq_true rfl) d_M_init_9.1 (fun H locs hP hD hS => ?_)
  have hP : va_P D classes [(h0, .inr (1, [.int 0, .ref q1, .null, .null])), (q1, .inl (cZ, 64, .inl (fun _ => 0)))] H := hP
  have hD : va_D A [(h0, .inr (1, [.int 0, .ref q1, .null, .null])), (q1, .inl (cZ, 64, .inl (fun _ => 0)))] := hD
  refine lv_aload_n hx hb d_M_init_12.1 rfl (lv_at hl 0 rfl) ?_
  refine lv_bipush (v := 64) hx hb d_M_init_13.1 (by decide) ?_
  refine va_newa (atype := .boolean) (a0 := (64, .inl (fun _ => 0))) (N' := 64) hx hb (hts (.arrayClass .boolean) ac_Z) rfl hK hP hD hS hA (fun _ => rfl) (by decide) (by decide) (by decide) (Nat.le_of_ble_eq_true rfl) (Nat.le_of_ble_eq_true rfl) d_M_init_15.1 (fun q2 c1 H hK1 hP hD hS => ?_)
  have z1 : s.vm.findClass ("[" ++ FieldType.boolean.toString) = some c1 := (hK1.2 2 _ rfl).2
  have z2 : s.vm.findClass ("[" ++ FieldType.boolean.toString) = some cZ := (hK1.2 1 _ rfl).2
  have z3 : cZ = c1 := Option.some.inj (z2.symm.trans z1)
  subst z3
  clear z1 z2 hK1
  have hP : va_P D classes [(h0, .inr (1, [.int 0, .ref q1, .null, .null])), (q1, .inl (cZ, 64, .inl (fun _ => 0))), (q2, .inl (cZ, 64, .inl (fun _ => 0)))] H := hP
  have hD : va_D A [(h0, .inr (1, [.int 0, .ref q1, .null, .null])), (q1, .inl (cZ, 64, .inl (fun _ => 0))), (q2, .inl (cZ, 64, .inl (fun _ => 0)))] := hD
  refine va_put (D := D) (ci := 1) (v := .ref q2) (ty := .array .boolean) (C := R_M) (T := F_M) (N := 4) hx hb hts i_M t_M t_M_ok n_M hown hK hP hD hS 0 rfl rfl 2 (by decide) (hts _ f_M_2) (fun _ h9 => h9) rfl (by decide +kernel) rfl rfl (Nat.le_of_ble_eq_true rfl) d_M_init_17.1 (fun H locs hP hD hS => ?_)
  have hP : va_P D classes [(h0, .inr (1, [.int 0, .ref q1, .ref q2, .null])), (q1, .inl (cZ, 64, .inl (fun _ => 0))), (q2, .inl (cZ, 64, .inl (fun _ => 0)))] H := hP
  have hD : va_D A [(h0, .inr (1, [.int 0, .ref q1, .ref q2, .null])), (q1, .inl (cZ, 64, .inl (fun _ => 0))), (q2, .inl (cZ, 64, .inl (fun _ => 0)))] := hD
  refine lv_aload_n hx hb d_M_init_20.1 rfl (lv_at hl 0 rfl) ?_
  refine lv_bipush (v := 64) hx hb d_M_init_21.1 (by decide) ?_
  refine va_newa (atype := .int) (a0 := (64, .inl (fun _ => 0))) (N' := 64) hx hb (hts (.arrayClass .int) ac_I) rfl hK hP hD hS hA (fun _ => rfl) (by decide) (by decide) (by decide) (Nat.le_of_ble_eq_true rfl) (Nat.le_of_ble_eq_true rfl) d_M_init_23.1 (fun q3 c1 H hK1 hP hD hS => ?_)
  have z1 : s.vm.findClass ("[" ++ FieldType.int.toString) = some c1 := (hK1.2 2 _ rfl).2
  have z2 : s.vm.findClass ("[" ++ FieldType.int.toString) = some cI := (hK1.2 0 _ rfl).2
  have z3 : cI = c1 := Option.some.inj (z2.symm.trans z1)
  subst z3
  clear z1 z2 hK1
  have hP : va_P D classes [(h0, .inr (1, [.int 0, .ref q1, .ref q2, .null])), (q1, .inl (cZ, 64, .inl (fun _ => 0))), (q2, .inl (cZ, 64, .inl (fun _ => 0))), (q3, .inl (cI, 64, .inl (fun _ => 0)))] H := hP
  have hD : va_D A [(h0, .inr (1, [.int 0, .ref q1, .ref q2, .null])), (q1, .inl (cZ, 64, .inl (fun _ => 0))), (q2, .inl (cZ, 64, .inl (fun _ => 0))), (q3, .inl (cI, 64, .inl (fun _ => 0)))] := hD
  refine va_put (D := D) (ci := 1) (v := .ref q3) (ty := .array .int) (C := R_M) (T := F_M) (N := 4) hx hb hts i_M t_M t_M_ok n_M hown hK hP hD hS 0 rfl rfl 3 (by decide) (hts _ f_M_3) (fun _ h9 => h9) rfl (by decide +kernel) rfl rfl (Nat.le_of_ble_eq_true rfl) d_M_init_25.1 (fun H locs hP hD hS => ?_)
  have hP : va_P D classes [(h0, .inr (1, [.int 0, .ref q1, .ref q2, .ref q3])), (q1, .inl (cZ, 64, .inl (fun _ => 0))), (q2, .inl (cZ, 64, .inl (fun _ => 0))), (q3, .inl (cI, 64, .inl (fun _ => 0)))] H := hP
  have hD : va_D A [(h0, .inr (1, [.int 0, .ref q1, .ref q2, .ref q3])), (q1, .inl (cZ, 64, .inl (fun _ => 0))), (q2, .inl (cZ, 64, .inl (fun _ => 0))), (q3, .inl (cI, 64, .inl (fun _ => 0)))] := hD
  refine W.widen (k := 3) (n := 192) (Nat.le_of_ble_eq_true rfl) (Nat.le_of_ble_eq_true rfl) ?_
  refine m_init_tail (D, cI, cZ, hs4 h0 q1 q2 q3) f (p, l, e, _, s, m, _, below, meth, c, 3, 192, _, A, 3) ⟨hx, hb, hml, rfl, hown, hts, hK, fun u => by refine xD_adr ?_ hD; rfl, hA, hlocks, ⟨Nat.zero_le _, Nat.zero_le _, Nat.le_refl _, Nat.le_refl _⟩⟩ ?_ H locs ls hP hS (xl_entry hl0 (by simp [Value.category]) rfl)
  intro pc pc' u L d hpost H locs ls hP hS hl
  exact W.vret hx hb hr (fun t ht hW => ⟨⟨(hs4 h0 q1 q2 q3, u), rfl, ⟨rfl, hpost⟩, by rw [ht]; exact hP, by refine xD_adr ?_ hD; rfl⟩, hS.F ht⟩) hS.2.2 d.1 hlocks
end
section
/-! The law's rows: two worlds side by side, and the script -/
abbrev lB (a : xA) (gs : Nat → Nat) : xA := (a.1, a.2.1, a.2.2.1, gs)
def lP (a : xA) (gs : Nat → Nat) (u : xT × xT) : va_W := xP a u.1 ++ mP (lB a gs) u.2
def xS (Γ : xG) (b L : Nat) (xs : Nat → Int32) : Prop :=
  match Γ with
  | (_, _, _, _, s, _, _, _, _, _, _, _, _, A, _) => va_X b L xs s s.heap ∧ b < s.heap.size ∧ ¬ A b
section LR
variable {Γ : xG} {a : xA} {S : Type} {wf : S → va_W} {σ0 : S} {gs : Nat → Nat} {σ μ : xT} {cc : ByteArray} {nl : Nat} {own : String} {K pc pc' : Nat} {L : List (Option Value)} {st st0 : List Value} {b N : Nat} {xs : Nat → Int32}
theorem l_sld {j : Nat} (C : xC Γ a wf cc nl own K) (X : xS Γ b N xs) (d : xd cc pc .iaload 1 pc') (hN : N < 2 ^ 31) (hj : j < N) (k : xW Γ a wf σ0 pc' L (.int (xs j) :: st)) : xW Γ a wf σ0 pc L (.int (nI j) :: .ref b :: st) := by
  obtain ⟨p, l, e, R, s, m, args, below, meth, c, cells, slots, Q, A, nL⟩ := Γ
  obtain ⟨hx, hb, hml, rfl, hown, hts, hK, hD, hA, hlk, hR⟩ := C
  obtain ⟨d, rfl⟩ := d
  obtain ⟨x1, x2, x3⟩ := X
  intro H locs ls hP hS hl
  have e : (nI j).toNatClampNeg = j := nI_clamp (by omega)
  refine va_sld hx hb x1 x2 x3 hS (vp_in_nI hj hN) d ?_
  rw [e]
  exact k H locs ls hP hS hl
theorem l_slen (C : xC Γ a wf cc nl own K) (X : xS Γ b N xs) (d : xd cc pc .arraylength 1 pc') (k : xW Γ a wf σ0 pc' L (.int (nI N) :: st)) : xW Γ a wf σ0 pc L (.ref b :: st) := by
  obtain ⟨p, l, e, R, s, m, args, below, meth, c, cells, slots, Q, A, nL⟩ := Γ
  obtain ⟨hx, hb, hml, rfl, hown, hts, hK, hD, hA, hlk, hR⟩ := C
  obtain ⟨d, rfl⟩ := d
  obtain ⟨x1, x2, x3⟩ := X
  intro H locs ls hP hS hl
  exact va_slen hx hb x1 x2 x3 hS d (k H locs ls hP hS hl)
def ltg (j : Nat) : Nat := [124, 137, 150, 173, 216, 259, 312, 345, 378, 411, 454, 497, 540, 583, 616, 639, 662].getD j 695
theorem l_switch {j : Nat} (C : xC Γ a wf code nl own K) (hj : j < 32) (k : xW Γ a wf σ0 (ltg j) L st) : xW Γ a wf σ0 42 L (.int (nI j) :: st) := by
  obtain ⟨p, l, e, R, s, m, args, below, meth, c, cells, slots, Q, A, nL⟩ := Γ
  obtain ⟨hx, hb, hml, rfl, hown, hts, hK, hD, hA, hlk, hR⟩ := C
  intro H locs ls hP hS hl
  have hT : (nI j).toInt = (j : Int) := nI_toInt (by omega)
  by_cases h : j < 17
  · have key : ∀ j, j < 17 → (#[82, 95, 108, 131, 174, 217, 270, 303, 336, 369, 412, 455, 498, 541, 574, 597, 620] : Array Int)[j]? = some ((ltg j : Int) - 42) := by decide +kernel
    refine lv_tableIn (tgt := ltg j) hx hb d_law_sw (by rw [hT]; omega) (by rw [hT]; omega) (off := (ltg j : Int) - 42) ?_ (by omega) (k H locs ls hP hS hl)
    rw [hT, show ((j : Int) - 0).toNat = j by omega]
    exact key j h
  · have e : ltg j = 695 := by
      unfold ltg
      rw [List.getD_eq_getElem?_getD, List.getElem?_eq_none (by simp; omega)]
      rfl
    rw [e] at k
    exact lv_tableOut (tgt := 695) hx hb d_law_sw (Or.inr (by rw [hT]; omega)) (by decide) (k H locs ls hP hS hl)
variable {y : MethodName} {bb : ByteArray} {nl' k idx n : Nat} {ret : Option FieldType} {As : List Value} {post : Int32 → xT → Prop}
theorem l_callX (C : xC Γ a (lP a gs) cc nl own K) (w : xwV own idx y bb nl' ret n) (d : xd cc pc (.invokevirtual idx) 3 pc') (hM : MI a (xP a) y bb nl' ret k (.ref (a.2.2.2 0) :: As) σ post) (hq : y.cls = R_X) (hn : As.length = n) (hst : st0 = As.reverse ++ .ref (a.2.2.2 0) :: st) (hk : k + 1 ≤ K ∧ nl' ≤ 9) (hr : (st.map fun v => v.category).sum ≤ 8)
    (kk : ∀ r u, post r u → xW Γ a (lP a gs) (u, μ) pc' L (.int r :: st)) : xW Γ a (lP a gs) (σ, μ) pc L st0 := by
  obtain ⟨p, l, e, R, s, m, args, below, meth, c, cells, slots, Q, A, nL⟩ := Γ
  obtain ⟨hx, hb, hml, rfl, hown, hts, hK, hD, hA, hlk, hR⟩ := C
  obtain ⟨d, rfl⟩ := d
  intro H locs ls hP hS hl
  have hD0 := hD (σ, μ)
  have hPc : va_P a.1 classes (xP a σ) H := va_P.sub hP [0, 1, 2, 3, 4, 5, 6, 7, 8, 9] rfl
  have hDc : va_D A (xP a σ) := va_D.sub hD0 [0, 1, 2, 3, 4, 5, 6, 7, 8, 9] (by decide) rfl
  have hFc := va_free (wc := xP a σ) hD0 hS hA [0, 1, 2, 3, 4, 5, 6, 7, 8, 9] rfl
  refine va_calli (A1 := va_A (xP a σ) H.size) (va_runV (As := As) (rest := st) (C := y.cls) ⟨hx, hb, hml, hown, hts⟩ (hM l H.size) (cwV n hts (x_goodV w) rfl rfl rfl ⟨rfl, w.2.2.2.2.2⟩ ⟨by show k + 1 ≤ R.frames; omega, by show 8 + (nl' + 11) + 28 * k ≤ R.locals; omega⟩) ⟨x_blind, ?_, fun U hU hW => ⟨rfl, by rw [hU], by rw [hU]; exact hPc, va_K.moved hW.alike hK, hDc.weaken (fun _ _ _ _ => trivial)⟩⟩ rfl hn hl.1.1 hst (lv_room hr) d ⟨hR.2.2.1, hR.2.2.2⟩) hS (fun q _ h => hFc q h) hFc (fun r u t H1 locs1 ht hvm hw hB hz hk1 hS1 => ?_)
  · rw [hq]
    exact va_recv hK hPc (ci := 0) (q := (R_X, F_X, 12)) (q0 := 0) rfl rfl
  · rw [ht] at hB
    have hD1 : va_D (va_A (xP a σ) H.size) (xP a u) := xD_adr (w := xP a σ) rfl hDc.self
    obtain ⟨hP2, -⟩ := va_join (wr := mP (lB a gs) μ) (w1 := xP a u) hP hD0 [0, 1, 2, 3, 4, 5, 6, 7, 8, 9] [10, 11, 12, 13] rfl rfl (by decide) (by decide) hk1 hFc hB hD1
    exact kk r u hw H1 locs1 ls (va_P.sub hP2 [4, 5, 6, 7, 8, 9, 10, 11, 12, 13, 0, 1, 2, 3] rfl) hS1 hl
theorem l_callM (C : xC Γ a (lP a gs) cc nl own K) (w : xwV own idx y bb nl' ret n) (d : xd cc pc (.invokevirtual idx) 3 pc') (hM : MI (lB a gs) (mP (lB a gs)) y bb nl' ret k (.ref (gs 0) :: As) μ post) (hq : y.cls = R_M) (hn : As.length = n) (hst : st0 = As.reverse ++ .ref (gs 0) :: st) (hk : k + 1 ≤ K ∧ nl' ≤ 9) (hr : (st.map fun v => v.category).sum ≤ 8)
    (kk : ∀ r u, post r u → xW Γ a (lP a gs) (σ, u) pc' L (.int r :: st)) : xW Γ a (lP a gs) (σ, μ) pc L st0 := by
  obtain ⟨p, l, e, R, s, m, args, below, meth, c, cells, slots, Q, A, nL⟩ := Γ
  obtain ⟨hx, hb, hml, rfl, hown, hts, hK, hD, hA, hlk, hR⟩ := C
  obtain ⟨d, rfl⟩ := d
  intro H locs ls hP hS hl
  have hD0 := hD (σ, μ)
  have hPc : va_P a.1 classes (mP (lB a gs) μ) H := va_P.sub hP [10, 11, 12, 13] rfl
  have hDc : va_D A (mP (lB a gs) μ) := va_D.sub hD0 [10, 11, 12, 13] (by decide) rfl
  have hFc := va_free (wc := mP (lB a gs) μ) hD0 hS hA [10, 11, 12, 13] rfl
  refine va_calli (A1 := va_A (mP (lB a gs) μ) H.size) (va_runV (As := As) (rest := st) (C := y.cls) ⟨hx, hb, hml, hown, hts⟩ (hM l H.size) (cwV n hts (x_goodV w) rfl rfl rfl ⟨rfl, w.2.2.2.2.2⟩ ⟨by show k + 1 ≤ R.frames; omega, by show 8 + (nl' + 11) + 28 * k ≤ R.locals; omega⟩) ⟨x_blind, ?_, fun U hU hW => ⟨rfl, by rw [hU], by rw [hU]; exact hPc, va_K.moved hW.alike hK, hDc.weaken (fun _ _ _ _ => trivial)⟩⟩ rfl hn hl.1.1 hst (lv_room hr) d ⟨hR.2.2.1, hR.2.2.2⟩) hS (fun q _ h => hFc q h) hFc (fun r u t H1 locs1 ht hvm hw hB hz hk1 hS1 => ?_)
  · rw [hq]
    exact va_recv hK hPc (ci := 1) (q := (R_M, F_M, 4)) (q0 := 0) rfl rfl
  · rw [ht] at hB
    have hD1 : va_D (va_A (mP (lB a gs) μ) H.size) (mP (lB a gs) u) := xD_adr (w := mP (lB a gs) μ) rfl hDc.self
    obtain ⟨hP2, -⟩ := va_join (wr := xP a σ) (w1 := mP (lB a gs) u) hP hD0 [10, 11, 12, 13] [0, 1, 2, 3, 4, 5, 6, 7, 8, 9] rfl rfl (by decide) (by decide) hk1 hFc hB hD1
    exact kk r u hw H1 locs1 ls hP2 hS1 hl
theorem l_cX0 {y : MethodName} {bb : ByteArray} {nl' k idx : Nat} {ret : Option FieldType} {post : Int32 → xT → Prop} (C : xC Γ a (lP a gs) cc nl own K) (w : xwV own idx y bb nl' ret 0) (d : xd cc pc (.invokevirtual idx) 3 pc') (hM : MI a (xP a) y bb nl' ret k (.ref (a.2.2.2 0) :: []) σ post) (kk : ∀ r u, post r u → xW Γ a (lP a gs) (u, μ) pc' L (.int r :: st)) (hq : y.cls = R_X := by rfl) (hk : k + 1 ≤ K ∧ nl' ≤ 9 := by decide) (hr : (st.map fun v => v.category).sum ≤ 8 := by exact Nat.le_of_ble_eq_true rfl) : xW Γ a (lP a gs) (σ, μ) pc L (.ref (a.2.2.2 0) :: st) :=
  l_callX C w d hM hq rfl rfl hk hr kk
theorem l_cM0 {y : MethodName} {bb : ByteArray} {nl' k idx : Nat} {ret : Option FieldType} {post : Int32 → xT → Prop} (C : xC Γ a (lP a gs) cc nl own K) (w : xwV own idx y bb nl' ret 0) (d : xd cc pc (.invokevirtual idx) 3 pc') (hM : MI (lB a gs) (mP (lB a gs)) y bb nl' ret k (.ref (gs 0) :: []) μ post) (kk : ∀ r u, post r u → xW Γ a (lP a gs) (σ, u) pc' L (.int r :: st)) (hq : y.cls = R_M := by rfl) (hk : k + 1 ≤ K ∧ nl' ≤ 9 := by decide) (hr : (st.map fun v => v.category).sum ≤ 8 := by exact Nat.le_of_ble_eq_true rfl) : xW Γ a (lP a gs) (σ, μ) pc L (.ref (gs 0) :: st) :=
  l_callM C w d hM hq rfl rfl hk hr kk
theorem l_cX1 {v1 : Int32} {y : MethodName} {bb : ByteArray} {nl' k idx : Nat} {ret : Option FieldType} {post : Int32 → xT → Prop} (C : xC Γ a (lP a gs) cc nl own K) (w : xwV own idx y bb nl' ret 1) (d : xd cc pc (.invokevirtual idx) 3 pc') (hM : MI a (xP a) y bb nl' ret k (.ref (a.2.2.2 0) :: [.int v1]) σ post) (kk : ∀ r u, post r u → xW Γ a (lP a gs) (u, μ) pc' L (.int r :: st)) (hq : y.cls = R_X := by rfl) (hk : k + 1 ≤ K ∧ nl' ≤ 9 := by decide) (hr : (st.map fun v => v.category).sum ≤ 8 := by exact Nat.le_of_ble_eq_true rfl) : xW Γ a (lP a gs) (σ, μ) pc L (.int v1 :: .ref (a.2.2.2 0) :: st) :=
  l_callX C w d hM hq rfl rfl hk hr kk
theorem l_cM1 {v1 : Int32} {y : MethodName} {bb : ByteArray} {nl' k idx : Nat} {ret : Option FieldType} {post : Int32 → xT → Prop} (C : xC Γ a (lP a gs) cc nl own K) (w : xwV own idx y bb nl' ret 1) (d : xd cc pc (.invokevirtual idx) 3 pc') (hM : MI (lB a gs) (mP (lB a gs)) y bb nl' ret k (.ref (gs 0) :: [.int v1]) μ post) (kk : ∀ r u, post r u → xW Γ a (lP a gs) (σ, u) pc' L (.int r :: st)) (hq : y.cls = R_M := by rfl) (hk : k + 1 ≤ K ∧ nl' ≤ 9 := by decide) (hr : (st.map fun v => v.category).sum ≤ 8 := by exact Nat.le_of_ble_eq_true rfl) : xW Γ a (lP a gs) (σ, μ) pc L (.int v1 :: .ref (gs 0) :: st) :=
  l_callM C w d hM hq rfl rfl hk hr kk
theorem l_cX2 {v1 v2 : Int32} {y : MethodName} {bb : ByteArray} {nl' k idx : Nat} {ret : Option FieldType} {post : Int32 → xT → Prop} (C : xC Γ a (lP a gs) cc nl own K) (w : xwV own idx y bb nl' ret 2) (d : xd cc pc (.invokevirtual idx) 3 pc') (hM : MI a (xP a) y bb nl' ret k (.ref (a.2.2.2 0) :: [.int v1, .int v2]) σ post) (kk : ∀ r u, post r u → xW Γ a (lP a gs) (u, μ) pc' L (.int r :: st)) (hq : y.cls = R_X := by rfl) (hk : k + 1 ≤ K ∧ nl' ≤ 9 := by decide) (hr : (st.map fun v => v.category).sum ≤ 8 := by exact Nat.le_of_ble_eq_true rfl) : xW Γ a (lP a gs) (σ, μ) pc L (.int v2 :: .int v1 :: .ref (a.2.2.2 0) :: st) :=
  l_callX C w d hM hq rfl rfl hk hr kk
theorem l_cM2 {v1 v2 : Int32} {y : MethodName} {bb : ByteArray} {nl' k idx : Nat} {ret : Option FieldType} {post : Int32 → xT → Prop} (C : xC Γ a (lP a gs) cc nl own K) (w : xwV own idx y bb nl' ret 2) (d : xd cc pc (.invokevirtual idx) 3 pc') (hM : MI (lB a gs) (mP (lB a gs)) y bb nl' ret k (.ref (gs 0) :: [.int v1, .int v2]) μ post) (kk : ∀ r u, post r u → xW Γ a (lP a gs) (σ, u) pc' L (.int r :: st)) (hq : y.cls = R_M := by rfl) (hk : k + 1 ≤ K ∧ nl' ≤ 9 := by decide) (hr : (st.map fun v => v.category).sum ≤ 8 := by exact Nat.le_of_ble_eq_true rfl) : xW Γ a (lP a gs) (σ, μ) pc L (.int v2 :: .int v1 :: .ref (gs 0) :: st) :=
  l_callM C w d hM hq rfl rfl hk hr kk
theorem l_cX3 {v1 v2 v3 : Int32} {y : MethodName} {bb : ByteArray} {nl' k idx : Nat} {ret : Option FieldType} {post : Int32 → xT → Prop} (C : xC Γ a (lP a gs) cc nl own K) (w : xwV own idx y bb nl' ret 3) (d : xd cc pc (.invokevirtual idx) 3 pc') (hM : MI a (xP a) y bb nl' ret k (.ref (a.2.2.2 0) :: [.int v1, .int v2, .int v3]) σ post) (kk : ∀ r u, post r u → xW Γ a (lP a gs) (u, μ) pc' L (.int r :: st)) (hq : y.cls = R_X := by rfl) (hk : k + 1 ≤ K ∧ nl' ≤ 9 := by decide) (hr : (st.map fun v => v.category).sum ≤ 8 := by exact Nat.le_of_ble_eq_true rfl) : xW Γ a (lP a gs) (σ, μ) pc L (.int v3 :: .int v2 :: .int v1 :: .ref (a.2.2.2 0) :: st) :=
  l_callX C w d hM hq rfl rfl hk hr kk
theorem l_cM3 {v1 v2 v3 : Int32} {y : MethodName} {bb : ByteArray} {nl' k idx : Nat} {ret : Option FieldType} {post : Int32 → xT → Prop} (C : xC Γ a (lP a gs) cc nl own K) (w : xwV own idx y bb nl' ret 3) (d : xd cc pc (.invokevirtual idx) 3 pc') (hM : MI (lB a gs) (mP (lB a gs)) y bb nl' ret k (.ref (gs 0) :: [.int v1, .int v2, .int v3]) μ post) (kk : ∀ r u, post r u → xW Γ a (lP a gs) (σ, u) pc' L (.int r :: st)) (hq : y.cls = R_M := by rfl) (hk : k + 1 ≤ K ∧ nl' ≤ 9 := by decide) (hr : (st.map fun v => v.category).sum ≤ 8 := by exact Nat.le_of_ble_eq_true rfl) : xW Γ a (lP a gs) (σ, μ) pc L (.int v3 :: .int v2 :: .int v1 :: .ref (gs 0) :: st) :=
  l_callM C w d hM hq rfl rfl hk hr kk
theorem l_cX4 {v1 v2 v3 v4 : Int32} {y : MethodName} {bb : ByteArray} {nl' k idx : Nat} {ret : Option FieldType} {post : Int32 → xT → Prop} (C : xC Γ a (lP a gs) cc nl own K) (w : xwV own idx y bb nl' ret 4) (d : xd cc pc (.invokevirtual idx) 3 pc') (hM : MI a (xP a) y bb nl' ret k (.ref (a.2.2.2 0) :: [.int v1, .int v2, .int v3, .int v4]) σ post) (kk : ∀ r u, post r u → xW Γ a (lP a gs) (u, μ) pc' L (.int r :: st)) (hq : y.cls = R_X := by rfl) (hk : k + 1 ≤ K ∧ nl' ≤ 9 := by decide) (hr : (st.map fun v => v.category).sum ≤ 8 := by exact Nat.le_of_ble_eq_true rfl) : xW Γ a (lP a gs) (σ, μ) pc L (.int v4 :: .int v3 :: .int v2 :: .int v1 :: .ref (a.2.2.2 0) :: st) :=
  l_callX C w d hM hq rfl rfl hk hr kk
theorem l_cM4 {v1 v2 v3 v4 : Int32} {y : MethodName} {bb : ByteArray} {nl' k idx : Nat} {ret : Option FieldType} {post : Int32 → xT → Prop} (C : xC Γ a (lP a gs) cc nl own K) (w : xwV own idx y bb nl' ret 4) (d : xd cc pc (.invokevirtual idx) 3 pc') (hM : MI (lB a gs) (mP (lB a gs)) y bb nl' ret k (.ref (gs 0) :: [.int v1, .int v2, .int v3, .int v4]) μ post) (kk : ∀ r u, post r u → xW Γ a (lP a gs) (σ, u) pc' L (.int r :: st)) (hq : y.cls = R_M := by rfl) (hk : k + 1 ≤ K ∧ nl' ≤ 9 := by decide) (hr : (st.map fun v => v.category).sum ≤ 8 := by exact Nat.le_of_ble_eq_true rfl) : xW Γ a (lP a gs) (σ, μ) pc L (.int v4 :: .int v3 :: .int v2 :: .int v1 :: .ref (gs 0) :: st) :=
  l_callM C w d hM hq rfl rfl hk hr kk
end LR
theorem l_case0 {Γ : xG} {a : xA} {gs : Nat → Nat} {b L i n : Nat} {xs : Nat → Int32} {σ μ : xT} {v : vT} (C : xC Γ a (lP a gs) code 4 R_law 7) (X : xS Γ b L xs) (hL : L < 2 ^ 31) (hi : i + 4 < L) (hI : XI σ n v) (hM : MX μ n v) (next : ∀ σ' μ' v', XI σ' n v' → MX μ' n v' → xW Γ a (lP a gs) (σ', μ') 695 [some (.ref b), some (.ref (a.2.2.2 0)), some (.ref (gs 0)), some (.int (nI i))] []) : xW Γ a (lP a gs) (σ, μ) 124 [some (.ref b), some (.ref (a.2.2.2 0)), some (.ref (gs 0)), some (.int (nI i))] [] := by
  refine x_aload1 C d_L_law_124 ?_
  refine l_cX0 C k_L_21 d_L_law_125 (c_X_frames a σ hI) (fun r u hw => ?_)
  obtain ⟨e1, hI1⟩ := hw
  refine x_aload2 C d_L_law_128 ?_
  refine l_cM0 C k_L_25 d_L_law_129 (c_M_frames (lB a gs) μ hM) (fun r2 u2 hw2 => ?_)
  obtain ⟨e2, hM1⟩ := hw2
  refine x_icmp_eq C d_L_law_132 (fun h => ?_) (fun h => ?_)
  · exact next _ _ _ hI1 hM1
  · exact absurd (e1.trans e2.symm) h
theorem l_case1 {Γ : xG} {a : xA} {gs : Nat → Nat} {b L i n : Nat} {xs : Nat → Int32} {σ μ : xT} {v : vT} (C : xC Γ a (lP a gs) code 4 R_law 7) (X : xS Γ b L xs) (hL : L < 2 ^ 31) (hi : i + 4 < L) (hI : XI σ n v) (hM : MX μ n v) (next : ∀ σ' μ' v', XI σ' n v' → MX μ' n v' → xW Γ a (lP a gs) (σ', μ') 695 [some (.ref b), some (.ref (a.2.2.2 0)), some (.ref (gs 0)), some (.int (nI i))] []) : xW Γ a (lP a gs) (σ, μ) 137 [some (.ref b), some (.ref (a.2.2.2 0)), some (.ref (gs 0)), some (.int (nI i))] [] := by
  refine x_aload1 C d_L_law_137 ?_
  refine l_cX0 C k_L_26 d_L_law_138 (c_X_used a σ hI) (fun r u hw => ?_)
  obtain ⟨e1, hI1⟩ := hw
  refine x_aload2 C d_L_law_141 ?_
  refine l_cM0 C k_L_29 d_L_law_142 (c_M_used (lB a gs) μ hM) (fun r2 u2 hw2 => ?_)
  obtain ⟨e3, e2⟩ := hw2
  have hM1 : MX u2 n v := by rw [e3]; exact hM
  refine x_icmp_eq C d_L_law_145 (fun h => ?_) (fun h => ?_)
  · exact next _ _ _ hI1 hM1
  · exact absurd (e1.trans e2.symm) h
theorem l_case2 {Γ : xG} {a : xA} {gs : Nat → Nat} {b L i n : Nat} {xs : Nat → Int32} {σ μ : xT} {v : vT} (C : xC Γ a (lP a gs) code 4 R_law 7) (X : xS Γ b L xs) (hL : L < 2 ^ 31) (hi : i + 4 < L) (hI : XI σ n v) (hM : MX μ n v) (next : ∀ σ' μ' v', XI σ' n v' → MX μ' n v' → xW Γ a (lP a gs) (σ', μ') 695 [some (.ref b), some (.ref (a.2.2.2 0)), some (.ref (gs 0)), some (.int (nI i))] []) : xW Γ a (lP a gs) (σ, μ) 150 [some (.ref b), some (.ref (a.2.2.2 0)), some (.ref (gs 0)), some (.int (nI i))] [] := by
  refine x_aload1 C d_L_law_150 ?_
  refine x_aload0 C d_L_law_151 ?_
  refine x_iload3 C d_L_law_152 ?_
  refine x_iconst C d_L_law_153 kI_1 ?_
  refine x_iaddN C d_L_law_154 ?_
  refine l_sld C X d_L_law_155 hL (by omega) ?_
  refine l_cX1 C k_L_30 d_L_law_156 (c_X_mappedIn a σ hI _) (fun r u hw => ?_)
  obtain ⟨e1, hI1⟩ := hw
  refine x_aload2 C d_L_law_159 ?_
  refine x_aload0 C d_L_law_160 ?_
  refine x_iload3 C d_L_law_161 ?_
  refine x_iconst C d_L_law_162 kI_1 ?_
  refine x_iaddN C d_L_law_163 ?_
  refine l_sld C X d_L_law_164 hL (by omega) ?_
  refine l_cM1 C k_L_34 d_L_law_165 (c_M_mappedIn (lB a gs) μ hM _) (fun r2 u2 hw2 => ?_)
  obtain ⟨e2, hM1⟩ := hw2
  refine x_icmp_eq C d_L_law_168 (fun h => ?_) (fun h => ?_)
  · exact next _ _ _ hI1 hM1
  · exact absurd (e1.trans e2.symm) h
theorem l_case3 {Γ : xG} {a : xA} {gs : Nat → Nat} {b L i n : Nat} {xs : Nat → Int32} {σ μ : xT} {v : vT} (C : xC Γ a (lP a gs) code 4 R_law 7) (X : xS Γ b L xs) (hL : L < 2 ^ 31) (hi : i + 4 < L) (hI : XI σ n v) (hM : MX μ n v) (next : ∀ σ' μ' v', XI σ' n v' → MX μ' n v' → xW Γ a (lP a gs) (σ', μ') 695 [some (.ref b), some (.ref (a.2.2.2 0)), some (.ref (gs 0)), some (.int (nI i))] []) : xW Γ a (lP a gs) (σ, μ) 173 [some (.ref b), some (.ref (a.2.2.2 0)), some (.ref (gs 0)), some (.int (nI i))] [] := by
  refine x_aload1 C d_L_law_173 ?_
  refine x_aload0 C d_L_law_174 ?_
  refine x_iload3 C d_L_law_175 ?_
  refine x_iconst C d_L_law_176 kI_1 ?_
  refine x_iaddN C d_L_law_177 ?_
  refine l_sld C X d_L_law_178 hL (by omega) ?_
  refine x_aload0 C d_L_law_179 ?_
  refine x_iload3 C d_L_law_180 ?_
  refine x_iconst C d_L_law_181 kI_2 ?_
  refine x_iaddN C d_L_law_182 ?_
  refine l_sld C X d_L_law_183 hL (by omega) ?_
  refine x_aload0 C d_L_law_184 ?_
  refine x_iload3 C d_L_law_185 ?_
  refine x_iconst C d_L_law_186 kI_3 ?_
  refine x_iaddN C d_L_law_187 ?_
  refine l_sld C X d_L_law_188 hL (by omega) ?_
  refine l_cX3 C k_L_35 d_L_law_189 (c_X_map a σ hI _ _ _) (fun r u hw => ?_)
  obtain ⟨e1, hI1⟩ := hw
  refine x_aload2 C d_L_law_192 ?_
  refine x_aload0 C d_L_law_193 ?_
  refine x_iload3 C d_L_law_194 ?_
  refine x_iconst C d_L_law_195 kI_1 ?_
  refine x_iaddN C d_L_law_196 ?_
  refine l_sld C X d_L_law_197 hL (by omega) ?_
  refine x_aload0 C d_L_law_198 ?_
  refine x_iload3 C d_L_law_199 ?_
  refine x_iconst C d_L_law_200 kI_2 ?_
  refine x_iaddN C d_L_law_201 ?_
  refine l_sld C X d_L_law_202 hL (by omega) ?_
  refine x_aload0 C d_L_law_203 ?_
  refine x_iload3 C d_L_law_204 ?_
  refine x_iconst C d_L_law_205 kI_3 ?_
  refine x_iaddN C d_L_law_206 ?_
  refine l_sld C X d_L_law_207 hL (by omega) ?_
  refine l_cM3 C k_L_39 d_L_law_208 (c_M_map (lB a gs) μ hM _ _ _) (fun r2 u2 hw2 => ?_)
  obtain ⟨e2, hM1⟩ := hw2
  refine x_icmp_eq C d_L_law_211 (fun h => ?_) (fun h => ?_)
  · exact next _ _ _ hI1 hM1
  · exact absurd (e1.trans e2.symm) h
theorem l_case4 {Γ : xG} {a : xA} {gs : Nat → Nat} {b L i n : Nat} {xs : Nat → Int32} {σ μ : xT} {v : vT} (C : xC Γ a (lP a gs) code 4 R_law 7) (X : xS Γ b L xs) (hL : L < 2 ^ 31) (hi : i + 4 < L) (hI : XI σ n v) (hM : MX μ n v) (next : ∀ σ' μ' v', XI σ' n v' → MX μ' n v' → xW Γ a (lP a gs) (σ', μ') 695 [some (.ref b), some (.ref (a.2.2.2 0)), some (.ref (gs 0)), some (.int (nI i))] []) : xW Γ a (lP a gs) (σ, μ) 216 [some (.ref b), some (.ref (a.2.2.2 0)), some (.ref (gs 0)), some (.int (nI i))] [] := by
  refine x_aload1 C d_L_law_216 ?_
  refine x_aload0 C d_L_law_217 ?_
  refine x_iload3 C d_L_law_218 ?_
  refine x_iconst C d_L_law_219 kI_1 ?_
  refine x_iaddN C d_L_law_220 ?_
  refine l_sld C X d_L_law_221 hL (by omega) ?_
  refine x_aload0 C d_L_law_222 ?_
  refine x_iload3 C d_L_law_223 ?_
  refine x_iconst C d_L_law_224 kI_2 ?_
  refine x_iaddN C d_L_law_225 ?_
  refine l_sld C X d_L_law_226 hL (by omega) ?_
  refine x_aload0 C d_L_law_227 ?_
  refine x_iload3 C d_L_law_228 ?_
  refine x_iconst C d_L_law_229 kI_3 ?_
  refine x_iaddN C d_L_law_230 ?_
  refine l_sld C X d_L_law_231 hL (by omega) ?_
  refine l_cX3 C k_L_40 d_L_law_232 (c_X_unmap a σ hI _ _ _) (fun r u hw => ?_)
  obtain ⟨e1, hI1⟩ := hw
  refine x_aload2 C d_L_law_235 ?_
  refine x_aload0 C d_L_law_236 ?_
  refine x_iload3 C d_L_law_237 ?_
  refine x_iconst C d_L_law_238 kI_1 ?_
  refine x_iaddN C d_L_law_239 ?_
  refine l_sld C X d_L_law_240 hL (by omega) ?_
  refine x_aload0 C d_L_law_241 ?_
  refine x_iload3 C d_L_law_242 ?_
  refine x_iconst C d_L_law_243 kI_2 ?_
  refine x_iaddN C d_L_law_244 ?_
  refine l_sld C X d_L_law_245 hL (by omega) ?_
  refine x_aload0 C d_L_law_246 ?_
  refine x_iload3 C d_L_law_247 ?_
  refine x_iconst C d_L_law_248 kI_3 ?_
  refine x_iaddN C d_L_law_249 ?_
  refine l_sld C X d_L_law_250 hL (by omega) ?_
  refine l_cM3 C k_L_43 d_L_law_251 (c_M_unmap (lB a gs) μ hM _ _ _) (fun r2 u2 hw2 => ?_)
  obtain ⟨e2, hM1⟩ := hw2
  refine x_icmp_eq C d_L_law_254 (fun h => ?_) (fun h => ?_)
  · exact next _ _ _ hI1 hM1
  · exact absurd (e1.trans e2.symm) h
theorem l_case5 {Γ : xG} {a : xA} {gs : Nat → Nat} {b L i n : Nat} {xs : Nat → Int32} {σ μ : xT} {v : vT} (C : xC Γ a (lP a gs) code 4 R_law 7) (X : xS Γ b L xs) (hL : L < 2 ^ 31) (hi : i + 4 < L) (hI : XI σ n v) (hM : MX μ n v) (next : ∀ σ' μ' v', XI σ' n v' → MX μ' n v' → xW Γ a (lP a gs) (σ', μ') 695 [some (.ref b), some (.ref (a.2.2.2 0)), some (.ref (gs 0)), some (.int (nI i))] []) : xW Γ a (lP a gs) (σ, μ) 259 [some (.ref b), some (.ref (a.2.2.2 0)), some (.ref (gs 0)), some (.int (nI i))] [] := by
  refine x_aload1 C d_L_law_259 ?_
  refine x_aload0 C d_L_law_260 ?_
  refine x_iload3 C d_L_law_261 ?_
  refine x_iconst C d_L_law_262 kI_1 ?_
  refine x_iaddN C d_L_law_263 ?_
  refine l_sld C X d_L_law_264 hL (by omega) ?_
  refine x_aload0 C d_L_law_265 ?_
  refine x_iload3 C d_L_law_266 ?_
  refine x_iconst C d_L_law_267 kI_2 ?_
  refine x_iaddN C d_L_law_268 ?_
  refine l_sld C X d_L_law_269 hL (by omega) ?_
  refine x_aload0 C d_L_law_270 ?_
  refine x_iload3 C d_L_law_271 ?_
  refine x_iconst C d_L_law_272 kI_3 ?_
  refine x_iaddN C d_L_law_273 ?_
  refine l_sld C X d_L_law_274 hL (by omega) ?_
  refine x_aload0 C d_L_law_275 ?_
  refine x_iload3 C d_L_law_276 ?_
  refine x_iconst C d_L_law_277 kI_4 ?_
  refine x_iaddN C d_L_law_278 ?_
  refine l_sld C X d_L_law_279 hL (by omega) ?_
  refine l_cX4 C k_L_44 d_L_law_280 (c_X_protect a σ hI _ _ _ _) (fun r u hw => ?_)
  obtain ⟨e1, hI1⟩ := hw
  refine x_aload2 C d_L_law_283 ?_
  refine x_aload0 C d_L_law_284 ?_
  refine x_iload3 C d_L_law_285 ?_
  refine x_iconst C d_L_law_286 kI_1 ?_
  refine x_iaddN C d_L_law_287 ?_
  refine l_sld C X d_L_law_288 hL (by omega) ?_
  refine x_aload0 C d_L_law_289 ?_
  refine x_iload3 C d_L_law_290 ?_
  refine x_iconst C d_L_law_291 kI_2 ?_
  refine x_iaddN C d_L_law_292 ?_
  refine l_sld C X d_L_law_293 hL (by omega) ?_
  refine x_aload0 C d_L_law_294 ?_
  refine x_iload3 C d_L_law_295 ?_
  refine x_iconst C d_L_law_296 kI_3 ?_
  refine x_iaddN C d_L_law_297 ?_
  refine l_sld C X d_L_law_298 hL (by omega) ?_
  refine x_aload0 C d_L_law_299 ?_
  refine x_iload3 C d_L_law_300 ?_
  refine x_iconst C d_L_law_301 kI_4 ?_
  refine x_iaddN C d_L_law_302 ?_
  refine l_sld C X d_L_law_303 hL (by omega) ?_
  refine l_cM4 C k_L_48 d_L_law_304 (c_M_protect (lB a gs) μ hM _ _ _ _) (fun r2 u2 hw2 => ?_)
  obtain ⟨e2, hM1⟩ := hw2
  refine x_icmp_eq C d_L_law_307 (fun h => ?_) (fun h => ?_)
  · exact next _ _ _ hI1 hM1
  · exact absurd (e1.trans e2.symm) h
theorem l_case6 {Γ : xG} {a : xA} {gs : Nat → Nat} {b L i n : Nat} {xs : Nat → Int32} {σ μ : xT} {v : vT} (C : xC Γ a (lP a gs) code 4 R_law 7) (X : xS Γ b L xs) (hL : L < 2 ^ 31) (hi : i + 4 < L) (hI : XI σ n v) (hM : MX μ n v) (next : ∀ σ' μ' v', XI σ' n v' → MX μ' n v' → xW Γ a (lP a gs) (σ', μ') 695 [some (.ref b), some (.ref (a.2.2.2 0)), some (.ref (gs 0)), some (.int (nI i))] []) : xW Γ a (lP a gs) (σ, μ) 312 [some (.ref b), some (.ref (a.2.2.2 0)), some (.ref (gs 0)), some (.int (nI i))] [] := by
  refine x_aload1 C d_L_law_312 ?_
  refine x_aload0 C d_L_law_313 ?_
  refine x_iload3 C d_L_law_314 ?_
  refine x_iconst C d_L_law_315 kI_1 ?_
  refine x_iaddN C d_L_law_316 ?_
  refine l_sld C X d_L_law_317 hL (by omega) ?_
  refine x_aload0 C d_L_law_318 ?_
  refine x_iload3 C d_L_law_319 ?_
  refine x_iconst C d_L_law_320 kI_2 ?_
  refine x_iaddN C d_L_law_321 ?_
  refine l_sld C X d_L_law_322 hL (by omega) ?_
  refine l_cX2 C k_L_49 d_L_law_323 (c_X_mapped a σ hI _ _) (fun r u hw => ?_)
  obtain ⟨e1, hI1⟩ := hw
  refine x_aload2 C d_L_law_326 ?_
  refine x_aload0 C d_L_law_327 ?_
  refine x_iload3 C d_L_law_328 ?_
  refine x_iconst C d_L_law_329 kI_1 ?_
  refine x_iaddN C d_L_law_330 ?_
  refine l_sld C X d_L_law_331 hL (by omega) ?_
  refine x_aload0 C d_L_law_332 ?_
  refine x_iload3 C d_L_law_333 ?_
  refine x_iconst C d_L_law_334 kI_2 ?_
  refine x_iaddN C d_L_law_335 ?_
  refine l_sld C X d_L_law_336 hL (by omega) ?_
  refine l_cM2 C k_L_53 d_L_law_337 (c_M_mapped (lB a gs) μ hM _ _) (fun r2 u2 hw2 => ?_)
  obtain ⟨e2, hM1⟩ := hw2
  refine x_icmp_eq C d_L_law_340 (fun h => ?_) (fun h => ?_)
  · exact next _ _ _ hI1 hM1
  · exact absurd (e1.trans e2.symm) h
theorem l_case7 {Γ : xG} {a : xA} {gs : Nat → Nat} {b L i n : Nat} {xs : Nat → Int32} {σ μ : xT} {v : vT} (C : xC Γ a (lP a gs) code 4 R_law 7) (X : xS Γ b L xs) (hL : L < 2 ^ 31) (hi : i + 4 < L) (hI : XI σ n v) (hM : MX μ n v) (next : ∀ σ' μ' v', XI σ' n v' → MX μ' n v' → xW Γ a (lP a gs) (σ', μ') 695 [some (.ref b), some (.ref (a.2.2.2 0)), some (.ref (gs 0)), some (.int (nI i))] []) : xW Γ a (lP a gs) (σ, μ) 345 [some (.ref b), some (.ref (a.2.2.2 0)), some (.ref (gs 0)), some (.int (nI i))] [] := by
  refine x_aload1 C d_L_law_345 ?_
  refine x_aload0 C d_L_law_346 ?_
  refine x_iload3 C d_L_law_347 ?_
  refine x_iconst C d_L_law_348 kI_1 ?_
  refine x_iaddN C d_L_law_349 ?_
  refine l_sld C X d_L_law_350 hL (by omega) ?_
  refine x_aload0 C d_L_law_351 ?_
  refine x_iload3 C d_L_law_352 ?_
  refine x_iconst C d_L_law_353 kI_2 ?_
  refine x_iaddN C d_L_law_354 ?_
  refine l_sld C X d_L_law_355 hL (by omega) ?_
  refine l_cX2 C k_L_54 d_L_law_356 (c_X_writable a σ hI _ _) (fun r u hw => ?_)
  obtain ⟨e1, hI1⟩ := hw
  refine x_aload2 C d_L_law_359 ?_
  refine x_aload0 C d_L_law_360 ?_
  refine x_iload3 C d_L_law_361 ?_
  refine x_iconst C d_L_law_362 kI_1 ?_
  refine x_iaddN C d_L_law_363 ?_
  refine l_sld C X d_L_law_364 hL (by omega) ?_
  refine x_aload0 C d_L_law_365 ?_
  refine x_iload3 C d_L_law_366 ?_
  refine x_iconst C d_L_law_367 kI_2 ?_
  refine x_iaddN C d_L_law_368 ?_
  refine l_sld C X d_L_law_369 hL (by omega) ?_
  refine l_cM2 C k_L_57 d_L_law_370 (c_M_writable (lB a gs) μ hM _ _) (fun r2 u2 hw2 => ?_)
  obtain ⟨e2, hM1⟩ := hw2
  refine x_icmp_eq C d_L_law_373 (fun h => ?_) (fun h => ?_)
  · exact next _ _ _ hI1 hM1
  · exact absurd (e1.trans e2.symm) h
theorem l_case8 {Γ : xG} {a : xA} {gs : Nat → Nat} {b L i n : Nat} {xs : Nat → Int32} {σ μ : xT} {v : vT} (C : xC Γ a (lP a gs) code 4 R_law 7) (X : xS Γ b L xs) (hL : L < 2 ^ 31) (hi : i + 4 < L) (hI : XI σ n v) (hM : MX μ n v) (next : ∀ σ' μ' v', XI σ' n v' → MX μ' n v' → xW Γ a (lP a gs) (σ', μ') 695 [some (.ref b), some (.ref (a.2.2.2 0)), some (.ref (gs 0)), some (.int (nI i))] []) : xW Γ a (lP a gs) (σ, μ) 378 [some (.ref b), some (.ref (a.2.2.2 0)), some (.ref (gs 0)), some (.int (nI i))] [] := by
  refine x_aload1 C d_L_law_378 ?_
  refine x_aload0 C d_L_law_379 ?_
  refine x_iload3 C d_L_law_380 ?_
  refine x_iconst C d_L_law_381 kI_1 ?_
  refine x_iaddN C d_L_law_382 ?_
  refine l_sld C X d_L_law_383 hL (by omega) ?_
  refine x_aload0 C d_L_law_384 ?_
  refine x_iload3 C d_L_law_385 ?_
  refine x_iconst C d_L_law_386 kI_2 ?_
  refine x_iaddN C d_L_law_387 ?_
  refine l_sld C X d_L_law_388 hL (by omega) ?_
  refine l_cX2 C k_L_58 d_L_law_389 (c_X_read a σ hI _ _) (fun r u hw => ?_)
  obtain ⟨e1, hI1⟩ := hw
  refine x_aload2 C d_L_law_392 ?_
  refine x_aload0 C d_L_law_393 ?_
  refine x_iload3 C d_L_law_394 ?_
  refine x_iconst C d_L_law_395 kI_1 ?_
  refine x_iaddN C d_L_law_396 ?_
  refine l_sld C X d_L_law_397 hL (by omega) ?_
  refine x_aload0 C d_L_law_398 ?_
  refine x_iload3 C d_L_law_399 ?_
  refine x_iconst C d_L_law_400 kI_2 ?_
  refine x_iaddN C d_L_law_401 ?_
  refine l_sld C X d_L_law_402 hL (by omega) ?_
  refine l_cM2 C k_L_61 d_L_law_403 (c_M_read (lB a gs) μ hM _ _) (fun r2 u2 hw2 => ?_)
  obtain ⟨e2, hM1⟩ := hw2
  refine x_icmp_eq C d_L_law_406 (fun h => ?_) (fun h => ?_)
  · exact next _ _ _ hI1 hM1
  · exact absurd (e1.trans e2.symm) h
theorem l_case9 {Γ : xG} {a : xA} {gs : Nat → Nat} {b L i n : Nat} {xs : Nat → Int32} {σ μ : xT} {v : vT} (C : xC Γ a (lP a gs) code 4 R_law 7) (X : xS Γ b L xs) (hL : L < 2 ^ 31) (hi : i + 4 < L) (hI : XI σ n v) (hM : MX μ n v) (next : ∀ σ' μ' v', XI σ' n v' → MX μ' n v' → xW Γ a (lP a gs) (σ', μ') 695 [some (.ref b), some (.ref (a.2.2.2 0)), some (.ref (gs 0)), some (.int (nI i))] []) : xW Γ a (lP a gs) (σ, μ) 411 [some (.ref b), some (.ref (a.2.2.2 0)), some (.ref (gs 0)), some (.int (nI i))] [] := by
  refine x_aload1 C d_L_law_411 ?_
  refine x_aload0 C d_L_law_412 ?_
  refine x_iload3 C d_L_law_413 ?_
  refine x_iconst C d_L_law_414 kI_1 ?_
  refine x_iaddN C d_L_law_415 ?_
  refine l_sld C X d_L_law_416 hL (by omega) ?_
  refine x_aload0 C d_L_law_417 ?_
  refine x_iload3 C d_L_law_418 ?_
  refine x_iconst C d_L_law_419 kI_2 ?_
  refine x_iaddN C d_L_law_420 ?_
  refine l_sld C X d_L_law_421 hL (by omega) ?_
  refine x_aload0 C d_L_law_422 ?_
  refine x_iload3 C d_L_law_423 ?_
  refine x_iconst C d_L_law_424 kI_3 ?_
  refine x_iaddN C d_L_law_425 ?_
  refine l_sld C X d_L_law_426 hL (by omega) ?_
  refine l_cX3 C k_L_62 d_L_law_427 (c_X_write a σ hI _ _ _) (fun r u hw => ?_)
  obtain ⟨e1, hI1⟩ := hw
  refine x_aload2 C d_L_law_430 ?_
  refine x_aload0 C d_L_law_431 ?_
  refine x_iload3 C d_L_law_432 ?_
  refine x_iconst C d_L_law_433 kI_1 ?_
  refine x_iaddN C d_L_law_434 ?_
  refine l_sld C X d_L_law_435 hL (by omega) ?_
  refine x_aload0 C d_L_law_436 ?_
  refine x_iload3 C d_L_law_437 ?_
  refine x_iconst C d_L_law_438 kI_2 ?_
  refine x_iaddN C d_L_law_439 ?_
  refine l_sld C X d_L_law_440 hL (by omega) ?_
  refine x_aload0 C d_L_law_441 ?_
  refine x_iload3 C d_L_law_442 ?_
  refine x_iconst C d_L_law_443 kI_3 ?_
  refine x_iaddN C d_L_law_444 ?_
  refine l_sld C X d_L_law_445 hL (by omega) ?_
  refine l_cM3 C k_L_65 d_L_law_446 (c_M_write (lB a gs) μ hM _ _ _) (fun r2 u2 hw2 => ?_)
  obtain ⟨e2, hM1⟩ := hw2
  refine x_icmp_eq C d_L_law_449 (fun h => ?_) (fun h => ?_)
  · exact next _ _ _ hI1 hM1
  · exact absurd (e1.trans e2.symm) h
theorem l_case10 {Γ : xG} {a : xA} {gs : Nat → Nat} {b L i n : Nat} {xs : Nat → Int32} {σ μ : xT} {v : vT} (C : xC Γ a (lP a gs) code 4 R_law 7) (X : xS Γ b L xs) (hL : L < 2 ^ 31) (hi : i + 4 < L) (hI : XI σ n v) (hM : MX μ n v) (next : ∀ σ' μ' v', XI σ' n v' → MX μ' n v' → xW Γ a (lP a gs) (σ', μ') 695 [some (.ref b), some (.ref (a.2.2.2 0)), some (.ref (gs 0)), some (.int (nI i))] []) : xW Γ a (lP a gs) (σ, μ) 454 [some (.ref b), some (.ref (a.2.2.2 0)), some (.ref (gs 0)), some (.int (nI i))] [] := by
  refine x_aload1 C d_L_law_454 ?_
  refine x_aload0 C d_L_law_455 ?_
  refine x_iload3 C d_L_law_456 ?_
  refine x_iconst C d_L_law_457 kI_1 ?_
  refine x_iaddN C d_L_law_458 ?_
  refine l_sld C X d_L_law_459 hL (by omega) ?_
  refine x_aload0 C d_L_law_460 ?_
  refine x_iload3 C d_L_law_461 ?_
  refine x_iconst C d_L_law_462 kI_2 ?_
  refine x_iaddN C d_L_law_463 ?_
  refine l_sld C X d_L_law_464 hL (by omega) ?_
  refine x_aload0 C d_L_law_465 ?_
  refine x_iload3 C d_L_law_466 ?_
  refine x_iconst C d_L_law_467 kI_3 ?_
  refine x_iaddN C d_L_law_468 ?_
  refine l_sld C X d_L_law_469 hL (by omega) ?_
  refine l_cX3 C k_L_66 d_L_law_470 (c_X_touch a σ hI _ _ _) (fun r u hw => ?_)
  obtain ⟨e1, hI1⟩ := hw
  refine x_aload2 C d_L_law_473 ?_
  refine x_aload0 C d_L_law_474 ?_
  refine x_iload3 C d_L_law_475 ?_
  refine x_iconst C d_L_law_476 kI_1 ?_
  refine x_iaddN C d_L_law_477 ?_
  refine l_sld C X d_L_law_478 hL (by omega) ?_
  refine x_aload0 C d_L_law_479 ?_
  refine x_iload3 C d_L_law_480 ?_
  refine x_iconst C d_L_law_481 kI_2 ?_
  refine x_iaddN C d_L_law_482 ?_
  refine l_sld C X d_L_law_483 hL (by omega) ?_
  refine x_aload0 C d_L_law_484 ?_
  refine x_iload3 C d_L_law_485 ?_
  refine x_iconst C d_L_law_486 kI_3 ?_
  refine x_iaddN C d_L_law_487 ?_
  refine l_sld C X d_L_law_488 hL (by omega) ?_
  refine l_cM3 C k_L_69 d_L_law_489 (c_M_touch (lB a gs) μ hM _ _ _) (fun r2 u2 hw2 => ?_)
  obtain ⟨e2, hM1⟩ := hw2
  refine x_icmp_eq C d_L_law_492 (fun h => ?_) (fun h => ?_)
  · exact next _ _ _ hI1 hM1
  · exact absurd (e1.trans e2.symm) h
theorem l_case11 {Γ : xG} {a : xA} {gs : Nat → Nat} {b L i n : Nat} {xs : Nat → Int32} {σ μ : xT} {v : vT} (C : xC Γ a (lP a gs) code 4 R_law 7) (X : xS Γ b L xs) (hL : L < 2 ^ 31) (hi : i + 4 < L) (hI : XI σ n v) (hM : MX μ n v) (next : ∀ σ' μ' v', XI σ' n v' → MX μ' n v' → xW Γ a (lP a gs) (σ', μ') 695 [some (.ref b), some (.ref (a.2.2.2 0)), some (.ref (gs 0)), some (.int (nI i))] []) : xW Γ a (lP a gs) (σ, μ) 497 [some (.ref b), some (.ref (a.2.2.2 0)), some (.ref (gs 0)), some (.int (nI i))] [] := by
  refine x_aload1 C d_L_law_497 ?_
  refine x_aload0 C d_L_law_498 ?_
  refine x_iload3 C d_L_law_499 ?_
  refine x_iconst C d_L_law_500 kI_1 ?_
  refine x_iaddN C d_L_law_501 ?_
  refine l_sld C X d_L_law_502 hL (by omega) ?_
  refine x_aload0 C d_L_law_503 ?_
  refine x_iload3 C d_L_law_504 ?_
  refine x_iconst C d_L_law_505 kI_2 ?_
  refine x_iaddN C d_L_law_506 ?_
  refine l_sld C X d_L_law_507 hL (by omega) ?_
  refine x_aload0 C d_L_law_508 ?_
  refine x_iload3 C d_L_law_509 ?_
  refine x_iconst C d_L_law_510 kI_3 ?_
  refine x_iaddN C d_L_law_511 ?_
  refine l_sld C X d_L_law_512 hL (by omega) ?_
  refine l_cX3 C k_L_70 d_L_law_513 (c_X_stamp a σ hI _ _ _) (fun r u hw => ?_)
  obtain ⟨e1, hI1⟩ := hw
  refine x_aload2 C d_L_law_516 ?_
  refine x_aload0 C d_L_law_517 ?_
  refine x_iload3 C d_L_law_518 ?_
  refine x_iconst C d_L_law_519 kI_1 ?_
  refine x_iaddN C d_L_law_520 ?_
  refine l_sld C X d_L_law_521 hL (by omega) ?_
  refine x_aload0 C d_L_law_522 ?_
  refine x_iload3 C d_L_law_523 ?_
  refine x_iconst C d_L_law_524 kI_2 ?_
  refine x_iaddN C d_L_law_525 ?_
  refine l_sld C X d_L_law_526 hL (by omega) ?_
  refine x_aload0 C d_L_law_527 ?_
  refine x_iload3 C d_L_law_528 ?_
  refine x_iconst C d_L_law_529 kI_3 ?_
  refine x_iaddN C d_L_law_530 ?_
  refine l_sld C X d_L_law_531 hL (by omega) ?_
  refine l_cM3 C k_L_73 d_L_law_532 (c_M_stamp (lB a gs) μ hM _ _ _) (fun r2 u2 hw2 => ?_)
  obtain ⟨e2, hM1⟩ := hw2
  refine x_icmp_eq C d_L_law_535 (fun h => ?_) (fun h => ?_)
  · exact next _ _ _ hI1 hM1
  · exact absurd (e1.trans e2.symm) h
theorem l_case12 {Γ : xG} {a : xA} {gs : Nat → Nat} {b L i n : Nat} {xs : Nat → Int32} {σ μ : xT} {v : vT} (C : xC Γ a (lP a gs) code 4 R_law 7) (X : xS Γ b L xs) (hL : L < 2 ^ 31) (hi : i + 4 < L) (hI : XI σ n v) (hM : MX μ n v) (next : ∀ σ' μ' v', XI σ' n v' → MX μ' n v' → xW Γ a (lP a gs) (σ', μ') 695 [some (.ref b), some (.ref (a.2.2.2 0)), some (.ref (gs 0)), some (.int (nI i))] []) : xW Γ a (lP a gs) (σ, μ) 540 [some (.ref b), some (.ref (a.2.2.2 0)), some (.ref (gs 0)), some (.int (nI i))] [] := by
  refine x_aload1 C d_L_law_540 ?_
  refine x_aload0 C d_L_law_541 ?_
  refine x_iload3 C d_L_law_542 ?_
  refine x_iconst C d_L_law_543 kI_1 ?_
  refine x_iaddN C d_L_law_544 ?_
  refine l_sld C X d_L_law_545 hL (by omega) ?_
  refine x_aload0 C d_L_law_546 ?_
  refine x_iload3 C d_L_law_547 ?_
  refine x_iconst C d_L_law_548 kI_2 ?_
  refine x_iaddN C d_L_law_549 ?_
  refine l_sld C X d_L_law_550 hL (by omega) ?_
  refine x_aload0 C d_L_law_551 ?_
  refine x_iload3 C d_L_law_552 ?_
  refine x_iconst C d_L_law_553 kI_3 ?_
  refine x_iaddN C d_L_law_554 ?_
  refine l_sld C X d_L_law_555 hL (by omega) ?_
  refine l_cX3 C k_L_74 d_L_law_556 (c_X_remap a σ hI _ _ _) (fun r u hw => ?_)
  obtain ⟨e1, hI1⟩ := hw
  refine x_aload2 C d_L_law_559 ?_
  refine x_aload0 C d_L_law_560 ?_
  refine x_iload3 C d_L_law_561 ?_
  refine x_iconst C d_L_law_562 kI_1 ?_
  refine x_iaddN C d_L_law_563 ?_
  refine l_sld C X d_L_law_564 hL (by omega) ?_
  refine x_aload0 C d_L_law_565 ?_
  refine x_iload3 C d_L_law_566 ?_
  refine x_iconst C d_L_law_567 kI_2 ?_
  refine x_iaddN C d_L_law_568 ?_
  refine l_sld C X d_L_law_569 hL (by omega) ?_
  refine x_aload0 C d_L_law_570 ?_
  refine x_iload3 C d_L_law_571 ?_
  refine x_iconst C d_L_law_572 kI_3 ?_
  refine x_iaddN C d_L_law_573 ?_
  refine l_sld C X d_L_law_574 hL (by omega) ?_
  refine l_cM3 C k_L_77 d_L_law_575 (c_M_remap (lB a gs) μ hM _ _ _) (fun r2 u2 hw2 => ?_)
  obtain ⟨e2, hM1⟩ := hw2
  refine x_icmp_eq C d_L_law_578 (fun h => ?_) (fun h => ?_)
  · exact next _ _ _ hI1 hM1
  · exact absurd (e1.trans e2.symm) h
theorem l_case13 {Γ : xG} {a : xA} {gs : Nat → Nat} {b L i n : Nat} {xs : Nat → Int32} {σ μ : xT} {v : vT} (C : xC Γ a (lP a gs) code 4 R_law 7) (X : xS Γ b L xs) (hL : L < 2 ^ 31) (hi : i + 4 < L) (hI : XI σ n v) (hM : MX μ n v) (next : ∀ σ' μ' v', XI σ' n v' → MX μ' n v' → xW Γ a (lP a gs) (σ', μ') 695 [some (.ref b), some (.ref (a.2.2.2 0)), some (.ref (gs 0)), some (.int (nI i))] []) : xW Γ a (lP a gs) (σ, μ) 583 [some (.ref b), some (.ref (a.2.2.2 0)), some (.ref (gs 0)), some (.int (nI i))] [] := by
  refine x_aload1 C d_L_law_583 ?_
  refine x_aload0 C d_L_law_584 ?_
  refine x_iload3 C d_L_law_585 ?_
  refine x_iconst C d_L_law_586 kI_1 ?_
  refine x_iaddN C d_L_law_587 ?_
  refine l_sld C X d_L_law_588 hL (by omega) ?_
  refine x_aload0 C d_L_law_589 ?_
  refine x_iload3 C d_L_law_590 ?_
  refine x_iconst C d_L_law_591 kI_2 ?_
  refine x_iaddN C d_L_law_592 ?_
  refine l_sld C X d_L_law_593 hL (by omega) ?_
  refine l_cX2 C k_L_78 d_L_law_594 (c_X_duplicate a σ hI _ _) (fun r u hw => ?_)
  obtain ⟨e1, hI1⟩ := hw
  refine x_aload2 C d_L_law_597 ?_
  refine x_aload0 C d_L_law_598 ?_
  refine x_iload3 C d_L_law_599 ?_
  refine x_iconst C d_L_law_600 kI_1 ?_
  refine x_iaddN C d_L_law_601 ?_
  refine l_sld C X d_L_law_602 hL (by omega) ?_
  refine x_aload0 C d_L_law_603 ?_
  refine x_iload3 C d_L_law_604 ?_
  refine x_iconst C d_L_law_605 kI_2 ?_
  refine x_iaddN C d_L_law_606 ?_
  refine l_sld C X d_L_law_607 hL (by omega) ?_
  refine l_cM2 C k_L_81 d_L_law_608 (c_M_duplicate (lB a gs) μ hM _ _) (fun r2 u2 hw2 => ?_)
  obtain ⟨e2, hM1⟩ := hw2
  refine x_icmp_eq C d_L_law_611 (fun h => ?_) (fun h => ?_)
  · exact next _ _ _ hI1 hM1
  · exact absurd (e1.trans e2.symm) h
theorem l_case14 {Γ : xG} {a : xA} {gs : Nat → Nat} {b L i n : Nat} {xs : Nat → Int32} {σ μ : xT} {v : vT} (C : xC Γ a (lP a gs) code 4 R_law 7) (X : xS Γ b L xs) (hL : L < 2 ^ 31) (hi : i + 4 < L) (hI : XI σ n v) (hM : MX μ n v) (next : ∀ σ' μ' v', XI σ' n v' → MX μ' n v' → xW Γ a (lP a gs) (σ', μ') 695 [some (.ref b), some (.ref (a.2.2.2 0)), some (.ref (gs 0)), some (.int (nI i))] []) : xW Γ a (lP a gs) (σ, μ) 616 [some (.ref b), some (.ref (a.2.2.2 0)), some (.ref (gs 0)), some (.int (nI i))] [] := by
  refine x_aload1 C d_L_law_616 ?_
  refine x_aload0 C d_L_law_617 ?_
  refine x_iload3 C d_L_law_618 ?_
  refine x_iconst C d_L_law_619 kI_1 ?_
  refine x_iaddN C d_L_law_620 ?_
  refine l_sld C X d_L_law_621 hL (by omega) ?_
  refine l_cX1 C k_L_82 d_L_law_622 (c_X_exchange a σ hI _) (fun r u hw => ?_)
  obtain ⟨e1, hI1⟩ := hw
  refine x_aload2 C d_L_law_625 ?_
  refine x_aload0 C d_L_law_626 ?_
  refine x_iload3 C d_L_law_627 ?_
  refine x_iconst C d_L_law_628 kI_1 ?_
  refine x_iaddN C d_L_law_629 ?_
  refine l_sld C X d_L_law_630 hL (by omega) ?_
  refine l_cM1 C k_L_85 d_L_law_631 (c_M_exchange (lB a gs) μ hM _) (fun r2 u2 hw2 => ?_)
  obtain ⟨e2, hM1⟩ := hw2
  refine x_icmp_eq C d_L_law_634 (fun h => ?_) (fun h => ?_)
  · exact next _ _ _ hI1 hM1
  · exact absurd (e1.trans e2.symm) h
theorem l_case15 {Γ : xG} {a : xA} {gs : Nat → Nat} {b L i n : Nat} {xs : Nat → Int32} {σ μ : xT} {v : vT} (C : xC Γ a (lP a gs) code 4 R_law 7) (X : xS Γ b L xs) (hL : L < 2 ^ 31) (hi : i + 4 < L) (hI : XI σ n v) (hM : MX μ n v) (next : ∀ σ' μ' v', XI σ' n v' → MX μ' n v' → xW Γ a (lP a gs) (σ', μ') 695 [some (.ref b), some (.ref (a.2.2.2 0)), some (.ref (gs 0)), some (.int (nI i))] []) : xW Γ a (lP a gs) (σ, μ) 639 [some (.ref b), some (.ref (a.2.2.2 0)), some (.ref (gs 0)), some (.int (nI i))] [] := by
  refine x_aload1 C d_L_law_639 ?_
  refine x_aload0 C d_L_law_640 ?_
  refine x_iload3 C d_L_law_641 ?_
  refine x_iconst C d_L_law_642 kI_1 ?_
  refine x_iaddN C d_L_law_643 ?_
  refine l_sld C X d_L_law_644 hL (by omega) ?_
  refine l_cX1 C k_L_86 d_L_law_645 (c_X_sum a σ hI _) (fun r u hw => ?_)
  obtain ⟨e1, hI1⟩ := hw
  refine x_aload2 C d_L_law_648 ?_
  refine x_aload0 C d_L_law_649 ?_
  refine x_iload3 C d_L_law_650 ?_
  refine x_iconst C d_L_law_651 kI_1 ?_
  refine x_iaddN C d_L_law_652 ?_
  refine l_sld C X d_L_law_653 hL (by omega) ?_
  refine l_cM1 C k_L_89 d_L_law_654 (c_M_sum (lB a gs) μ hM _) (fun r2 u2 hw2 => ?_)
  obtain ⟨e2, hM1⟩ := hw2
  refine x_icmp_eq C d_L_law_657 (fun h => ?_) (fun h => ?_)
  · exact next _ _ _ hI1 hM1
  · exact absurd (e1.trans e2.symm) h
theorem l_case16 {Γ : xG} {a : xA} {gs : Nat → Nat} {b L i n : Nat} {xs : Nat → Int32} {σ μ : xT} {v : vT} (C : xC Γ a (lP a gs) code 4 R_law 7) (X : xS Γ b L xs) (hL : L < 2 ^ 31) (hi : i + 4 < L) (hI : XI σ n v) (hM : MX μ n v) (next : ∀ σ' μ' v', XI σ' n v' → MX μ' n v' → xW Γ a (lP a gs) (σ', μ') 695 [some (.ref b), some (.ref (a.2.2.2 0)), some (.ref (gs 0)), some (.int (nI i))] []) : xW Γ a (lP a gs) (σ, μ) 662 [some (.ref b), some (.ref (a.2.2.2 0)), some (.ref (gs 0)), some (.int (nI i))] [] := by
  refine x_aload1 C d_L_law_662 ?_
  refine x_aload0 C d_L_law_663 ?_
  refine x_iload3 C d_L_law_664 ?_
  refine x_iconst C d_L_law_665 kI_1 ?_
  refine x_iaddN C d_L_law_666 ?_
  refine l_sld C X d_L_law_667 hL (by omega) ?_
  refine x_aload0 C d_L_law_668 ?_
  refine x_iload3 C d_L_law_669 ?_
  refine x_iconst C d_L_law_670 kI_2 ?_
  refine x_iaddN C d_L_law_671 ?_
  refine l_sld C X d_L_law_672 hL (by omega) ?_
  refine l_cX2 C k_L_90 d_L_law_673 (c_X_nextMapped a σ hI _ _) (fun r u hw => ?_)
  obtain ⟨e1, hI1⟩ := hw
  refine x_aload2 C d_L_law_676 ?_
  refine x_aload0 C d_L_law_677 ?_
  refine x_iload3 C d_L_law_678 ?_
  refine x_iconst C d_L_law_679 kI_1 ?_
  refine x_iaddN C d_L_law_680 ?_
  refine l_sld C X d_L_law_681 hL (by omega) ?_
  refine x_aload0 C d_L_law_682 ?_
  refine x_iload3 C d_L_law_683 ?_
  refine x_iconst C d_L_law_684 kI_2 ?_
  refine x_iaddN C d_L_law_685 ?_
  refine l_sld C X d_L_law_686 hL (by omega) ?_
  refine l_cM2 C k_L_93 d_L_law_687 (c_M_nextMapped (lB a gs) μ hM _ _) (fun r2 u2 hw2 => ?_)
  obtain ⟨e2, hM1⟩ := hw2
  refine x_icmp_eq C d_L_law_690 (fun h => ?_) (fun h => ?_)
  · exact next _ _ _ hI1 hM1
  · exact absurd (e1.trans e2.symm) h
end
section
/-! The law's loop, its entry -/
theorem law_loop {Γ : xG} {a : xA} {gs : Nat → Nat} {b L n : Nat} {xs : Nat → Int32} (C : xC Γ a (lP a gs) code 4 R_law 7) (X : xS Γ b L xs) (hL : L ≤ 2561)
    (E : ∀ {pc pc' : Nat} {u : xT × xT} {Ls : List (Option Value)}, xd code pc .ireturn 1 pc' → xW Γ a (lP a gs) u pc Ls [.int (nI 1)]) :
    ∀ (m i : Nat) (σ μ : xT) (v : vT), L + 1 ≤ i + m → i ≤ L + 5 → XI σ n v → MX μ n v → xW Γ a (lP a gs) (σ, μ) 28 [some (.ref b), some (.ref (a.2.2.2 0)), some (.ref (gs 0)), some (.int (nI i))] [] := by
  intro m
  induction m with
  | zero =>
    intro i σ μ v hm hi hI hM
    have fin : xW Γ a (lP a gs) (σ, μ) 701 [some (.ref b), some (.ref (a.2.2.2 0)), some (.ref (gs 0)), some (.int (nI i))] [] := by
      refine x_iconst C d_L_law_701 kI_1 ?_
      exact E d_L_law_702
    refine x_iload3 C d_L_law_28 ?_
    refine x_aload0 C d_L_law_29 ?_
    refine l_slen C X d_L_law_30 ?_
    refine x_iconst C d_L_law_31 kI_5 ?_
    refine x_isub C d_L_law_32 rfl ?_
    refine x_icmp_gt C d_L_law_33 (fun h => ?_) (fun h => ?_)
    · exact fin
    · exfalso
      apply h
      rw [Int32.lt_iff_toInt_lt, nI_toInt (by omega), pk_sub_toInt (by omega) (by omega)]
      omega
  | succ m ih =>
    intro i σ μ v hm hi hI hM
    have fin : xW Γ a (lP a gs) (σ, μ) 701 [some (.ref b), some (.ref (a.2.2.2 0)), some (.ref (gs 0)), some (.int (nI i))] [] := by
      refine x_iconst C d_L_law_701 kI_1 ?_
      exact E d_L_law_702
    refine x_iload3 C d_L_law_28 ?_
    refine x_aload0 C d_L_law_29 ?_
    refine l_slen C X d_L_law_30 ?_
    refine x_iconst C d_L_law_31 kI_5 ?_
    refine x_isub C d_L_law_32 rfl ?_
    refine x_icmp_gt C d_L_law_33 (fun h => ?_) (fun h => ?_)
    · exact fin
    · have hi5 : i + 5 ≤ L := by
        refine Classical.byContradiction fun q => h ?_
        rw [Int32.lt_iff_toInt_lt, nI_toInt (by omega), pk_sub_toInt (by omega) (by omega)]
        omega
      have next : ∀ σ' μ' v', XI σ' n v' → MX μ' n v' → xW Γ a (lP a gs) (σ', μ') 695 [some (.ref b), some (.ref (a.2.2.2 0)), some (.ref (gs 0)), some (.int (nI i))] [] := by
        intro σ' μ' v' hI' hM'
        refine x_iinc3 C d_L_law_695 (show nI i + Int32.ofInt 5 = nI (i + 5) by rw [show Int32.ofInt 5 = nI 5 by decide +kernel, nI_add]) ?_
        refine x_goto C d_L_law_698 ?_
        exact ih (i + 5) σ' μ' v' (by omega) (by omega) hI' hM'
      refine x_aload0 C d_L_law_36 ?_
      refine x_iload3 C d_L_law_37 ?_
      refine l_sld C X d_L_law_38 (by omega) (by omega) ?_
      refine x_bipush C d_L_law_39 kB_31 ?_
      obtain ⟨j, hj, ej⟩ := pk_andE (xs i) (m := nI 31) 5 (by decide +kernel)
      refine x_iand C d_L_law_41 ej ?_
      refine l_switch C hj ?_
      by_cases h17 : j < 17
      · match j, h17 with
        | 0, hj => exact l_case0 C X (by omega) (by omega) hI hM next
        | 1, hj => exact l_case1 C X (by omega) (by omega) hI hM next
        | 2, hj => exact l_case2 C X (by omega) (by omega) hI hM next
        | 3, hj => exact l_case3 C X (by omega) (by omega) hI hM next
        | 4, hj => exact l_case4 C X (by omega) (by omega) hI hM next
        | 5, hj => exact l_case5 C X (by omega) (by omega) hI hM next
        | 6, hj => exact l_case6 C X (by omega) (by omega) hI hM next
        | 7, hj => exact l_case7 C X (by omega) (by omega) hI hM next
        | 8, hj => exact l_case8 C X (by omega) (by omega) hI hM next
        | 9, hj => exact l_case9 C X (by omega) (by omega) hI hM next
        | 10, hj => exact l_case10 C X (by omega) (by omega) hI hM next
        | 11, hj => exact l_case11 C X (by omega) (by omega) hI hM next
        | 12, hj => exact l_case12 C X (by omega) (by omega) hI hM next
        | 13, hj => exact l_case13 C X (by omega) (by omega) hI hM next
        | 14, hj => exact l_case14 C X (by omega) (by omega) hI hM next
        | 15, hj => exact l_case15 C X (by omega) (by omega) hI hM next
        | 16, hj => exact l_case16 C X (by omega) (by omega) hI hM next
        | k + 17, h => exact absurd h (by omega)
      · have e : ltg j = 695 := by
          unfold ltg
          rw [List.getD_eq_getElem?_getD, List.getElem?_eq_none (by simp; omega)]
          rfl
        rw [e]
        exact next σ μ v hI hM
/-- cell(script, 0) -/
theorem c_L_cell (l : Launch) (b L sz : Nat) (xs : Nat → Int32) (hL : L ≤ 2561) : Met l y_L_cell (.code y_L_cell b_L_cell 2 (some .int) :: xw_T) (xrm 0) (va_Pc [.ref b, .int 0] (fun U => U.heap.size = sz ∧ va_X b L xs U U.heap ∧ b < sz)) (va_Qi (fun r (_ : Unit) => r = if 0 < L then xs 0 else 0) (fun _ _ => True) (fun q => sz ≤ q)) 0 0 (fun q => sz ≤ q) := by
  refine Met.ofW (cc := b_L_cell) (maxL := 2) (ret := some .int) (by decide) rfl ?_
  intro p e s m args below meth c s₁ B hml hv
  obtain ⟨rfl, hsz, hX, hbl⟩ := hv
  have hx := B.exec
  have hb := B.bytes
  have hr := B.returns
  have hlocks := B.notSynchronized
  subst hsz
  have hbA : ¬ (fun q : Nat => s.heap.size ≤ q) b := Nat.not_le.mpr hbl
  have hS : va_S (fun q : Nat => s.heap.size ≤ q) s.heap s.heap [] := va_S.rf
  have hl := lv_entry ([.ref b, .int 0]) (n := 2) (Nat.le_of_ble_eq_true rfl)
  rw [lg_entry_eq]
  generalize (lg_sl ([.ref b, .int 0]) ++ List.replicate (2 - (lg_sl ([.ref b, .int 0])).length) Slot.unset).toArray = ls at hl ⊢
  have hl : lv_has ls 2 [(0, .ref b), (1, .int 0)] := hl
  refine lv_iload_n hx hb d_L_cell_0.1 rfl (lv_at hl 1 rfl) ?_
  refine lv_aload_n hx hb d_L_cell_1.1 rfl (lv_at hl 0 rfl) ?_
  refine va_slen hx hb hX hbl hbA hS d_L_cell_2.1 ?_
  refine lv_icmp_ge (tgt := 12) hx hb d_L_cell_3.1 (by decide) (fun h => ?_) (fun h => ?_)
  · have h0 : ¬ 0 < L := fun q => by
      have h2 : nI L ≤ nI 0 := by rw [nI0]; exact h
      rw [nI_leI (by omega) (by decide)] at h2
      omega
    refine lv_iconst (v := 0) hx hb d_L_cell_12.1 (by decide) ?_
    exact W.iret (v := 0) hx hb hr (fun t ht hW => ⟨⟨0, (), rfl, by rw [if_neg h0], trivial⟩, hS.F ht⟩) hS.2.2 d_L_cell_13.1 hlocks
  · have h0 : 0 < L := Classical.byContradiction fun q => h (by
      have : L = 0 := by omega
      subst this
      decide +kernel)
    refine lv_aload_n hx hb d_L_cell_6.1 rfl (lv_at hl 0 rfl) ?_
    refine lv_iload_n hx hb d_L_cell_7.1 rfl (lv_at hl 1 rfl) ?_
    have hin : vp_in 0 L := by rw [← nI0]; exact vp_in_nI h0 (by omega)
    refine va_sld hx hb hX hbl hbA hS hin d_L_cell_8.1 ?_
    have e0 : (0 : Int32).toNatClampNeg = 0 := by decide +kernel
    rw [e0]
    refine lv_goto (tgt := 13) hx hb d_L_cell_9.1 (by decide) ?_
    exact W.iret (v := xs 0) hx hb hr (fun t ht hW => ⟨⟨xs 0, (), rfl, by rw [if_pos h0], trivial⟩, hS.F ht⟩) hS.2.2 d_L_cell_13.1 hlocks
theorem x_goodI {y : MethodName} {b : ByteArray} {nL : Nat} (h : Cond.code y b nL none ∈ xw_T) : GoodIn xw_T (.code y b nL none :: xw_T) := by
  intro v hv
  have hm : v ∈ xw_T := by
    rcases List.mem_cons.mp hv with rfl | h2
    · exact h
    · exact h2
  exact ⟨hm, good_of_word (xw_good v hm)⟩
theorem cell_blind {b L sz : Nat} {xs : Nat → Int32} : FrameBlind (va_Pc [.ref b, .int 0] (fun U => U.heap.size = sz ∧ va_X b L xs U U.heap ∧ b < sz)) := fun a U g mk q => by
  obtain ⟨q0, q1, qX, qb⟩ := q
  exact ⟨q0, q1, va_X.moved (u := U) (U := U.calling g mk a) (Vm.Alike.refl U.vm) qX, qb⟩
set_option maxHeartbeats 4000000 in
set_option maxRecDepth 100000 in
/-- THE LAW, from its entry -/
theorem whole_start {p : Program} {e : Env} {s : State} {m : MethodId} {below : List Frame} {meth : Method} {c : Code} (l : Launch) {b L : Nat} {xs : Nat → Int32} (hL : L ≤ 2561) (C0 : lw_At p s m meth c b L xs) : W p l e room_1 s m #[Value.ref b] below meth c s.heap [] 0 0 (lw_Z below #[Value.ref b] s) (entryFrame m ([Value.ref b] : List Value).toArray 4) := by
  obtain ⟨hx, hb, hr, hml, hown, hts0, hX, hbl, hlocks, hgv⟩ := id C0
  have hts : ∀ w ∈ xw_T, w.before #[Value.ref b] s = true := fun w hw => hts0 w (List.mem_filter.mp hw).1
  have hA : ∀ q : Nat, s.heap.size ≤ q → (fun q : Nat => s.heap.size ≤ q) q := fun _ h => h
  have hbA : ¬ (fun q : Nat => s.heap.size ≤ q) b := Nat.not_le.mpr hbl
  obtain ⟨c0, iS0, hKn0⟩ := u_known (C := R_X) (T := F_X) (N := 12) (n := 12) hts i_X (hts _ nw_X_n)
  obtain ⟨c1, iS1, hKn1⟩ := u_known (C := R_M) (T := F_M) (N := 4) (n := 4) hts i_M (hts _ nw_M_n)
  obtain ⟨D, hKc⟩ : ∃ D : va_G, ∀ (k : Nat) (q : vw_C), classes[k]? = some q → u_Kn s q.1 q.2.1 q.2.2 (D.1 k) (D.2 k) := by
    refine ⟨(fun k => if k = 0 then c0 else c1, fun k => if k = 0 then iS0 else iS1), ?_⟩
    intro k q hq
    match k, hq with
    | 0, hq => cases hq; exact hKn0
    | 1, hq => cases hq; exact hKn1
    | k + 2, hq => simp [classes] at hq
  obtain ⟨cI, kI, pI, i1, i2, i3⟩ := Cond.arrayClass_spec (hts _ ac_I)
  obtain ⟨cZ, kZ, pZ, z1, z2, z3⟩ := Cond.arrayClass_spec (hts _ ac_Z)
  have hK : va_K D classes [(cI, .int), (cZ, .boolean)] s := by
    refine ⟨hKc, fun k q h => ?_⟩
    match k, h with
    | 0, h => cases h; exact ⟨fun n z => ⟨fun k h => (by cases h), kI, i2, pI, i3⟩, i1⟩
    | 1, h => cases h; exact ⟨fun n z => ⟨fun k h => (by cases h), kZ, z2, pZ, z3⟩, z1⟩
    | k + 2, h => simp at h
  have hS : va_S (fun q : Nat => s.heap.size ≤ q) s.heap s.heap [] := va_S.rf
  have hP : va_P D classes [] s.heap := fun k q h => by simp at h
  have hD : va_D (fun q : Nat => s.heap.size ≤ q) [] := ⟨fun i j p q h => by simp at h, fun k q h => by simp at h⟩
  have hl := lv_entry ([.ref b]) (n := 4) (Nat.le_of_ble_eq_true rfl)
  rw [lg_entry_eq]
  generalize (lg_sl ([.ref b]) ++ List.replicate (4 - (lg_sl ([.ref b])).length) Slot.unset).toArray = ls at hl ⊢
  have hl : lv_has ls 4 [(0, .ref b)] := hl
  -- the store
  refine va_new (ci := 0) (fs := [.null, .null, .null, .null, .null, .null, .null, .null, .null, .int 0, .int 0, .int 0]) (C := R_X) (T := F_X) (N := 12) hx hb hts i_X t_X t_X_ok hown (hts _ nw_X_l) (hts _ nw_X_n) (hts _ nw_X_i) hK hP hD hS hA rfl (fun j hj => by
    have : ∀ j, j < 12 → defaultValue (t_X j) = vp_V [.null, .null, .null, .null, .null, .null, .null, .null, .null, .int 0, .int 0, .int 0] j := by decide +kernel
    exact this j hj) (Nat.le_of_ble_eq_true rfl) (Nat.le_of_ble_eq_true rfl) d_L_law_0.1 (fun q0 H hP hD hS => ?_)
  have hP : va_P D classes (w0X q0) H := hP
  have hD : va_D (fun q : Nat => s.heap.size ≤ q) (w0X q0) := hD
  refine W.widen (k := 1) (n := 12) (Nat.le_of_ble_eq_true rfl) (Nat.le_of_ble_eq_true rfl) ?_
  refine lv_dup hx hb d_L_law_3.1 rfl ?_
  refine lv_aload_n hx hb d_L_law_4.1 rfl (lv_at hl 0 rfl) ?_
  refine lv_iconst (v := 0) hx hb d_L_law_5.1 (by decide) ?_
  refine va_calli (A1 := fun q => H.size ≤ q) (va_runS (As := [.ref b, .int 0]) (rest := [.ref q0, .ref q0]) ⟨hx, hb, hml, hown, hts⟩ (c_L_cell l b L H.size xs hL) (cwS 2 hts (x_goodS rfl k_L_9) rfl rfl rfl ⟨rfl, k_L_9.2.2.2.2⟩ ⟨Nat.le_of_ble_eq_true rfl, Nat.le_of_ble_eq_true rfl⟩) ⟨cell_blind, fun U hU hW => ⟨rfl, by rw [hU], by rw [hU]; exact (hX.kept (hS.2.1 b hbl hbA)).moved hW.alike, Nat.lt_of_lt_of_le hbl hS.1⟩⟩ rfl rfl hl.1 rfl (lv_room (Nat.le_of_ble_eq_true rfl)) d_L_law_6.1 ⟨Nat.le_of_ble_eq_true rfl, Nat.le_of_ble_eq_true rfl⟩) hS (fun q h1 h2 => absurd h1 (Nat.not_lt.mpr h2)) (fun q h => Nat.le_trans hS.1 h) (fun f u t H1 locs ht hvm hf hB hz1 hk1 hS => ?_)
  have hP := hP.kept (H1 := H1) (fun k x hx => hk1 x.1 (hP k x hx).lt (Nat.not_le.mpr (hP k x hx).lt))
  generalize H1 = H at hP hS ⊢
  have hFc := va_free (wc := w0X q0) hD hS hA [0] rfl
  refine va_callv (A1 := va_A (w0X q0) H.size) (va_runI (As := [.int f]) (rest := [.ref q0]) ⟨hx, hb, hml, hown, hts⟩ (c_X_init l D cI cZ q0 H.size f) (cwI 1 hts (x_goodI nw_X_c) rfl rfl rfl (hts _ nw_X_i) (hts _ nw_X_m) (hts _ nw_X_j) rfl (by decide +kernel) ⟨Nat.le_of_ble_eq_true rfl, Nat.le_of_ble_eq_true rfl⟩) ⟨fun a U g mk q => by obtain ⟨q0, q1, qP, qK, qD⟩ := q; exact ⟨q0, q1, qP, va_K.moved (u := U) (U := U.calling g mk a) (Vm.Alike.refl U.vm) qK, qD⟩, fun U hU hW => ⟨rfl, by rw [hU], by rw [hU]; exact hP, va_K.moved hW.alike hK, hD.weaken (fun _ _ _ _ => trivial)⟩⟩ rfl rfl hl.1 rfl (lv_room (Nat.le_of_ble_eq_true rfl)) d_L_law_9.1 ⟨Nat.le_of_ble_eq_true rfl, Nat.le_of_ble_eq_true rfl⟩) hS (fun q _ h => hFc q h) hFc (fun u t H1 locs ht hvm hw hB hz1 hk1 hS => ?_)
  obtain ⟨hs, σ⟩ := u
  obtain ⟨hPn, hD1⟩ := hB
  rw [ht] at hPn
  obtain ⟨rfl, hI⟩ := hw
  have hD : va_D (fun q : Nat => s.heap.size ≤ q) (xP (D, cI, cZ, hs) σ) := hD1.weaken (fun _ q _ h => hFc q.1 h)
  clear hD1
  have hP : va_P D classes (xP (D, cI, cZ, hs) σ) H1 := hPn
  have hI : XI σ (nF f) (fun _ => none) := hI
  generalize H1 = H at hP hS ⊢
  refine W.widen (k := 10) (n := 460) (Nat.le_of_ble_eq_true rfl) (Nat.le_of_ble_eq_true rfl) ?_
  refine lv_astore_n (lv' := [(1, .ref (hs 0)), (0, .ref b)]) hx hb d_L_law_12.1 rfl hl (by decide) rfl (fun ls hl => ?_)
  -- the model
  refine va_new (ci := 1) (fs := [.int 0, .null, .null, .null]) (C := R_M) (T := F_M) (N := 4) hx hb hts i_M t_M t_M_ok hown (hts _ nw_M_l) (hts _ nw_M_n) (hts _ nw_M_i) hK hP hD hS hA rfl (fun j hj => by
    have : ∀ j, j < 4 → defaultValue (t_M j) = vp_V [.int 0, .null, .null, .null] j := by decide +kernel
    exact this j hj) (Nat.le_of_ble_eq_true rfl) (Nat.le_of_ble_eq_true rfl) d_L_law_13.1 (fun g0 H hP hD hS => ?_)
  refine W.widen (k := 11) (n := 464) (Nat.le_of_ble_eq_true rfl) (Nat.le_of_ble_eq_true rfl) ?_
  refine lv_dup hx hb d_L_law_16.1 rfl ?_
  refine lv_aload_n hx hb d_L_law_17.1 rfl (lv_at hl 1 rfl) ?_
  refine lv_iconst (v := 0) hx hb d_L_law_18.1 (by decide) ?_
  refine va_calli (A1 := fun q => H.size ≤ q) (va_runS (As := [.ref b, .int 0]) (rest := [.ref g0, .ref g0]) ⟨hx, hb, hml, hown, hts⟩ (c_L_cell l b L H.size xs hL) (cwS 2 hts (x_goodS rfl k_L_9) rfl rfl rfl ⟨rfl, k_L_9.2.2.2.2⟩ ⟨Nat.le_of_ble_eq_true rfl, Nat.le_of_ble_eq_true rfl⟩) ⟨cell_blind, fun U hU hW => ⟨rfl, by rw [hU], by rw [hU]; exact (hX.kept (hS.2.1 b hbl hbA)).moved hW.alike, Nat.lt_of_lt_of_le hbl hS.1⟩⟩ rfl rfl hl.1 rfl (lv_room (Nat.le_of_ble_eq_true rfl)) d_L_law_19.1 ⟨Nat.le_of_ble_eq_true rfl, Nat.le_of_ble_eq_true rfl⟩) hS (fun q h1 h2 => absurd h1 (Nat.not_lt.mpr h2)) (fun q h => Nat.le_trans hS.1 h) (fun f2 u t H1 locs ht hvm hf2 hB hz1 hk1 hS => ?_)
  have hff : f2 = f := hf2.trans hf.symm
  rw [hff]
  have hP := hP.kept (H1 := H1) (fun k x hx => hk1 x.1 (hP k x hx).lt (Nat.not_le.mpr (hP k x hx).lt))
  generalize H1 = H at hP hS ⊢
  have hPc : va_P D classes (w0M g0) H := hP.sub [10] rfl
  have hDc : va_D (fun q : Nat => s.heap.size ≤ q) (w0M g0) := hD.sub [10] (by decide) rfl
  have hFc := va_free (wc := w0M g0) hD hS hA [10] rfl
  refine va_callv (A1 := va_A (w0M g0) H.size) (va_runI (As := [.int f]) (rest := [.ref g0]) ⟨hx, hb, hml, hown, hts⟩ (c_M_init l D cI cZ g0 H.size f) (cwI 1 hts (x_goodI nw_M_c) rfl rfl rfl (hts _ nw_M_i) (hts _ nw_M_m) (hts _ nw_M_j) rfl (by decide +kernel) ⟨Nat.le_of_ble_eq_true rfl, Nat.le_of_ble_eq_true rfl⟩) ⟨fun a U g mk q => by obtain ⟨q0, q1, qP, qK, qD⟩ := q; exact ⟨q0, q1, qP, va_K.moved (u := U) (U := U.calling g mk a) (Vm.Alike.refl U.vm) qK, qD⟩, fun U hU hW => ⟨rfl, by rw [hU], by rw [hU]; exact hPc, va_K.moved hW.alike hK, hDc.weaken (fun _ _ _ _ => trivial)⟩⟩ rfl rfl hl.1 rfl (lv_room (Nat.le_of_ble_eq_true rfl)) d_L_law_22.1 ⟨Nat.le_of_ble_eq_true rfl, Nat.le_of_ble_eq_true rfl⟩) hS (fun q _ h => hFc q h) hFc (fun u t H1 locs ht hvm hw hB hz1 hk1 hS => ?_)
  obtain ⟨gs, μ⟩ := u
  obtain ⟨hP1, hD1⟩ := hB
  rw [ht] at hP1
  obtain ⟨rfl, hM⟩ := hw
  have hM : MX μ (nF f) (fun _ => none) := hM
  obtain ⟨hP, hD⟩ := va_join (wr := xP (D, cI, cZ, hs) σ) (w1 := mP (D, cI, cZ, gs) μ) hP hD [10] [0, 1, 2, 3, 4, 5, 6, 7, 8, 9] rfl rfl (by decide) (by decide) hk1 hFc hP1 hD1
  generalize H1 = H at hP hS ⊢
  refine W.widen (k := 14) (n := 656) (Nat.le_of_ble_eq_true rfl) (Nat.le_of_ble_eq_true rfl) ?_
  refine lv_astore_n (lv' := [(2, .ref (gs 0)), (1, .ref (hs 0)), (0, .ref b)]) hx hb d_L_law_25.1 rfl hl (by decide) rfl (fun ls hl => ?_)
  refine lv_iconst (v := nI 1) hx hb d_L_law_26.1 (by decide +kernel) ?_
  refine lv_istore_n (lv' := [(3, .int (nI 1)), (2, .ref (gs 0)), (1, .ref (hs 0)), (0, .ref b)]) hx hb d_L_law_27.1 rfl hl (by decide) rfl (fun ls hl => ?_)
  have hxl : xl ls 4 [some (.ref b), some (.ref (hs 0)), some (.ref (gs 0)), some (.int (nI 1))] := by
    refine ⟨⟨hl.1, hl.2.1, fun q hq => hl.2.2 q ?_⟩, by simp [Value.category]⟩
    simp [xv] at hq ⊢
    rcases hq with rfl | rfl | rfl | rfl <;> simp
  refine law_loop (Γ := (p, l, e, room_1, s, m, #[Value.ref b], below, meth, c, 14, 656, lw_Z below #[Value.ref b] s, fun q => s.heap.size ≤ q, 4)) (a := (D, cI, cZ, hs)) (gs := gs) (b := b) (L := L) (n := nF f) (xs := xs) ⟨hx, hb, hml, rfl, hown, hts, hK, fun u => ?_, hA, hlocks, ⟨Nat.le_of_ble_eq_true rfl, Nat.le_of_ble_eq_true rfl, Nat.le_of_ble_eq_true rfl, Nat.le_of_ble_eq_true rfl⟩⟩ ⟨hX, hbl, hbA⟩ hL ?_ (L + 1) 1 σ μ (fun _ => none) (by omega) (by omega) hI hM H locs ls hP hS hxl
  · refine xD_adr ?_ hD
    rfl
  · intro pc pc' u Ls d H locs ls hP hS hl
    refine va_forget (fun q hq => hS.2.2 q hq) ?_
    rw [nI1]
    exact lw_ret hx hb hr hlocks d.1
end
section
set_option maxHeartbeats 4000000 in
theorem lw_walk (l : Launch) (b : Addr) (xs : List Int32) : MetFree l x (headSpec (Jvm.Cond.code x code maxLocals ret :: tables_1) room_1) (lw_P b xs) (fun _ _ _ _ _ => True) lw_Q := by
  refine MetFree.of_bodyS (code := code) (maxLocals := maxLocals) (ret := ret) (by decide) ?_ ?_
  · intro args s m h hn
    obtain ⟨meth, c, h1, h2, h3, h4, h5, h6, -, -⟩ := Cond.code_spec hn (atoms_spec (ws := Jvm.Cond.code x code maxLocals ret :: tables_1) h _ List.mem_cons_self)
    exact ⟨meth, c, h1, h2, h3, h4, h5, h6⟩
  · intro p e s m args below meth c s₁ B hml0 hP _
    obtain ⟨rfl, hx, hbd, hgv⟩ := hP
    obtain ⟨scr, harrAt, hlist, hof, hsmall⟩ := hx
    obtain ⟨hcb, hkn, -, -⟩ := State.arrayAt?_spec harrAt
    have hown : s.vm.findClass R_law = some m.cls := findClass_of_methodNamed B.named
    have hts0 : ∀ c ∈ (Jvm.Cond.code x code maxLocals ret :: tables_1), c.before #[Value.ref b] s = true := atoms_spec (ws := Jvm.Cond.code x code maxLocals ret :: tables_1) B.pre
    have hts : ∀ w ∈ lw_tbl, w.before #[Value.ref b] s = true := k2_hts_sels lw_privs (fun w hw => hts0 w (List.mem_cons_of_mem _ hw)) lw_privs_ok
    have hml : c.maxLocals = 4 := B.maxLocals_eq (hts0 _ List.mem_cons_self)
    have X₀ : Stand p l e room_1 s m #[Value.ref b] below meth c s₁ [] 0 0 := Stand.of_body B
    have hh0 : s₁.heap = s.heap := by rw [B.state]; rfl
    have hsz : scr.slots.size = xs.length := by rw [← Array.length_toList, hlist, List.length_map]
    have hval : ∀ j : Nat, j < xs.length → scr.slots[j]? = some (.int (xs.getD j 0)) := fun j hj => by
      rw [← Array.getElem?_toList, hlist]
      simp [hj]
    have hbl : b < s.heap.size := (Array.getElem?_eq_some_iff.mp hcb).1
    have hX : va_X b xs.length (fun j => xs.getD j 0) s s.heap := ⟨scr, hcb, hof, hkn, hsz, hval⟩
    have K : W p l e room_1 s m #[Value.ref b] below meth c s₁.heap [] 0 0 (lw_Z below #[Value.ref b] s) (entryFrame m ([Value.ref b] : List Value).toArray 4) := by
      rw [hh0]
      exact whole_start l hbd ⟨B.exec, B.bytes, B.returns, hml, hown, hts, hX, hbl, B.notSynchronized, hgv⟩
    obtain ⟨t, a1, o, b1, b2, b3⟩ := K s₁ rfl X₀
    exact ⟨t, o, a1, b1, b2, b3⟩
theorem lw_pre_spec {args : Array Value} {s : State} (h : (Jvm.Cond.and given_1 narrow_1).before args s = true) (hr : rest_1_c.before args s = true) : ∃ (b : Addr) (xs : List Int32), lw_P b xs args s := by
  have hs := flat_of_before _ h
  have hq := flat_of_before _ hr
  have hc : (Cond.count 1).before args s = true := hs _ (by decide +kernel)
  have harr : (Cond.arrayOf (.arg 0) .int).before args s = true := hs _ (by decide +kernel)
  have hle : (Cond.le (.length (.arg 0)) (.int 2561)).before args s = true := hs _ (by decide +kernel)
  have hlen : (Cond.isInt (.length (.arg 0))).before args s = true := hq _ (by decide +kernel)
  have hall : (Cond.all (.arg 0) (.isInt (.elem (.arg 0) (.index 0)))).before args s = true := hq _ (by decide +kernel)
  obtain ⟨b, xs, hb, hx⟩ := State.ints_of_pre rfl harr hlen hall
  have hsm : xs.length < 2 ^ 31 := hx.choose_spec.2.2.2
  have hev : (Term.length (.arg 0)).eval args s none [] s = some (.int xs.length.toInt32) := hx.length_eval hb
  have hv := Cond.le_ints hev (show (Term.int 2561).eval args s none [] s = some (.int 2561) from rfl)
  have hd : xs.length.toInt32 ≤ 2561 := by
    simpa [Cond.before, Cond.holds, hv] using hle
  have hN : xs.length ≤ 2561 := (Int32.ofNat_le_ofNat hsm (by decide)).mp (show Int32.ofNat xs.length ≤ Int32.ofNat 2561 from hd)
  exact ⟨b, xs, Cond.one_arg hc (show args[0]? = some (.ref b) from hb), hx, hN, h⟩
theorem lw_comes (l : Launch) : Comes l x (Jvm.Cond.code x code maxLocals ret :: tables_1) room_1 (fun tb e args s => Calls_1 tb e args s ∧ rest_1 tb e args s ∧ Pre_1 tb e args s)
    (fun _ _ args s o t => lw_Q args s o t) := by
  intro p e ha hc hk s m args below hf hfit hheap happ hpre
  obtain ⟨b, xs, hP⟩ := lw_pre_spec hpre.2.2 hpre.2.1
  obtain ⟨k, o, h1, h2, h3, hQ⟩ := lw_walk l b xs p e ha hc hk s m args below hf ((Spec.applies_iff_loose hf).mp happ).1 hP trivial
  exact ⟨k, o, h1, h2, h3, hQ⟩
theorem lw_frame {s t : State} {o : Outcome} {args : Array Value} (h : Framed s o t [] 14 656) :
    Framed s o t (fieldLocs frame_1_writes args s ++ arrayLocs frame_1_arrays args s ++ staticLocs frame_1_statics s) 14 656 := h
theorem lw_limb (L : Cond) (hL : ∀ (args : Array Value) (s t : State), L.after args s (.returned (some (.int 1))) t = true) :
    ArmFor flags0 classFile x code maxLocals ret World_1 tables_1 room_1 Calls_1 rest_1 Pre_1
      (fun tb e a s o t => postC L tb e a s o t ∧ Framed s o t (fieldLocs frame_1_writes a s ++ arrayLocs frame_1_arrays a s ++ staticLocs frame_1_statics s) 14 656) := by
  intro l _ _ _ p e ha hc hk s m args below hf hfit hheap happ hpre
  obtain ⟨k, o, h1, h2, h3, rfl, hF⟩ := lw_comes l p e ha hc hk s m args below hf hfit hheap happ hpre
  exact ⟨k, _, h1, h2, h3, hL args s _, lw_frame hF⟩
theorem i_vc : Claimed_1_1 ∧ Claimed_1_2 := ⟨lw_limb limb_1_1 (fun args s t => by simp [limb_1_1, Cond.after, Cond.holds, Cond.value]), lw_limb limb_1_2 (fun args s t => Cond.after_iff.mpr (by
  first | (rw [show limb_1_2 = Cond.eq .result (.int 1) from rfl, Cond.eq_ints (x := 1) (y := 1) rfl rfl]; simp; done) | (simp [limb_1_2, Cond.value, Term.eval]; done)))⟩
end
