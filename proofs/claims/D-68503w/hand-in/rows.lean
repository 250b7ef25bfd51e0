section
-- ===== PART A: goes FIRST, ahead of the names: the tables' words, and 'selects' of the private methods out of them =====
/-- a private method of a class that the tables say can be made, by its rows of tables_1 -/
def lw_okq (q : MethodName × Nat) : Prop := (q.1.cls ≠ "java/lang/invoke/MethodHandle" ∧ q.1.cls ≠ "java/lang/invoke/VarHandle") ∧ Cond.instantiable q.1.cls q.2 ∈ tables_1 ∧ Cond.privateMethod q.1 ∈ tables_1 ∧ Cond.instanceMethod q.1 ∈ tables_1
theorem lw_p0 : lw_okq (⟨"SliceHeap", "room", "(I)Z"⟩, 4) := ⟨⟨by decide +kernel, by decide +kernel⟩, List.mem_of_getElem? (i := 6) (by decide +kernel), List.mem_of_getElem? (i := 115) (by decide +kernel), List.mem_of_getElem? (i := 116) (by decide +kernel)⟩
theorem lw_p1 : lw_okq (⟨"SliceHeap$Heap", "blacken", "()V"⟩, 16) := ⟨⟨by decide +kernel, by decide +kernel⟩, List.mem_of_getElem? (i := 35) (by decide +kernel), List.mem_of_getElem? (i := 135) (by decide +kernel), List.mem_of_getElem? (i := 136) (by decide +kernel)⟩
theorem lw_p2 : lw_okq (⟨"SliceHeap$Heap", "drop", "(I)V"⟩, 16) := ⟨⟨by decide +kernel, by decide +kernel⟩, List.mem_of_getElem? (i := 35) (by decide +kernel), List.mem_of_getElem? (i := 140) (by decide +kernel), List.mem_of_getElem? (i := 141) (by decide +kernel)⟩
theorem lw_p3 : lw_okq (⟨"SliceHeap", "lay", "(III)V"⟩, 4) := ⟨⟨by decide +kernel, by decide +kernel⟩, List.mem_of_getElem? (i := 6) (by decide +kernel), List.mem_of_getElem? (i := 148) (by decide +kernel), List.mem_of_getElem? (i := 149) (by decide +kernel)⟩
theorem lw_p4 : lw_okq (⟨"SliceHeap$Heap", "turn", "()V"⟩, 16) := ⟨⟨by decide +kernel, by decide +kernel⟩, List.mem_of_getElem? (i := 35) (by decide +kernel), List.mem_of_getElem? (i := 164) (by decide +kernel), List.mem_of_getElem? (i := 165) (by decide +kernel)⟩
theorem lw_p5 : lw_okq (⟨"SliceHeap$Heap", "sweep", "()V"⟩, 16) := ⟨⟨by decide +kernel, by decide +kernel⟩, List.mem_of_getElem? (i := 35) (by decide +kernel), List.mem_of_getElem? (i := 168) (by decide +kernel), List.mem_of_getElem? (i := 169) (by decide +kernel)⟩
theorem lw_p6 : lw_okq (⟨"SliceHeap", "hasValue", "(II)Z"⟩, 4) := ⟨⟨by decide +kernel, by decide +kernel⟩, List.mem_of_getElem? (i := 6) (by decide +kernel), List.mem_of_getElem? (i := 197) (by decide +kernel), List.mem_of_getElem? (i := 198) (by decide +kernel)⟩
theorem lw_p7 : lw_okq (⟨"SliceHeapModel", "hasRoom", "(I)Z"⟩, 8) := ⟨⟨by decide +kernel, by decide +kernel⟩, List.mem_of_getElem? (i := 233) (by decide +kernel), List.mem_of_getElem? (i := 272) (by decide +kernel), List.mem_of_getElem? (i := 273) (by decide +kernel)⟩
theorem lw_p8 : lw_okq (⟨"SliceHeapModel", "reachable", "()I"⟩, 8) := ⟨⟨by decide +kernel, by decide +kernel⟩, List.mem_of_getElem? (i := 233) (by decide +kernel), List.mem_of_getElem? (i := 276) (by decide +kernel), List.mem_of_getElem? (i := 277) (by decide +kernel)⟩
theorem lw_p9 : lw_okq (⟨"SliceHeapModel", "goOver", "()V"⟩, 8) := ⟨⟨by decide +kernel, by decide +kernel⟩, List.mem_of_getElem? (i := 233) (by decide +kernel), List.mem_of_getElem? (i := 280) (by decide +kernel), List.mem_of_getElem? (i := 281) (by decide +kernel)⟩
theorem lw_p10 : lw_okq (⟨"SliceHeapModel", "reach", "(I)Z"⟩, 8) := ⟨⟨by decide +kernel, by decide +kernel⟩, List.mem_of_getElem? (i := 233) (by decide +kernel), List.mem_of_getElem? (i := 284) (by decide +kernel), List.mem_of_getElem? (i := 285) (by decide +kernel)⟩
theorem lw_p11 : lw_okq (⟨"SliceHeapModel", "move", "(II)V"⟩, 8) := ⟨⟨by decide +kernel, by decide +kernel⟩, List.mem_of_getElem? (i := 233) (by decide +kernel), List.mem_of_getElem? (i := 291) (by decide +kernel), List.mem_of_getElem? (i := 292) (by decide +kernel)⟩
theorem lw_p12 : lw_okq (⟨"SliceHeapModel", "hasObject", "(I)Z"⟩, 8) := ⟨⟨by decide +kernel, by decide +kernel⟩, List.mem_of_getElem? (i := 233) (by decide +kernel), List.mem_of_getElem? (i := 299) (by decide +kernel), List.mem_of_getElem? (i := 300) (by decide +kernel)⟩
theorem lw_p13 : lw_okq (⟨"SliceHeapModel", "empty", "(I)V"⟩, 8) := ⟨⟨by decide +kernel, by decide +kernel⟩, List.mem_of_getElem? (i := 233) (by decide +kernel), List.mem_of_getElem? (i := 307) (by decide +kernel), List.mem_of_getElem? (i := 308) (by decide +kernel)⟩
theorem lw_p14 : lw_okq (⟨"SliceHeapModel", "hasValue", "(II)Z"⟩, 8) := ⟨⟨by decide +kernel, by decide +kernel⟩, List.mem_of_getElem? (i := 233) (by decide +kernel), List.mem_of_getElem? (i := 323) (by decide +kernel), List.mem_of_getElem? (i := 324) (by decide +kernel)⟩
def lw_privs_1 : List (MethodName × Nat) := [(⟨"SliceHeap", "room", "(I)Z"⟩, 4), (⟨"SliceHeap$Heap", "blacken", "()V"⟩, 16), (⟨"SliceHeap$Heap", "drop", "(I)V"⟩, 16), (⟨"SliceHeap", "lay", "(III)V"⟩, 4), (⟨"SliceHeap$Heap", "turn", "()V"⟩, 16), (⟨"SliceHeap$Heap", "sweep", "()V"⟩, 16), (⟨"SliceHeap", "hasValue", "(II)Z"⟩, 4), (⟨"SliceHeapModel", "hasRoom", "(I)Z"⟩, 8), (⟨"SliceHeapModel", "reachable", "()I"⟩, 8), (⟨"SliceHeapModel", "goOver", "()V"⟩, 8), (⟨"SliceHeapModel", "reach", "(I)Z"⟩, 8), (⟨"SliceHeapModel", "move", "(II)V"⟩, 8), (⟨"SliceHeapModel", "hasObject", "(I)Z"⟩, 8), (⟨"SliceHeapModel", "empty", "(I)V"⟩, 8), (⟨"SliceHeapModel", "hasValue", "(II)Z"⟩, 8)]
theorem lw_r1 : ∀ q ∈ lw_privs_1, lw_okq q := List.forall_mem_cons.mpr ⟨lw_p0, List.forall_mem_cons.mpr ⟨lw_p1, List.forall_mem_cons.mpr ⟨lw_p2, List.forall_mem_cons.mpr ⟨lw_p3, List.forall_mem_cons.mpr ⟨lw_p4, List.forall_mem_cons.mpr ⟨lw_p5, List.forall_mem_cons.mpr ⟨lw_p6, List.forall_mem_cons.mpr ⟨lw_p7, List.forall_mem_cons.mpr ⟨lw_p8, List.forall_mem_cons.mpr ⟨lw_p9, List.forall_mem_cons.mpr ⟨lw_p10, List.forall_mem_cons.mpr ⟨lw_p11, List.forall_mem_cons.mpr ⟨lw_p12, List.forall_mem_cons.mpr ⟨lw_p13, List.forall_mem_cons.mpr ⟨lw_p14, fun _ h => absurd h List.not_mem_nil⟩⟩⟩⟩⟩⟩⟩⟩⟩⟩⟩⟩⟩⟩⟩
def lw_privs : List (MethodName × Nat) := lw_privs_1
def lw_tbl : List Cond := k2_sels lw_privs ++ tables_1
theorem lw_privs_ok : ∀ q ∈ lw_privs, lw_okq q := lw_r1
-- ===== the words that every method is given: those of lw_tbl that stay when the machine goes on =====
def TBL : List Cond := lw_tbl.filter goodWord
theorem tb_mem {w : Cond} (i : Nat) (h : lw_tbl[i]? = some w) (g : goodWord w = true) : w ∈ TBL := List.mem_filter.mpr ⟨List.mem_of_getElem? h, g⟩
theorem tb_sub : ∀ w ∈ TBL, w ∈ lw_tbl := fun _ h => (List.mem_filter.mp h).1
theorem tb_good {c : Cond} (h : c ∈ TBL) : GoodIn TBL (c :: TBL) := fun w hw => by
  rcases List.mem_cons.mp hw with e | e
  · subst e; exact ⟨h, good_of_word (List.mem_filter.mp h).2⟩
  · exact ⟨e, good_of_word (List.mem_filter.mp e).2⟩
theorem tb_goodL {c : Cond} (h : c ∈ TBL) : GoodIn lw_tbl (c :: TBL) := fun w hw => ⟨tb_sub w (tb_good h w hw).1, (tb_good h w hw).2⟩
-- methods: code and name
abbrev b_X_init : ByteArray := prog_1_method_1_code
def y_X_init : MethodName := ⟨"SliceHeap", "<init>", "(I)V"⟩
abbrev w_X_init : List Cond := .code y_X_init b_X_init 2 none :: TBL
abbrev b_R_init : ByteArray := prog_3_method_1_code
def y_R_init : MethodName := ⟨"SliceHeap$Roots", "<init>", "()V"⟩
abbrev w_R_init : List Cond := .code y_R_init b_R_init 1 none :: TBL
abbrev b_H_init : ByteArray := prog_2_method_1_code
def y_H_init : MethodName := ⟨"SliceHeap$Heap", "<init>", "(LSliceHeap$Roots;I)V"⟩
abbrev w_H_init : List Cond := .code y_H_init b_H_init 4 none :: TBL
abbrev b_X_make : ByteArray := prog_1_method_4_code
def y_X_make : MethodName := ⟨"SliceHeap", "make", "(III)I"⟩
abbrev w_X_make : List Cond := .code y_X_make b_X_make 6 (some .int) :: TBL
abbrev b_R_is : ByteArray := prog_3_method_2_code
def y_R_is : MethodName := ⟨"SliceHeap$Roots", "is", "(I)Z"⟩
abbrev w_R_is : List Cond := .code y_R_is b_R_is 1 (some .boolean) :: TBL
abbrev b_X_room : ByteArray := prog_1_method_2_code
def y_X_room : MethodName := ⟨"SliceHeap", "room", "(I)Z"⟩
abbrev w_X_room : List Cond := .code y_X_room b_X_room 2 (some .boolean) :: TBL
abbrev b_H_has : ByteArray := prog_2_method_2_code
def y_H_has : MethodName := ⟨"SliceHeap$Heap", "has", "(I)Z"⟩
abbrev w_H_has : List Cond := .code y_H_has b_H_has 2 (some .boolean) :: TBL
abbrev b_H_all : ByteArray := prog_2_method_11_code
def y_H_all : MethodName := ⟨"SliceHeap$Heap", "all", "()V"⟩
abbrev w_H_all : List Cond := .code y_H_all b_H_all 2 none :: TBL
abbrev b_R_mark : ByteArray := prog_3_method_3_code
def y_R_mark : MethodName := ⟨"SliceHeap$Roots", "mark", "(LSliceHeap$Heap;)V"⟩
abbrev w_R_mark : List Cond := .code y_R_mark b_R_mark 3 none :: TBL
abbrev b_H_mark : ByteArray := prog_2_method_5_code
def y_H_mark : MethodName := ⟨"SliceHeap$Heap", "mark", "(II)V"⟩
abbrev w_H_mark : List Cond := .code y_H_mark b_H_mark 3 none :: TBL
abbrev b_H_blacken : ByteArray := prog_2_method_6_code
def y_H_blacken : MethodName := ⟨"SliceHeap$Heap", "blacken", "()V"⟩
abbrev w_H_blacken : List Cond := .code y_H_blacken b_H_blacken 3 none :: TBL
abbrev b_H_drop : ByteArray := prog_2_method_4_code
def y_H_drop : MethodName := ⟨"SliceHeap$Heap", "drop", "(I)V"⟩
abbrev w_H_drop : List Cond := .code y_H_drop b_H_drop 2 none :: TBL
abbrev b_H_make : ByteArray := prog_2_method_3_code
def y_H_make : MethodName := ⟨"SliceHeap$Heap", "make", "(I)I"⟩
abbrev w_H_make : List Cond := .code y_H_make b_H_make 3 (some .int) :: TBL
abbrev b_X_lay : ByteArray := prog_1_method_3_code
def y_X_lay : MethodName := ⟨"SliceHeap", "lay", "(III)V"⟩
abbrev w_X_lay : List Cond := .code y_X_lay b_X_lay 4 none :: TBL
abbrev b_H_touched : ByteArray := prog_2_method_7_code
def y_H_touched : MethodName := ⟨"SliceHeap$Heap", "touched", "(I)V"⟩
abbrev w_H_touched : List Cond := .code y_H_touched b_H_touched 2 none :: TBL
abbrev b_R_set : ByteArray := prog_3_method_4_code
def y_R_set : MethodName := ⟨"SliceHeap$Roots", "set", "(III)V"⟩
abbrev w_R_set : List Cond := .code y_R_set b_R_set 4 none :: TBL
abbrev b_H_slice : ByteArray := prog_2_method_8_code
def y_H_slice : MethodName := ⟨"SliceHeap$Heap", "slice", "()V"⟩
abbrev w_H_slice : List Cond := .code y_H_slice b_H_slice 2 none :: TBL
abbrev b_H_turn : ByteArray := prog_2_method_9_code
def y_H_turn : MethodName := ⟨"SliceHeap$Heap", "turn", "()V"⟩
abbrev w_H_turn : List Cond := .code y_H_turn b_H_turn 1 none :: TBL
abbrev b_H_sweep : ByteArray := prog_2_method_10_code
def y_H_sweep : MethodName := ⟨"SliceHeap$Heap", "sweep", "()V"⟩
abbrev w_H_sweep : List Cond := .code y_H_sweep b_H_sweep 2 none :: TBL
abbrev b_X_grow : ByteArray := prog_1_method_5_code
def y_X_grow : MethodName := ⟨"SliceHeap", "grow", "(II)I"⟩
abbrev w_X_grow : List Cond := .code y_X_grow b_X_grow 5 (some .int) :: TBL
abbrev b_R_hasObject : ByteArray := prog_3_method_5_code
def y_R_hasObject : MethodName := ⟨"SliceHeap$Roots", "hasObject", "(I)Z"⟩
abbrev w_R_hasObject : List Cond := .code y_R_hasObject b_R_hasObject 2 (some .boolean) :: TBL
abbrev b_X_shrink : ByteArray := prog_1_method_6_code
def y_X_shrink : MethodName := ⟨"SliceHeap", "shrink", "(I)I"⟩
abbrev w_X_shrink : List Cond := .code y_X_shrink b_X_shrink 3 (some .int) :: TBL
abbrev b_X_number : ByteArray := prog_1_method_7_code
def y_X_number : MethodName := ⟨"SliceHeap", "number", "(II)Z"⟩
abbrev w_X_number : List Cond := .code y_X_number b_X_number 3 (some .boolean) :: TBL
abbrev b_X_copy : ByteArray := prog_1_method_8_code
def y_X_copy : MethodName := ⟨"SliceHeap", "copy", "(II)Z"⟩
abbrev w_X_copy : List Cond := .code y_X_copy b_X_copy 3 (some .boolean) :: TBL
abbrev b_X_get : ByteArray := prog_1_method_10_code
def y_X_get : MethodName := ⟨"SliceHeap", "get", "(III)Z"⟩
abbrev w_X_get : List Cond := .code y_X_get b_X_get 5 (some .boolean) :: TBL
abbrev b_X_hasValue : ByteArray := prog_1_method_9_code
def y_X_hasValue : MethodName := ⟨"SliceHeap", "hasValue", "(II)Z"⟩
abbrev w_X_hasValue : List Cond := .code y_X_hasValue b_X_hasValue 3 (some .boolean) :: TBL
abbrev b_X_set : ByteArray := prog_1_method_11_code
def y_X_set : MethodName := ⟨"SliceHeap", "set", "(III)Z"⟩
abbrev w_X_set : List Cond := .code y_X_set b_X_set 4 (some .boolean) :: TBL
abbrev b_X_push : ByteArray := prog_1_method_12_code
def y_X_push : MethodName := ⟨"SliceHeap", "push", "(I)I"⟩
abbrev w_X_push : List Cond := .code y_X_push b_X_push 2 (some .int) :: TBL
abbrev b_X_pop : ByteArray := prog_1_method_13_code
def y_X_pop : MethodName := ⟨"SliceHeap", "pop", "(I)I"⟩
abbrev w_X_pop : List Cond := .code y_X_pop b_X_pop 2 (some .int) :: TBL
abbrev b_X_look : ByteArray := prog_1_method_14_code
def y_X_look : MethodName := ⟨"SliceHeap", "look", "(I)I"⟩
abbrev w_X_look : List Cond := .code y_X_look b_X_look 2 (some .int) :: TBL
abbrev b_X_numberIn : ByteArray := prog_1_method_15_code
def y_X_numberIn : MethodName := ⟨"SliceHeap", "numberIn", "(I)I"⟩
abbrev w_X_numberIn : List Cond := .code y_X_numberIn b_X_numberIn 2 (some .int) :: TBL
abbrev b_X_same : ByteArray := prog_1_method_16_code
def y_X_same : MethodName := ⟨"SliceHeap", "same", "(II)I"⟩
abbrev w_X_same : List Cond := .code y_X_same b_X_same 3 (some .int) :: TBL
abbrev b_X_count : ByteArray := prog_1_method_17_code
def y_X_count : MethodName := ⟨"SliceHeap", "count", "(I)I"⟩
abbrev w_X_count : List Cond := .code y_X_count b_X_count 2 (some .int) :: TBL
abbrev b_L_cell : ByteArray := method_2_code
def y_L_cell : MethodName := ⟨"SliceHeapLaw", "cell", "([II)I"⟩
abbrev w_L_cell : List Cond := .code y_L_cell b_L_cell 2 (some .int) :: TBL
abbrev b_M_init : ByteArray := prog_5_method_1_code
def y_M_init : MethodName := ⟨"SliceHeapModel", "<init>", "(I)V"⟩
abbrev w_M_init : List Cond := .code y_M_init b_M_init 2 none :: TBL
abbrev b_M_make : ByteArray := prog_5_method_11_code
def y_M_make : MethodName := ⟨"SliceHeapModel", "make", "(III)I"⟩
abbrev w_M_make : List Cond := .code y_M_make b_M_make 5 (some .int) :: TBL
abbrev b_M_isRegister : ByteArray := prog_5_method_2_code
def y_M_isRegister : MethodName := ⟨"SliceHeapModel", "isRegister", "(I)Z"⟩
abbrev w_M_isRegister : List Cond := .code y_M_isRegister b_M_isRegister 1 (some .boolean) :: TBL
abbrev b_M_hasRoom : ByteArray := prog_5_method_10_code
def y_M_hasRoom : MethodName := ⟨"SliceHeapModel", "hasRoom", "(I)Z"⟩
abbrev w_M_hasRoom : List Cond := .code y_M_hasRoom b_M_hasRoom 3 (some .boolean) :: TBL
abbrev b_M_reachable : ByteArray := prog_5_method_9_code
def y_M_reachable : MethodName := ⟨"SliceHeapModel", "reachable", "()I"⟩
abbrev w_M_reachable : List Cond := .code y_M_reachable b_M_reachable 3 (some .int) :: TBL
abbrev b_M_goOver : ByteArray := prog_5_method_8_code
def y_M_goOver : MethodName := ⟨"SliceHeapModel", "goOver", "()V"⟩
abbrev w_M_goOver : List Cond := .code y_M_goOver b_M_goOver 4 none :: TBL
abbrev b_M_reach : ByteArray := prog_5_method_7_code
def y_M_reach : MethodName := ⟨"SliceHeapModel", "reach", "(I)Z"⟩
abbrev w_M_reach : List Cond := .code y_M_reach b_M_reach 2 (some .boolean) :: TBL
abbrev b_M_placeOf : ByteArray := prog_5_method_4_code
def y_M_placeOf : MethodName := ⟨"SliceHeapModel", "placeOf", "(II)I"⟩
abbrev w_M_placeOf : List Cond := .code y_M_placeOf b_M_placeOf 2 (some .int) :: TBL
abbrev b_M_move : ByteArray := prog_5_method_5_code
def y_M_move : MethodName := ⟨"SliceHeapModel", "move", "(II)V"⟩
abbrev w_M_move : List Cond := .code y_M_move b_M_move 3 none :: TBL
abbrev b_M_grow : ByteArray := prog_5_method_12_code
def y_M_grow : MethodName := ⟨"SliceHeapModel", "grow", "(II)I"⟩
abbrev w_M_grow : List Cond := .code y_M_grow b_M_grow 4 (some .int) :: TBL
abbrev b_M_hasObject : ByteArray := prog_5_method_3_code
def y_M_hasObject : MethodName := ⟨"SliceHeapModel", "hasObject", "(I)Z"⟩
abbrev w_M_hasObject : List Cond := .code y_M_hasObject b_M_hasObject 2 (some .boolean) :: TBL
abbrev b_M_shrink : ByteArray := prog_5_method_13_code
def y_M_shrink : MethodName := ⟨"SliceHeapModel", "shrink", "(I)I"⟩
abbrev w_M_shrink : List Cond := .code y_M_shrink b_M_shrink 3 (some .int) :: TBL
abbrev b_M_empty : ByteArray := prog_5_method_6_code
def y_M_empty : MethodName := ⟨"SliceHeapModel", "empty", "(I)V"⟩
abbrev w_M_empty : List Cond := .code y_M_empty b_M_empty 2 none :: TBL
abbrev b_M_number : ByteArray := prog_5_method_14_code
def y_M_number : MethodName := ⟨"SliceHeapModel", "number", "(II)Z"⟩
abbrev w_M_number : List Cond := .code y_M_number b_M_number 3 (some .boolean) :: TBL
abbrev b_M_copy : ByteArray := prog_5_method_15_code
def y_M_copy : MethodName := ⟨"SliceHeapModel", "copy", "(II)Z"⟩
abbrev w_M_copy : List Cond := .code y_M_copy b_M_copy 3 (some .boolean) :: TBL
abbrev b_M_get : ByteArray := prog_5_method_17_code
def y_M_get : MethodName := ⟨"SliceHeapModel", "get", "(III)Z"⟩
abbrev w_M_get : List Cond := .code y_M_get b_M_get 4 (some .boolean) :: TBL
abbrev b_M_hasValue : ByteArray := prog_5_method_16_code
def y_M_hasValue : MethodName := ⟨"SliceHeapModel", "hasValue", "(II)Z"⟩
abbrev w_M_hasValue : List Cond := .code y_M_hasValue b_M_hasValue 3 (some .boolean) :: TBL
abbrev b_M_set : ByteArray := prog_5_method_18_code
def y_M_set : MethodName := ⟨"SliceHeapModel", "set", "(III)Z"⟩
abbrev w_M_set : List Cond := .code y_M_set b_M_set 4 (some .boolean) :: TBL
abbrev b_M_push : ByteArray := prog_5_method_19_code
def y_M_push : MethodName := ⟨"SliceHeapModel", "push", "(I)I"⟩
abbrev w_M_push : List Cond := .code y_M_push b_M_push 2 (some .int) :: TBL
abbrev b_M_pop : ByteArray := prog_5_method_20_code
def y_M_pop : MethodName := ⟨"SliceHeapModel", "pop", "(I)I"⟩
abbrev w_M_pop : List Cond := .code y_M_pop b_M_pop 2 (some .int) :: TBL
abbrev b_M_look : ByteArray := prog_5_method_21_code
def y_M_look : MethodName := ⟨"SliceHeapModel", "look", "(I)I"⟩
abbrev w_M_look : List Cond := .code y_M_look b_M_look 2 (some .int) :: TBL
abbrev b_M_numberIn : ByteArray := prog_5_method_22_code
def y_M_numberIn : MethodName := ⟨"SliceHeapModel", "numberIn", "(I)I"⟩
abbrev w_M_numberIn : List Cond := .code y_M_numberIn b_M_numberIn 2 (some .int) :: TBL
abbrev b_M_same : ByteArray := prog_5_method_23_code
def y_M_same : MethodName := ⟨"SliceHeapModel", "same", "(II)I"⟩
abbrev w_M_same : List Cond := .code y_M_same b_M_same 3 (some .int) :: TBL
abbrev b_M_count : ByteArray := prog_5_method_24_code
def y_M_count : MethodName := ⟨"SliceHeapModel", "count", "(I)I"⟩
abbrev w_M_count : List Cond := .code y_M_count b_M_count 5 (some .int) :: TBL
-- the words, each with its place
theorem ks_X_room : (.selects "SliceHeap" y_X_room y_X_room : Cond) ∈ TBL := tb_mem 0 rfl rfl
theorem ks_H_blacken : (.selects "SliceHeap$Heap" y_H_blacken y_H_blacken : Cond) ∈ TBL := tb_mem 1 rfl rfl
theorem ks_H_drop : (.selects "SliceHeap$Heap" y_H_drop y_H_drop : Cond) ∈ TBL := tb_mem 2 rfl rfl
theorem ks_X_lay : (.selects "SliceHeap" y_X_lay y_X_lay : Cond) ∈ TBL := tb_mem 3 rfl rfl
theorem ks_H_turn : (.selects "SliceHeap$Heap" y_H_turn y_H_turn : Cond) ∈ TBL := tb_mem 4 rfl rfl
theorem ks_H_sweep : (.selects "SliceHeap$Heap" y_H_sweep y_H_sweep : Cond) ∈ TBL := tb_mem 5 rfl rfl
theorem ks_X_hasValue : (.selects "SliceHeap" y_X_hasValue y_X_hasValue : Cond) ∈ TBL := tb_mem 6 rfl rfl
theorem ks_M_hasRoom : (.selects "SliceHeapModel" y_M_hasRoom y_M_hasRoom : Cond) ∈ TBL := tb_mem 7 rfl rfl
theorem ks_M_reachable : (.selects "SliceHeapModel" y_M_reachable y_M_reachable : Cond) ∈ TBL := tb_mem 8 rfl rfl
theorem ks_M_goOver : (.selects "SliceHeapModel" y_M_goOver y_M_goOver : Cond) ∈ TBL := tb_mem 9 rfl rfl
theorem ks_M_reach : (.selects "SliceHeapModel" y_M_reach y_M_reach : Cond) ∈ TBL := tb_mem 10 rfl rfl
theorem ks_M_move : (.selects "SliceHeapModel" y_M_move y_M_move : Cond) ∈ TBL := tb_mem 11 rfl rfl
theorem ks_M_hasObject : (.selects "SliceHeapModel" y_M_hasObject y_M_hasObject : Cond) ∈ TBL := tb_mem 12 rfl rfl
theorem ks_M_empty : (.selects "SliceHeapModel" y_M_empty y_M_empty : Cond) ∈ TBL := tb_mem 13 rfl rfl
theorem ks_M_hasValue : (.selects "SliceHeapModel" y_M_hasValue y_M_hasValue : Cond) ∈ TBL := tb_mem 14 rfl rfl
theorem k0_L : (.initialized "SliceHeapLaw" : Cond) ∈ TBL := tb_mem 15 rfl rfl
theorem k0_X : (.initialized "SliceHeap" : Cond) ∈ TBL := tb_mem 16 rfl rfl
theorem k0_R : (.initialized "SliceHeap$Roots" : Cond) ∈ TBL := tb_mem 17 rfl rfl
theorem k0_H : (.initialized "SliceHeap$Heap" : Cond) ∈ TBL := tb_mem 18 rfl rfl
theorem k0_M : (.initialized "SliceHeapModel" : Cond) ∈ TBL := tb_mem 19 rfl rfl
theorem kl_L_7 : (.classLink "SliceHeapLaw" 7 "SliceHeap" : Cond) ∈ TBL := tb_mem 20 rfl rfl
theorem kn_X : (.instantiable "SliceHeap" 4 : Cond) ∈ TBL := tb_mem 21 rfl rfl
theorem km_L_15 : (.methodLink "SliceHeapLaw" 15 y_X_init : Cond) ∈ TBL := tb_mem 22 rfl rfl
theorem ki_X_init : (.instanceMethod y_X_init : Cond) ∈ TBL := tb_mem 23 rfl rfl
theorem kc_X_init : (.code y_X_init b_X_init 2 none : Cond) ∈ TBL := tb_mem 24 rfl rfl
theorem km_X_1 : (.methodLink "SliceHeap" 1 objectInit : Cond) ∈ TBL := tb_mem 25 rfl rfl
theorem ki_O_init : (.instanceMethod objectInit : Cond) ∈ TBL := tb_mem 26 rfl rfl
theorem kc_O_init : (.code objectInit ⟨#[0xb1]⟩ 1 none : Cond) ∈ TBL := tb_mem 27 rfl rfl
theorem kl_X_7 : (.classLink "SliceHeap" 7 "SliceHeap$Roots" : Cond) ∈ TBL := tb_mem 28 rfl rfl
theorem kn_R : (.instantiable "SliceHeap$Roots" 3 : Cond) ∈ TBL := tb_mem 29 rfl rfl
theorem ki_R_init : (.instanceMethod y_R_init : Cond) ∈ TBL := tb_mem 31 rfl rfl
theorem kc_R_init : (.code y_R_init b_R_init 1 none : Cond) ∈ TBL := tb_mem 32 rfl rfl
theorem km_R_1 : (.methodLink "SliceHeap$Roots" 1 objectInit : Cond) ∈ TBL := tb_mem 33 rfl rfl
theorem kf_R_9 : (.fieldLink "SliceHeap$Roots" 9 "SliceHeap$Roots" "sorts" "[B" : Cond) ∈ TBL := tb_mem 34 rfl rfl
theorem kf_R_13 : (.fieldLink "SliceHeap$Roots" 13 "SliceHeap$Roots" "values" "[I" : Cond) ∈ TBL := tb_mem 36 rfl rfl
theorem kf_R_17 : (.fieldLink "SliceHeap$Roots" 17 "SliceHeap$Roots" "depth" "I" : Cond) ∈ TBL := tb_mem 38 rfl rfl
theorem ka_byte : (.arrayClass .byte : Cond) ∈ TBL := tb_mem 47 rfl rfl
theorem ka_int : (.arrayClass .int : Cond) ∈ TBL := tb_mem 48 rfl rfl
theorem kl_X_16 : (.classLink "SliceHeap" 16 "SliceHeap$Heap" : Cond) ∈ TBL := tb_mem 49 rfl rfl
theorem kn_H : (.instantiable "SliceHeap$Heap" 16 : Cond) ∈ TBL := tb_mem 50 rfl rfl
theorem km_X_18 : (.methodLink "SliceHeap" 18 y_H_init : Cond) ∈ TBL := tb_mem 51 rfl rfl
theorem ki_H_init : (.instanceMethod y_H_init : Cond) ∈ TBL := tb_mem 52 rfl rfl
theorem kc_H_init : (.code y_H_init b_H_init 4 none : Cond) ∈ TBL := tb_mem 53 rfl rfl
theorem km_H_1 : (.methodLink "SliceHeap$Heap" 1 objectInit : Cond) ∈ TBL := tb_mem 54 rfl rfl
theorem kf_H_9 : (.fieldLink "SliceHeap$Heap" 9 "SliceHeap$Heap" "colours" "[B" : Cond) ∈ TBL := tb_mem 55 rfl rfl
theorem kf_H_13 : (.fieldLink "SliceHeap$Heap" 13 "SliceHeap$Heap" "sizes" "[B" : Cond) ∈ TBL := tb_mem 56 rfl rfl
theorem kf_H_16 : (.fieldLink "SliceHeap$Heap" 16 "SliceHeap$Heap" "sorts" "[B" : Cond) ∈ TBL := tb_mem 58 rfl rfl
theorem kf_H_19 : (.fieldLink "SliceHeap$Heap" 19 "SliceHeap$Heap" "values" "[I" : Cond) ∈ TBL := tb_mem 60 rfl rfl
theorem kf_H_23 : (.fieldLink "SliceHeap$Heap" 23 "SliceHeap$Heap" "free" "[I" : Cond) ∈ TBL := tb_mem 62 rfl rfl
theorem kf_H_26 : (.fieldLink "SliceHeap$Heap" 26 "SliceHeap$Heap" "grey" "[I" : Cond) ∈ TBL := tb_mem 63 rfl rfl
theorem kf_H_33 : (.fieldLink "SliceHeap$Heap" 33 "SliceHeap$Heap" "roots" "LSliceHeap$Roots;" : Cond) ∈ TBL := tb_mem 64 rfl rfl
theorem kf_H_37 : (.fieldLink "SliceHeap$Heap" 37 "SliceHeap$Heap" "most" "I" : Cond) ∈ TBL := tb_mem 65 rfl rfl
theorem kf_H_40 : (.fieldLink "SliceHeap$Heap" 40 "SliceHeap$Heap" "freeCount" "I" : Cond) ∈ TBL := tb_mem 66 rfl rfl
theorem kf_H_55 : (.fieldLink "SliceHeap$Heap" 55 "SliceHeap$Heap" "greys" "I" : Cond) ∈ TBL := tb_mem 67 rfl rfl
theorem kf_H_43 : (.fieldLink "SliceHeap$Heap" 43 "SliceHeap$Heap" "used" "I" : Cond) ∈ TBL := tb_mem 68 rfl rfl
theorem kf_H_52 : (.fieldLink "SliceHeap$Heap" 52 "SliceHeap$Heap" "objects" "I" : Cond) ∈ TBL := tb_mem 70 rfl rfl
theorem kf_H_29 : (.fieldLink "SliceHeap$Heap" 29 "SliceHeap$Heap" "white" "I" : Cond) ∈ TBL := tb_mem 72 rfl rfl
theorem kf_H_49 : (.fieldLink "SliceHeap$Heap" 49 "SliceHeap$Heap" "phase" "I" : Cond) ∈ TBL := tb_mem 73 rfl rfl
theorem kf_H_76 : (.fieldLink "SliceHeap$Heap" 76 "SliceHeap$Heap" "swept" "I" : Cond) ∈ TBL := tb_mem 74 rfl rfl
theorem kf_H_62 : (.fieldLink "SliceHeap$Heap" 62 "SliceHeap$Heap" "made" "I" : Cond) ∈ TBL := tb_mem 75 rfl rfl
theorem kf_X_10 : (.fieldLink "SliceHeap" 10 "SliceHeap" "roots" "LSliceHeap$Roots;" : Cond) ∈ TBL := tb_mem 109 rfl rfl
theorem kf_X_21 : (.fieldLink "SliceHeap" 21 "SliceHeap" "heap" "LSliceHeap$Heap;" : Cond) ∈ TBL := tb_mem 110 rfl rfl
theorem kf_X_64 : (.fieldLink "SliceHeap" 64 "SliceHeap" "made" "I" : Cond) ∈ TBL := tb_mem 111 rfl rfl
theorem kf_X_29 : (.fieldLink "SliceHeap" 29 "SliceHeap" "full" "I" : Cond) ∈ TBL := tb_mem 112 rfl rfl
theorem km_L_21 : (.methodLink "SliceHeapLaw" 21 y_X_make : Cond) ∈ TBL := tb_mem 122 rfl rfl
theorem ki_X_make : (.instanceMethod y_X_make : Cond) ∈ TBL := tb_mem 123 rfl rfl
theorem ks_X_make : (.selects "SliceHeap" y_X_make y_X_make : Cond) ∈ TBL := tb_mem 124 rfl rfl
theorem kc_X_make : (.code y_X_make b_X_make 6 (some .int) : Cond) ∈ TBL := tb_mem 125 rfl rfl
theorem km_X_47 : (.methodLink "SliceHeap" 47 y_R_is : Cond) ∈ TBL := tb_mem 126 rfl rfl
theorem kt_R_is : (.static y_R_is : Cond) ∈ TBL := tb_mem 127 rfl rfl
theorem kc_R_is : (.code y_R_is b_R_is 1 (some .boolean) : Cond) ∈ TBL := tb_mem 128 rfl rfl
theorem km_X_50 : (.methodLink "SliceHeap" 50 y_X_room : Cond) ∈ TBL := tb_mem 129 rfl rfl
theorem ki_X_room : (.instanceMethod y_X_room : Cond) ∈ TBL := tb_mem 131 rfl rfl
theorem kc_X_room : (.code y_X_room b_X_room 2 (some .boolean) : Cond) ∈ TBL := tb_mem 132 rfl rfl
theorem km_X_25 : (.methodLink "SliceHeap" 25 y_H_has : Cond) ∈ TBL := tb_mem 133 rfl rfl
theorem ki_H_has : (.instanceMethod y_H_has : Cond) ∈ TBL := tb_mem 134 rfl rfl
theorem ks_H_has : (.selects "SliceHeap$Heap" y_H_has y_H_has : Cond) ∈ TBL := tb_mem 135 rfl rfl
theorem kc_H_has : (.code y_H_has b_H_has 2 (some .boolean) : Cond) ∈ TBL := tb_mem 136 rfl rfl
theorem km_H_46 : (.methodLink "SliceHeap$Heap" 46 y_H_all : Cond) ∈ TBL := tb_mem 137 rfl rfl
theorem ki_H_all : (.instanceMethod y_H_all : Cond) ∈ TBL := tb_mem 138 rfl rfl
theorem ks_H_all : (.selects "SliceHeap$Heap" y_H_all y_H_all : Cond) ∈ TBL := tb_mem 139 rfl rfl
theorem kc_H_all : (.code y_H_all b_H_all 2 none : Cond) ∈ TBL := tb_mem 140 rfl rfl
theorem km_H_65 : (.methodLink "SliceHeap$Heap" 65 y_R_mark : Cond) ∈ TBL := tb_mem 141 rfl rfl
theorem ki_R_mark : (.instanceMethod y_R_mark : Cond) ∈ TBL := tb_mem 142 rfl rfl
theorem ks_R_mark : (.selects "SliceHeap$Roots" y_R_mark y_R_mark : Cond) ∈ TBL := tb_mem 143 rfl rfl
theorem kc_R_mark : (.code y_R_mark b_R_mark 3 none : Cond) ∈ TBL := tb_mem 144 rfl rfl
theorem km_R_21 : (.methodLink "SliceHeap$Roots" 21 y_H_mark : Cond) ∈ TBL := tb_mem 145 rfl rfl
theorem ki_H_mark : (.instanceMethod y_H_mark : Cond) ∈ TBL := tb_mem 146 rfl rfl
theorem ks_H_mark : (.selects "SliceHeap$Heap" y_H_mark y_H_mark : Cond) ∈ TBL := tb_mem 147 rfl rfl
theorem kc_H_mark : (.code y_H_mark b_H_mark 3 none : Cond) ∈ TBL := tb_mem 148 rfl rfl
theorem km_H_70 : (.methodLink "SliceHeap$Heap" 70 y_H_blacken : Cond) ∈ TBL := tb_mem 149 rfl rfl
theorem ki_H_blacken : (.instanceMethod y_H_blacken : Cond) ∈ TBL := tb_mem 151 rfl rfl
theorem kc_H_blacken : (.code y_H_blacken b_H_blacken 3 none : Cond) ∈ TBL := tb_mem 152 rfl rfl
theorem km_H_58 : (.methodLink "SliceHeap$Heap" 58 y_H_mark : Cond) ∈ TBL := tb_mem 153 rfl rfl
theorem km_H_82 : (.methodLink "SliceHeap$Heap" 82 y_H_drop : Cond) ∈ TBL := tb_mem 154 rfl rfl
theorem ki_H_drop : (.instanceMethod y_H_drop : Cond) ∈ TBL := tb_mem 156 rfl rfl
theorem kc_H_drop : (.code y_H_drop b_H_drop 2 none : Cond) ∈ TBL := tb_mem 157 rfl rfl
theorem km_X_53 : (.methodLink "SliceHeap" 53 y_H_make : Cond) ∈ TBL := tb_mem 158 rfl rfl
theorem ki_H_make : (.instanceMethod y_H_make : Cond) ∈ TBL := tb_mem 159 rfl rfl
theorem ks_H_make : (.selects "SliceHeap$Heap" y_H_make y_H_make : Cond) ∈ TBL := tb_mem 160 rfl rfl
theorem kc_H_make : (.code y_H_make b_H_make 3 (some .int) : Cond) ∈ TBL := tb_mem 161 rfl rfl
theorem km_X_57 : (.methodLink "SliceHeap" 57 y_X_lay : Cond) ∈ TBL := tb_mem 162 rfl rfl
theorem ki_X_lay : (.instanceMethod y_X_lay : Cond) ∈ TBL := tb_mem 164 rfl rfl
theorem kc_X_lay : (.code y_X_lay b_X_lay 4 none : Cond) ∈ TBL := tb_mem 165 rfl rfl
theorem km_X_43 : (.methodLink "SliceHeap" 43 y_H_touched : Cond) ∈ TBL := tb_mem 166 rfl rfl
theorem ki_H_touched : (.instanceMethod y_H_touched : Cond) ∈ TBL := tb_mem 167 rfl rfl
theorem ks_H_touched : (.selects "SliceHeap$Heap" y_H_touched y_H_touched : Cond) ∈ TBL := tb_mem 168 rfl rfl
theorem kc_H_touched : (.code y_H_touched b_H_touched 2 none : Cond) ∈ TBL := tb_mem 169 rfl rfl
theorem km_X_61 : (.methodLink "SliceHeap" 61 y_R_set : Cond) ∈ TBL := tb_mem 170 rfl rfl
theorem ki_R_set : (.instanceMethod y_R_set : Cond) ∈ TBL := tb_mem 171 rfl rfl
theorem ks_R_set : (.selects "SliceHeap$Roots" y_R_set y_R_set : Cond) ∈ TBL := tb_mem 172 rfl rfl
theorem kc_R_set : (.code y_R_set b_R_set 4 none : Cond) ∈ TBL := tb_mem 173 rfl rfl
theorem km_X_67 : (.methodLink "SliceHeap" 67 y_H_slice : Cond) ∈ TBL := tb_mem 174 rfl rfl
theorem ki_H_slice : (.instanceMethod y_H_slice : Cond) ∈ TBL := tb_mem 175 rfl rfl
theorem ks_H_slice : (.selects "SliceHeap$Heap" y_H_slice y_H_slice : Cond) ∈ TBL := tb_mem 176 rfl rfl
theorem kc_H_slice : (.code y_H_slice b_H_slice 2 none : Cond) ∈ TBL := tb_mem 177 rfl rfl
theorem km_H_73 : (.methodLink "SliceHeap$Heap" 73 y_H_turn : Cond) ∈ TBL := tb_mem 178 rfl rfl
theorem ki_H_turn : (.instanceMethod y_H_turn : Cond) ∈ TBL := tb_mem 180 rfl rfl
theorem kc_H_turn : (.code y_H_turn b_H_turn 1 none : Cond) ∈ TBL := tb_mem 181 rfl rfl
theorem km_H_79 : (.methodLink "SliceHeap$Heap" 79 y_H_sweep : Cond) ∈ TBL := tb_mem 182 rfl rfl
theorem ki_H_sweep : (.instanceMethod y_H_sweep : Cond) ∈ TBL := tb_mem 184 rfl rfl
theorem kc_H_sweep : (.code y_H_sweep b_H_sweep 2 none : Cond) ∈ TBL := tb_mem 185 rfl rfl
theorem km_L_26 : (.methodLink "SliceHeapLaw" 26 y_X_grow : Cond) ∈ TBL := tb_mem 186 rfl rfl
theorem ki_X_grow : (.instanceMethod y_X_grow : Cond) ∈ TBL := tb_mem 187 rfl rfl
theorem ks_X_grow : (.selects "SliceHeap" y_X_grow y_X_grow : Cond) ∈ TBL := tb_mem 188 rfl rfl
theorem kc_X_grow : (.code y_X_grow b_X_grow 5 (some .int) : Cond) ∈ TBL := tb_mem 189 rfl rfl
theorem km_X_70 : (.methodLink "SliceHeap" 70 y_R_hasObject : Cond) ∈ TBL := tb_mem 190 rfl rfl
theorem ki_R_hasObject : (.instanceMethod y_R_hasObject : Cond) ∈ TBL := tb_mem 191 rfl rfl
theorem ks_R_hasObject : (.selects "SliceHeap$Roots" y_R_hasObject y_R_hasObject : Cond) ∈ TBL := tb_mem 192 rfl rfl
theorem kc_R_hasObject : (.code y_R_hasObject b_R_hasObject 2 (some .boolean) : Cond) ∈ TBL := tb_mem 193 rfl rfl
theorem km_R_27 : (.methodLink "SliceHeap$Roots" 27 y_R_is : Cond) ∈ TBL := tb_mem 194 rfl rfl
theorem km_L_31 : (.methodLink "SliceHeapLaw" 31 y_X_shrink : Cond) ∈ TBL := tb_mem 195 rfl rfl
theorem ki_X_shrink : (.instanceMethod y_X_shrink : Cond) ∈ TBL := tb_mem 196 rfl rfl
theorem ks_X_shrink : (.selects "SliceHeap" y_X_shrink y_X_shrink : Cond) ∈ TBL := tb_mem 197 rfl rfl
theorem kc_X_shrink : (.code y_X_shrink b_X_shrink 3 (some .int) : Cond) ∈ TBL := tb_mem 198 rfl rfl
theorem km_L_36 : (.methodLink "SliceHeapLaw" 36 y_X_number : Cond) ∈ TBL := tb_mem 199 rfl rfl
theorem ki_X_number : (.instanceMethod y_X_number : Cond) ∈ TBL := tb_mem 200 rfl rfl
theorem ks_X_number : (.selects "SliceHeap" y_X_number y_X_number : Cond) ∈ TBL := tb_mem 201 rfl rfl
theorem kc_X_number : (.code y_X_number b_X_number 3 (some .boolean) : Cond) ∈ TBL := tb_mem 202 rfl rfl
theorem km_L_41 : (.methodLink "SliceHeapLaw" 41 y_X_copy : Cond) ∈ TBL := tb_mem 203 rfl rfl
theorem ki_X_copy : (.instanceMethod y_X_copy : Cond) ∈ TBL := tb_mem 204 rfl rfl
theorem ks_X_copy : (.selects "SliceHeap" y_X_copy y_X_copy : Cond) ∈ TBL := tb_mem 205 rfl rfl
theorem kc_X_copy : (.code y_X_copy b_X_copy 3 (some .boolean) : Cond) ∈ TBL := tb_mem 206 rfl rfl
theorem km_L_45 : (.methodLink "SliceHeapLaw" 45 y_X_get : Cond) ∈ TBL := tb_mem 207 rfl rfl
theorem ki_X_get : (.instanceMethod y_X_get : Cond) ∈ TBL := tb_mem 208 rfl rfl
theorem ks_X_get : (.selects "SliceHeap" y_X_get y_X_get : Cond) ∈ TBL := tb_mem 209 rfl rfl
theorem kc_X_get : (.code y_X_get b_X_get 5 (some .boolean) : Cond) ∈ TBL := tb_mem 210 rfl rfl
theorem km_X_79 : (.methodLink "SliceHeap" 79 y_X_hasValue : Cond) ∈ TBL := tb_mem 211 rfl rfl
theorem ki_X_hasValue : (.instanceMethod y_X_hasValue : Cond) ∈ TBL := tb_mem 213 rfl rfl
theorem kc_X_hasValue : (.code y_X_hasValue b_X_hasValue 3 (some .boolean) : Cond) ∈ TBL := tb_mem 214 rfl rfl
theorem km_L_50 : (.methodLink "SliceHeapLaw" 50 y_X_set : Cond) ∈ TBL := tb_mem 215 rfl rfl
theorem ki_X_set : (.instanceMethod y_X_set : Cond) ∈ TBL := tb_mem 216 rfl rfl
theorem ks_X_set : (.selects "SliceHeap" y_X_set y_X_set : Cond) ∈ TBL := tb_mem 217 rfl rfl
theorem kc_X_set : (.code y_X_set b_X_set 4 (some .boolean) : Cond) ∈ TBL := tb_mem 218 rfl rfl
theorem km_L_54 : (.methodLink "SliceHeapLaw" 54 y_X_push : Cond) ∈ TBL := tb_mem 219 rfl rfl
theorem ki_X_push : (.instanceMethod y_X_push : Cond) ∈ TBL := tb_mem 220 rfl rfl
theorem ks_X_push : (.selects "SliceHeap" y_X_push y_X_push : Cond) ∈ TBL := tb_mem 221 rfl rfl
theorem kc_X_push : (.code y_X_push b_X_push 2 (some .int) : Cond) ∈ TBL := tb_mem 222 rfl rfl
theorem km_L_58 : (.methodLink "SliceHeapLaw" 58 y_X_pop : Cond) ∈ TBL := tb_mem 223 rfl rfl
theorem ki_X_pop : (.instanceMethod y_X_pop : Cond) ∈ TBL := tb_mem 224 rfl rfl
theorem ks_X_pop : (.selects "SliceHeap" y_X_pop y_X_pop : Cond) ∈ TBL := tb_mem 225 rfl rfl
theorem kc_X_pop : (.code y_X_pop b_X_pop 2 (some .int) : Cond) ∈ TBL := tb_mem 226 rfl rfl
theorem km_L_62 : (.methodLink "SliceHeapLaw" 62 y_X_look : Cond) ∈ TBL := tb_mem 227 rfl rfl
theorem ki_X_look : (.instanceMethod y_X_look : Cond) ∈ TBL := tb_mem 228 rfl rfl
theorem ks_X_look : (.selects "SliceHeap" y_X_look y_X_look : Cond) ∈ TBL := tb_mem 229 rfl rfl
theorem kc_X_look : (.code y_X_look b_X_look 2 (some .int) : Cond) ∈ TBL := tb_mem 230 rfl rfl
theorem km_L_66 : (.methodLink "SliceHeapLaw" 66 y_X_numberIn : Cond) ∈ TBL := tb_mem 231 rfl rfl
theorem ki_X_numberIn : (.instanceMethod y_X_numberIn : Cond) ∈ TBL := tb_mem 232 rfl rfl
theorem ks_X_numberIn : (.selects "SliceHeap" y_X_numberIn y_X_numberIn : Cond) ∈ TBL := tb_mem 233 rfl rfl
theorem kc_X_numberIn : (.code y_X_numberIn b_X_numberIn 2 (some .int) : Cond) ∈ TBL := tb_mem 234 rfl rfl
theorem km_L_70 : (.methodLink "SliceHeapLaw" 70 y_X_same : Cond) ∈ TBL := tb_mem 235 rfl rfl
theorem ki_X_same : (.instanceMethod y_X_same : Cond) ∈ TBL := tb_mem 236 rfl rfl
theorem ks_X_same : (.selects "SliceHeap" y_X_same y_X_same : Cond) ∈ TBL := tb_mem 237 rfl rfl
theorem kc_X_same : (.code y_X_same b_X_same 3 (some .int) : Cond) ∈ TBL := tb_mem 238 rfl rfl
theorem km_L_74 : (.methodLink "SliceHeapLaw" 74 y_X_count : Cond) ∈ TBL := tb_mem 239 rfl rfl
theorem ki_X_count : (.instanceMethod y_X_count : Cond) ∈ TBL := tb_mem 240 rfl rfl
theorem ks_X_count : (.selects "SliceHeap" y_X_count y_X_count : Cond) ∈ TBL := tb_mem 241 rfl rfl
theorem kc_X_count : (.code y_X_count b_X_count 2 (some .int) : Cond) ∈ TBL := tb_mem 242 rfl rfl
theorem km_X_86 : (.methodLink "SliceHeap" 86 y_H_all : Cond) ∈ TBL := tb_mem 243 rfl rfl
theorem km_L_9 : (.methodLink "SliceHeapLaw" 9 y_L_cell : Cond) ∈ TBL := tb_mem 244 rfl rfl
theorem kt_L_cell : (.static y_L_cell : Cond) ∈ TBL := tb_mem 245 rfl rfl
theorem kc_L_cell : (.code y_L_cell b_L_cell 2 (some .int) : Cond) ∈ TBL := tb_mem 246 rfl rfl
theorem kl_L_18 : (.classLink "SliceHeapLaw" 18 "SliceHeapModel" : Cond) ∈ TBL := tb_mem 247 rfl rfl
theorem kn_M : (.instantiable "SliceHeapModel" 8 : Cond) ∈ TBL := tb_mem 248 rfl rfl
theorem km_L_20 : (.methodLink "SliceHeapLaw" 20 y_M_init : Cond) ∈ TBL := tb_mem 249 rfl rfl
theorem ki_M_init : (.instanceMethod y_M_init : Cond) ∈ TBL := tb_mem 250 rfl rfl
theorem kc_M_init : (.code y_M_init b_M_init 2 none : Cond) ∈ TBL := tb_mem 251 rfl rfl
theorem km_M_1 : (.methodLink "SliceHeapModel" 1 objectInit : Cond) ∈ TBL := tb_mem 252 rfl rfl
theorem kf_M_24 : (.fieldLink "SliceHeapModel" 24 "SliceHeapModel" "cells" "I" : Cond) ∈ TBL := tb_mem 253 rfl rfl
theorem kf_M_7 : (.fieldLink "SliceHeapModel" 7 "SliceHeapModel" "kinds" "[B" : Cond) ∈ TBL := tb_mem 254 rfl rfl
theorem kf_M_13 : (.fieldLink "SliceHeapModel" 13 "SliceHeapModel" "values" "[I" : Cond) ∈ TBL := tb_mem 255 rfl rfl
theorem kf_M_35 : (.fieldLink "SliceHeapModel" 35 "SliceHeapModel" "stacked" "I" : Cond) ∈ TBL := tb_mem 256 rfl rfl
theorem kf_M_32 : (.fieldLink "SliceHeapModel" 32 "SliceHeapModel" "made" "I" : Cond) ∈ TBL := tb_mem 257 rfl rfl
theorem kf_M_17 : (.fieldLink "SliceHeapModel" 17 "SliceHeapModel" "sizes" "[I" : Cond) ∈ TBL := tb_mem 258 rfl rfl
theorem kf_M_20 : (.fieldLink "SliceHeapModel" 20 "SliceHeapModel" "reached" "[Z" : Cond) ∈ TBL := tb_mem 259 rfl rfl
theorem kf_M_52 : (.fieldLink "SliceHeapModel" 52 "SliceHeapModel" "full" "I" : Cond) ∈ TBL := tb_mem 260 rfl rfl
theorem ka_boolean : (.arrayClass .boolean : Cond) ∈ TBL := tb_mem 278 rfl rfl
theorem km_L_25 : (.methodLink "SliceHeapLaw" 25 y_M_make : Cond) ∈ TBL := tb_mem 279 rfl rfl
theorem ki_M_make : (.instanceMethod y_M_make : Cond) ∈ TBL := tb_mem 280 rfl rfl
theorem ks_M_make : (.selects "SliceHeapModel" y_M_make y_M_make : Cond) ∈ TBL := tb_mem 281 rfl rfl
theorem kc_M_make : (.code y_M_make b_M_make 5 (some .int) : Cond) ∈ TBL := tb_mem 282 rfl rfl
theorem km_M_28 : (.methodLink "SliceHeapModel" 28 y_M_isRegister : Cond) ∈ TBL := tb_mem 283 rfl rfl
theorem kt_M_isRegister : (.static y_M_isRegister : Cond) ∈ TBL := tb_mem 284 rfl rfl
theorem kc_M_isRegister : (.code y_M_isRegister b_M_isRegister 1 (some .boolean) : Cond) ∈ TBL := tb_mem 285 rfl rfl
theorem km_M_55 : (.methodLink "SliceHeapModel" 55 y_M_hasRoom : Cond) ∈ TBL := tb_mem 286 rfl rfl
theorem ki_M_hasRoom : (.instanceMethod y_M_hasRoom : Cond) ∈ TBL := tb_mem 288 rfl rfl
theorem kc_M_hasRoom : (.code y_M_hasRoom b_M_hasRoom 3 (some .boolean) : Cond) ∈ TBL := tb_mem 289 rfl rfl
theorem km_M_48 : (.methodLink "SliceHeapModel" 48 y_M_reachable : Cond) ∈ TBL := tb_mem 290 rfl rfl
theorem ki_M_reachable : (.instanceMethod y_M_reachable : Cond) ∈ TBL := tb_mem 292 rfl rfl
theorem kc_M_reachable : (.code y_M_reachable b_M_reachable 3 (some .int) : Cond) ∈ TBL := tb_mem 293 rfl rfl
theorem km_M_45 : (.methodLink "SliceHeapModel" 45 y_M_goOver : Cond) ∈ TBL := tb_mem 294 rfl rfl
theorem ki_M_goOver : (.instanceMethod y_M_goOver : Cond) ∈ TBL := tb_mem 296 rfl rfl
theorem kc_M_goOver : (.code y_M_goOver b_M_goOver 4 none : Cond) ∈ TBL := tb_mem 297 rfl rfl
theorem km_M_38 : (.methodLink "SliceHeapModel" 38 y_M_reach : Cond) ∈ TBL := tb_mem 298 rfl rfl
theorem ki_M_reach : (.instanceMethod y_M_reach : Cond) ∈ TBL := tb_mem 300 rfl rfl
theorem kc_M_reach : (.code y_M_reach b_M_reach 2 (some .boolean) : Cond) ∈ TBL := tb_mem 301 rfl rfl
theorem km_M_41 : (.methodLink "SliceHeapModel" 41 y_M_placeOf : Cond) ∈ TBL := tb_mem 302 rfl rfl
theorem kt_M_placeOf : (.static y_M_placeOf : Cond) ∈ TBL := tb_mem 303 rfl rfl
theorem kc_M_placeOf : (.code y_M_placeOf b_M_placeOf 2 (some .int) : Cond) ∈ TBL := tb_mem 304 rfl rfl
theorem km_M_58 : (.methodLink "SliceHeapModel" 58 y_M_move : Cond) ∈ TBL := tb_mem 305 rfl rfl
theorem ki_M_move : (.instanceMethod y_M_move : Cond) ∈ TBL := tb_mem 307 rfl rfl
theorem kc_M_move : (.code y_M_move b_M_move 3 none : Cond) ∈ TBL := tb_mem 308 rfl rfl
theorem km_L_30 : (.methodLink "SliceHeapLaw" 30 y_M_grow : Cond) ∈ TBL := tb_mem 309 rfl rfl
theorem ki_M_grow : (.instanceMethod y_M_grow : Cond) ∈ TBL := tb_mem 310 rfl rfl
theorem ks_M_grow : (.selects "SliceHeapModel" y_M_grow y_M_grow : Cond) ∈ TBL := tb_mem 311 rfl rfl
theorem kc_M_grow : (.code y_M_grow b_M_grow 4 (some .int) : Cond) ∈ TBL := tb_mem 312 rfl rfl
theorem km_M_62 : (.methodLink "SliceHeapModel" 62 y_M_hasObject : Cond) ∈ TBL := tb_mem 313 rfl rfl
theorem ki_M_hasObject : (.instanceMethod y_M_hasObject : Cond) ∈ TBL := tb_mem 315 rfl rfl
theorem kc_M_hasObject : (.code y_M_hasObject b_M_hasObject 2 (some .boolean) : Cond) ∈ TBL := tb_mem 316 rfl rfl
theorem km_L_35 : (.methodLink "SliceHeapLaw" 35 y_M_shrink : Cond) ∈ TBL := tb_mem 317 rfl rfl
theorem ki_M_shrink : (.instanceMethod y_M_shrink : Cond) ∈ TBL := tb_mem 318 rfl rfl
theorem ks_M_shrink : (.selects "SliceHeapModel" y_M_shrink y_M_shrink : Cond) ∈ TBL := tb_mem 319 rfl rfl
theorem kc_M_shrink : (.code y_M_shrink b_M_shrink 3 (some .int) : Cond) ∈ TBL := tb_mem 320 rfl rfl
theorem km_M_65 : (.methodLink "SliceHeapModel" 65 y_M_empty : Cond) ∈ TBL := tb_mem 321 rfl rfl
theorem ki_M_empty : (.instanceMethod y_M_empty : Cond) ∈ TBL := tb_mem 323 rfl rfl
theorem kc_M_empty : (.code y_M_empty b_M_empty 2 none : Cond) ∈ TBL := tb_mem 324 rfl rfl
theorem km_L_40 : (.methodLink "SliceHeapLaw" 40 y_M_number : Cond) ∈ TBL := tb_mem 325 rfl rfl
theorem ki_M_number : (.instanceMethod y_M_number : Cond) ∈ TBL := tb_mem 326 rfl rfl
theorem ks_M_number : (.selects "SliceHeapModel" y_M_number y_M_number : Cond) ∈ TBL := tb_mem 327 rfl rfl
theorem kc_M_number : (.code y_M_number b_M_number 3 (some .boolean) : Cond) ∈ TBL := tb_mem 328 rfl rfl
theorem km_L_44 : (.methodLink "SliceHeapLaw" 44 y_M_copy : Cond) ∈ TBL := tb_mem 329 rfl rfl
theorem ki_M_copy : (.instanceMethod y_M_copy : Cond) ∈ TBL := tb_mem 330 rfl rfl
theorem ks_M_copy : (.selects "SliceHeapModel" y_M_copy y_M_copy : Cond) ∈ TBL := tb_mem 331 rfl rfl
theorem kc_M_copy : (.code y_M_copy b_M_copy 3 (some .boolean) : Cond) ∈ TBL := tb_mem 332 rfl rfl
theorem km_L_49 : (.methodLink "SliceHeapLaw" 49 y_M_get : Cond) ∈ TBL := tb_mem 333 rfl rfl
theorem ki_M_get : (.instanceMethod y_M_get : Cond) ∈ TBL := tb_mem 334 rfl rfl
theorem ks_M_get : (.selects "SliceHeapModel" y_M_get y_M_get : Cond) ∈ TBL := tb_mem 335 rfl rfl
theorem kc_M_get : (.code y_M_get b_M_get 4 (some .boolean) : Cond) ∈ TBL := tb_mem 336 rfl rfl
theorem km_M_69 : (.methodLink "SliceHeapModel" 69 y_M_hasValue : Cond) ∈ TBL := tb_mem 337 rfl rfl
theorem ki_M_hasValue : (.instanceMethod y_M_hasValue : Cond) ∈ TBL := tb_mem 339 rfl rfl
theorem kc_M_hasValue : (.code y_M_hasValue b_M_hasValue 3 (some .boolean) : Cond) ∈ TBL := tb_mem 340 rfl rfl
theorem km_L_53 : (.methodLink "SliceHeapLaw" 53 y_M_set : Cond) ∈ TBL := tb_mem 341 rfl rfl
theorem ki_M_set : (.instanceMethod y_M_set : Cond) ∈ TBL := tb_mem 342 rfl rfl
theorem ks_M_set : (.selects "SliceHeapModel" y_M_set y_M_set : Cond) ∈ TBL := tb_mem 343 rfl rfl
theorem kc_M_set : (.code y_M_set b_M_set 4 (some .boolean) : Cond) ∈ TBL := tb_mem 344 rfl rfl
theorem km_L_57 : (.methodLink "SliceHeapLaw" 57 y_M_push : Cond) ∈ TBL := tb_mem 345 rfl rfl
theorem ki_M_push : (.instanceMethod y_M_push : Cond) ∈ TBL := tb_mem 346 rfl rfl
theorem ks_M_push : (.selects "SliceHeapModel" y_M_push y_M_push : Cond) ∈ TBL := tb_mem 347 rfl rfl
theorem kc_M_push : (.code y_M_push b_M_push 2 (some .int) : Cond) ∈ TBL := tb_mem 348 rfl rfl
theorem km_L_61 : (.methodLink "SliceHeapLaw" 61 y_M_pop : Cond) ∈ TBL := tb_mem 349 rfl rfl
theorem ki_M_pop : (.instanceMethod y_M_pop : Cond) ∈ TBL := tb_mem 350 rfl rfl
theorem ks_M_pop : (.selects "SliceHeapModel" y_M_pop y_M_pop : Cond) ∈ TBL := tb_mem 351 rfl rfl
theorem kc_M_pop : (.code y_M_pop b_M_pop 2 (some .int) : Cond) ∈ TBL := tb_mem 352 rfl rfl
theorem km_L_65 : (.methodLink "SliceHeapLaw" 65 y_M_look : Cond) ∈ TBL := tb_mem 353 rfl rfl
theorem ki_M_look : (.instanceMethod y_M_look : Cond) ∈ TBL := tb_mem 354 rfl rfl
theorem ks_M_look : (.selects "SliceHeapModel" y_M_look y_M_look : Cond) ∈ TBL := tb_mem 355 rfl rfl
theorem kc_M_look : (.code y_M_look b_M_look 2 (some .int) : Cond) ∈ TBL := tb_mem 356 rfl rfl
theorem km_L_69 : (.methodLink "SliceHeapLaw" 69 y_M_numberIn : Cond) ∈ TBL := tb_mem 357 rfl rfl
theorem ki_M_numberIn : (.instanceMethod y_M_numberIn : Cond) ∈ TBL := tb_mem 358 rfl rfl
theorem ks_M_numberIn : (.selects "SliceHeapModel" y_M_numberIn y_M_numberIn : Cond) ∈ TBL := tb_mem 359 rfl rfl
theorem kc_M_numberIn : (.code y_M_numberIn b_M_numberIn 2 (some .int) : Cond) ∈ TBL := tb_mem 360 rfl rfl
theorem km_L_73 : (.methodLink "SliceHeapLaw" 73 y_M_same : Cond) ∈ TBL := tb_mem 361 rfl rfl
theorem ki_M_same : (.instanceMethod y_M_same : Cond) ∈ TBL := tb_mem 362 rfl rfl
theorem ks_M_same : (.selects "SliceHeapModel" y_M_same y_M_same : Cond) ∈ TBL := tb_mem 363 rfl rfl
theorem kc_M_same : (.code y_M_same b_M_same 3 (some .int) : Cond) ∈ TBL := tb_mem 364 rfl rfl
theorem km_L_77 : (.methodLink "SliceHeapLaw" 77 y_M_count : Cond) ∈ TBL := tb_mem 365 rfl rfl
theorem ki_M_count : (.instanceMethod y_M_count : Cond) ∈ TBL := tb_mem 366 rfl rfl
theorem ks_M_count : (.selects "SliceHeapModel" y_M_count y_M_count : Cond) ∈ TBL := tb_mem 367 rfl rfl
theorem kc_M_count : (.code y_M_count b_M_count 5 (some .int) : Cond) ∈ TBL := tb_mem 368 rfl rfl
-- classes: their fields in order (declaring class, name, descriptor, final), their types
def F_R : u_T := fun k => match k with
  | 0 => ("SliceHeap$Roots", "sorts", "[B", true)
  | 1 => ("SliceHeap$Roots", "values", "[I", true)
  | _ => ("SliceHeap$Roots", "depth", "I", false)
def t_R : Nat → FieldType := fun k => match k with
  | 0 => .array .byte
  | 1 => .array .int
  | _ => .int
theorem n_R : ∀ a, a < 3 → ∀ b, b < 3 → a ≠ b → (F_R a).2.1 ≠ (F_R b).2.1 := by decide +kernel
theorem t_R_ok : ∀ k, k < 3 → parseFieldDescriptor (F_R k).2.2.1 = some (t_R k) := by decide +kernel
theorem iu_R_0 : u_lay "SliceHeap$Roots" F_R 0 ∈ TBL := tb_mem 40 (by decide +kernel) (by decide +kernel)
theorem iu_R_1 : u_lay "SliceHeap$Roots" F_R 1 ∈ TBL := tb_mem 42 (by decide +kernel) (by decide +kernel)
theorem iu_R_2 : u_lay "SliceHeap$Roots" F_R 2 ∈ TBL := tb_mem 44 (by decide +kernel) (by decide +kernel)
theorem in_R : ∀ w ∈ u_ws "SliceHeap$Roots" F_R 3, w ∈ TBL := by
  intro w hw
  obtain ⟨k, hk, rfl⟩ := List.mem_map.mp hw
  have hk := List.mem_range.mp hk
  match k, hk with
  | 0, _ => exact iu_R_0
  | 1, _ => exact iu_R_1
  | 2, _ => exact iu_R_2
  | k + 3, hk => exact absurd hk (by omega)
def F_H : u_T := fun k => match k with
  | 0 => ("SliceHeap$Heap", "colours", "[B", true)
  | 1 => ("SliceHeap$Heap", "sizes", "[B", true)
  | 2 => ("SliceHeap$Heap", "sorts", "[B", true)
  | 3 => ("SliceHeap$Heap", "values", "[I", true)
  | 4 => ("SliceHeap$Heap", "free", "[I", true)
  | 5 => ("SliceHeap$Heap", "grey", "[I", true)
  | 6 => ("SliceHeap$Heap", "roots", "LSliceHeap$Roots;", true)
  | 7 => ("SliceHeap$Heap", "most", "I", true)
  | 8 => ("SliceHeap$Heap", "freeCount", "I", false)
  | 9 => ("SliceHeap$Heap", "greys", "I", false)
  | 10 => ("SliceHeap$Heap", "used", "I", false)
  | 11 => ("SliceHeap$Heap", "objects", "I", false)
  | 12 => ("SliceHeap$Heap", "white", "I", false)
  | 13 => ("SliceHeap$Heap", "phase", "I", false)
  | 14 => ("SliceHeap$Heap", "swept", "I", false)
  | _ => ("SliceHeap$Heap", "made", "I", false)
def t_H : Nat → FieldType := fun k => match k with
  | 0 => .array .byte
  | 1 => .array .byte
  | 2 => .array .byte
  | 3 => .array .int
  | 4 => .array .int
  | 5 => .array .int
  | 6 => .object "SliceHeap$Roots"
  | 7 => .int
  | 8 => .int
  | 9 => .int
  | 10 => .int
  | 11 => .int
  | 12 => .int
  | 13 => .int
  | 14 => .int
  | _ => .int
theorem n_H : ∀ a, a < 16 → ∀ b, b < 16 → a ≠ b → (F_H a).2.1 ≠ (F_H b).2.1 := by decide +kernel
theorem t_H_ok : ∀ k, k < 16 → parseFieldDescriptor (F_H k).2.2.1 = some (t_H k) := by decide +kernel
theorem iu_H_0 : u_lay "SliceHeap$Heap" F_H 0 ∈ TBL := tb_mem 76 (by decide +kernel) (by decide +kernel)
theorem iu_H_1 : u_lay "SliceHeap$Heap" F_H 1 ∈ TBL := tb_mem 78 (by decide +kernel) (by decide +kernel)
theorem iu_H_2 : u_lay "SliceHeap$Heap" F_H 2 ∈ TBL := tb_mem 80 (by decide +kernel) (by decide +kernel)
theorem iu_H_3 : u_lay "SliceHeap$Heap" F_H 3 ∈ TBL := tb_mem 82 (by decide +kernel) (by decide +kernel)
theorem iu_H_4 : u_lay "SliceHeap$Heap" F_H 4 ∈ TBL := tb_mem 84 (by decide +kernel) (by decide +kernel)
theorem iu_H_5 : u_lay "SliceHeap$Heap" F_H 5 ∈ TBL := tb_mem 86 (by decide +kernel) (by decide +kernel)
theorem iu_H_6 : u_lay "SliceHeap$Heap" F_H 6 ∈ TBL := tb_mem 88 (by decide +kernel) (by decide +kernel)
theorem iu_H_7 : u_lay "SliceHeap$Heap" F_H 7 ∈ TBL := tb_mem 90 (by decide +kernel) (by decide +kernel)
theorem iu_H_8 : u_lay "SliceHeap$Heap" F_H 8 ∈ TBL := tb_mem 92 (by decide +kernel) (by decide +kernel)
theorem iu_H_9 : u_lay "SliceHeap$Heap" F_H 9 ∈ TBL := tb_mem 94 (by decide +kernel) (by decide +kernel)
theorem iu_H_10 : u_lay "SliceHeap$Heap" F_H 10 ∈ TBL := tb_mem 96 (by decide +kernel) (by decide +kernel)
theorem iu_H_11 : u_lay "SliceHeap$Heap" F_H 11 ∈ TBL := tb_mem 98 (by decide +kernel) (by decide +kernel)
theorem iu_H_12 : u_lay "SliceHeap$Heap" F_H 12 ∈ TBL := tb_mem 100 (by decide +kernel) (by decide +kernel)
theorem iu_H_13 : u_lay "SliceHeap$Heap" F_H 13 ∈ TBL := tb_mem 102 (by decide +kernel) (by decide +kernel)
theorem iu_H_14 : u_lay "SliceHeap$Heap" F_H 14 ∈ TBL := tb_mem 104 (by decide +kernel) (by decide +kernel)
theorem iu_H_15 : u_lay "SliceHeap$Heap" F_H 15 ∈ TBL := tb_mem 106 (by decide +kernel) (by decide +kernel)
theorem in_H : ∀ w ∈ u_ws "SliceHeap$Heap" F_H 16, w ∈ TBL := by
  intro w hw
  obtain ⟨k, hk, rfl⟩ := List.mem_map.mp hw
  have hk := List.mem_range.mp hk
  match k, hk with
  | 0, _ => exact iu_H_0
  | 1, _ => exact iu_H_1
  | 2, _ => exact iu_H_2
  | 3, _ => exact iu_H_3
  | 4, _ => exact iu_H_4
  | 5, _ => exact iu_H_5
  | 6, _ => exact iu_H_6
  | 7, _ => exact iu_H_7
  | 8, _ => exact iu_H_8
  | 9, _ => exact iu_H_9
  | 10, _ => exact iu_H_10
  | 11, _ => exact iu_H_11
  | 12, _ => exact iu_H_12
  | 13, _ => exact iu_H_13
  | 14, _ => exact iu_H_14
  | 15, _ => exact iu_H_15
  | k + 16, hk => exact absurd hk (by omega)
def F_X : u_T := fun k => match k with
  | 0 => ("SliceHeap", "roots", "LSliceHeap$Roots;", true)
  | 1 => ("SliceHeap", "heap", "LSliceHeap$Heap;", true)
  | 2 => ("SliceHeap", "made", "I", false)
  | _ => ("SliceHeap", "full", "I", false)
def t_X : Nat → FieldType := fun k => match k with
  | 0 => .object "SliceHeap$Roots"
  | 1 => .object "SliceHeap$Heap"
  | 2 => .int
  | _ => .int
theorem n_X : ∀ a, a < 4 → ∀ b, b < 4 → a ≠ b → (F_X a).2.1 ≠ (F_X b).2.1 := by decide +kernel
theorem t_X_ok : ∀ k, k < 4 → parseFieldDescriptor (F_X k).2.2.1 = some (t_X k) := by decide +kernel
theorem iu_X_0 : u_lay "SliceHeap" F_X 0 ∈ TBL := tb_mem 113 (by decide +kernel) (by decide +kernel)
theorem iu_X_1 : u_lay "SliceHeap" F_X 1 ∈ TBL := tb_mem 115 (by decide +kernel) (by decide +kernel)
theorem iu_X_2 : u_lay "SliceHeap" F_X 2 ∈ TBL := tb_mem 117 (by decide +kernel) (by decide +kernel)
theorem iu_X_3 : u_lay "SliceHeap" F_X 3 ∈ TBL := tb_mem 119 (by decide +kernel) (by decide +kernel)
theorem in_X : ∀ w ∈ u_ws "SliceHeap" F_X 4, w ∈ TBL := by
  intro w hw
  obtain ⟨k, hk, rfl⟩ := List.mem_map.mp hw
  have hk := List.mem_range.mp hk
  match k, hk with
  | 0, _ => exact iu_X_0
  | 1, _ => exact iu_X_1
  | 2, _ => exact iu_X_2
  | 3, _ => exact iu_X_3
  | k + 4, hk => exact absurd hk (by omega)
def F_M : u_T := fun k => match k with
  | 0 => ("SliceHeapModel", "cells", "I", true)
  | 1 => ("SliceHeapModel", "kinds", "[B", true)
  | 2 => ("SliceHeapModel", "values", "[I", true)
  | 3 => ("SliceHeapModel", "stacked", "I", false)
  | 4 => ("SliceHeapModel", "made", "I", false)
  | 5 => ("SliceHeapModel", "sizes", "[I", true)
  | 6 => ("SliceHeapModel", "reached", "[Z", true)
  | _ => ("SliceHeapModel", "full", "I", false)
def t_M : Nat → FieldType := fun k => match k with
  | 0 => .int
  | 1 => .array .byte
  | 2 => .array .int
  | 3 => .int
  | 4 => .int
  | 5 => .array .int
  | 6 => .array .boolean
  | _ => .int
theorem n_M : ∀ a, a < 8 → ∀ b, b < 8 → a ≠ b → (F_M a).2.1 ≠ (F_M b).2.1 := by decide +kernel
theorem t_M_ok : ∀ k, k < 8 → parseFieldDescriptor (F_M k).2.2.1 = some (t_M k) := by decide +kernel
theorem iu_M_0 : u_lay "SliceHeapModel" F_M 0 ∈ TBL := tb_mem 261 (by decide +kernel) (by decide +kernel)
theorem iu_M_1 : u_lay "SliceHeapModel" F_M 1 ∈ TBL := tb_mem 263 (by decide +kernel) (by decide +kernel)
theorem iu_M_2 : u_lay "SliceHeapModel" F_M 2 ∈ TBL := tb_mem 265 (by decide +kernel) (by decide +kernel)
theorem iu_M_3 : u_lay "SliceHeapModel" F_M 3 ∈ TBL := tb_mem 267 (by decide +kernel) (by decide +kernel)
theorem iu_M_4 : u_lay "SliceHeapModel" F_M 4 ∈ TBL := tb_mem 269 (by decide +kernel) (by decide +kernel)
theorem iu_M_5 : u_lay "SliceHeapModel" F_M 5 ∈ TBL := tb_mem 271 (by decide +kernel) (by decide +kernel)
theorem iu_M_6 : u_lay "SliceHeapModel" F_M 6 ∈ TBL := tb_mem 273 (by decide +kernel) (by decide +kernel)
theorem iu_M_7 : u_lay "SliceHeapModel" F_M 7 ∈ TBL := tb_mem 275 (by decide +kernel) (by decide +kernel)
theorem in_M : ∀ w ∈ u_ws "SliceHeapModel" F_M 8, w ∈ TBL := by
  intro w hw
  obtain ⟨k, hk, rfl⟩ := List.mem_map.mp hw
  have hk := List.mem_range.mp hk
  match k, hk with
  | 0, _ => exact iu_M_0
  | 1, _ => exact iu_M_1
  | 2, _ => exact iu_M_2
  | 3, _ => exact iu_M_3
  | 4, _ => exact iu_M_4
  | 5, _ => exact iu_M_5
  | 6, _ => exact iu_M_6
  | 7, _ => exact iu_M_7
  | k + 8, hk => exact absurd hk (by omega)
abbrev classes : List vw_C := [("SliceHeap$Roots", F_R, 3), ("SliceHeap$Heap", F_H, 16), ("SliceHeap", F_X, 4), ("SliceHeapModel", F_M, 8)]
-- the words of nest mates' fields, that the tables give of the start alone
def nw_L : List (Nat × String × String × String) := [(37, "SliceHeap$Roots", "sorts", "[B"), (42, "SliceHeap$Roots", "values", "[I"), (83, "SliceHeap$Roots", "depth", "I"), (73, "SliceHeap$Heap", "sizes", "[B"), (33, "SliceHeap$Heap", "sorts", "[B"), (38, "SliceHeap$Heap", "values", "[I"), (76, "SliceHeap$Heap", "used", "I"), (89, "SliceHeap$Heap", "objects", "I")]
end
section
theorem d_H_init_0 : decode b_H_init 0 = .ok (.aload_n 0, 1) := by decide +kernel
theorem d_H_init_1 : decode b_H_init 1 = .ok (.invokespecial 1, 3) := by decide +kernel
theorem d_H_init_4 : decode b_H_init 4 = .ok (.aload_n 0, 1) := by decide +kernel
theorem d_H_init_5 : decode b_H_init 5 = .ok (.sipush 1600, 3) := by decide +kernel
theorem d_H_init_8 : decode b_H_init 8 = .ok (.newarray .byte, 2) := by decide +kernel
theorem d_H_init_10 : decode b_H_init 10 = .ok (.putfield 9, 3) := by decide +kernel
theorem d_H_init_13 : decode b_H_init 13 = .ok (.aload_n 0, 1) := by decide +kernel
theorem d_H_init_14 : decode b_H_init 14 = .ok (.sipush 1600, 3) := by decide +kernel
theorem d_H_init_17 : decode b_H_init 17 = .ok (.newarray .byte, 2) := by decide +kernel
theorem d_H_init_19 : decode b_H_init 19 = .ok (.putfield 13, 3) := by decide +kernel
theorem d_H_init_22 : decode b_H_init 22 = .ok (.aload_n 0, 1) := by decide +kernel
theorem d_H_init_23 : decode b_H_init 23 = .ok (.sipush 32000, 3) := by decide +kernel
theorem d_H_init_26 : decode b_H_init 26 = .ok (.newarray .byte, 2) := by decide +kernel
theorem d_H_init_28 : decode b_H_init 28 = .ok (.putfield 16, 3) := by decide +kernel
theorem d_H_init_31 : decode b_H_init 31 = .ok (.aload_n 0, 1) := by decide +kernel
theorem d_H_init_32 : decode b_H_init 32 = .ok (.sipush 32000, 3) := by decide +kernel
theorem d_H_init_35 : decode b_H_init 35 = .ok (.newarray .int, 2) := by decide +kernel
theorem d_H_init_37 : decode b_H_init 37 = .ok (.putfield 19, 3) := by decide +kernel
theorem d_H_init_40 : decode b_H_init 40 = .ok (.aload_n 0, 1) := by decide +kernel
theorem d_H_init_41 : decode b_H_init 41 = .ok (.sipush 1600, 3) := by decide +kernel
theorem d_H_init_44 : decode b_H_init 44 = .ok (.newarray .int, 2) := by decide +kernel
theorem d_H_init_46 : decode b_H_init 46 = .ok (.putfield 23, 3) := by decide +kernel
theorem d_H_init_49 : decode b_H_init 49 = .ok (.aload_n 0, 1) := by decide +kernel
theorem d_H_init_50 : decode b_H_init 50 = .ok (.sipush 1600, 3) := by decide +kernel
theorem d_H_init_53 : decode b_H_init 53 = .ok (.newarray .int, 2) := by decide +kernel
theorem d_H_init_55 : decode b_H_init 55 = .ok (.putfield 26, 3) := by decide +kernel
theorem d_H_init_58 : decode b_H_init 58 = .ok (.aload_n 0, 1) := by decide +kernel
theorem d_H_init_59 : decode b_H_init 59 = .ok (.iconst 1, 1) := by decide +kernel
theorem d_H_init_60 : decode b_H_init 60 = .ok (.putfield 29, 3) := by decide +kernel
theorem d_H_init_63 : decode b_H_init 63 = .ok (.aload_n 0, 1) := by decide +kernel
theorem d_H_init_64 : decode b_H_init 64 = .ok (.aload_n 1, 1) := by decide +kernel
theorem d_H_init_65 : decode b_H_init 65 = .ok (.putfield 33, 3) := by decide +kernel
theorem d_H_init_68 : decode b_H_init 68 = .ok (.aload_n 0, 1) := by decide +kernel
theorem d_H_init_69 : decode b_H_init 69 = .ok (.iload_n 2, 1) := by decide +kernel
theorem d_H_init_70 : decode b_H_init 70 = .ok (.putfield 37, 3) := by decide +kernel
theorem d_H_init_73 : decode b_H_init 73 = .ok (.iconst 0, 1) := by decide +kernel
theorem d_H_init_74 : decode b_H_init 74 = .ok (.istore_n 3, 1) := by decide +kernel
theorem d_H_init_75 : decode b_H_init 75 = .ok (.iload_n 3, 1) := by decide +kernel
theorem d_H_init_76 : decode b_H_init 76 = .ok (.sipush 1600, 3) := by decide +kernel
theorem d_H_init_79 : decode b_H_init 79 = .ok (.if_icmp .ge 20, 3) := by decide +kernel
theorem d_H_init_82 : decode b_H_init 82 = .ok (.aload_n 0, 1) := by decide +kernel
theorem d_H_init_83 : decode b_H_init 83 = .ok (.getfield 23, 3) := by decide +kernel
theorem d_H_init_86 : decode b_H_init 86 = .ok (.iload_n 3, 1) := by decide +kernel
theorem d_H_init_87 : decode b_H_init 87 = .ok (.sipush 1599, 3) := by decide +kernel
theorem d_H_init_90 : decode b_H_init 90 = .ok (.iload_n 3, 1) := by decide +kernel
theorem d_H_init_91 : decode b_H_init 91 = .ok (.isub, 1) := by decide +kernel
theorem d_H_init_92 : decode b_H_init 92 = .ok (.iastore, 1) := by decide +kernel
theorem d_H_init_93 : decode b_H_init 93 = .ok (.iinc 3 1, 3) := by decide +kernel
theorem d_H_init_96 : decode b_H_init 96 = .ok (.goto (-21), 3) := by decide +kernel
theorem d_H_init_99 : decode b_H_init 99 = .ok (.aload_n 0, 1) := by decide +kernel
theorem d_H_init_100 : decode b_H_init 100 = .ok (.sipush 1600, 3) := by decide +kernel
theorem d_H_init_103 : decode b_H_init 103 = .ok (.putfield 40, 3) := by decide +kernel
theorem d_H_init_106 : decode b_H_init 106 = .ok (.return_, 1) := by decide +kernel
theorem d_H_has_0 : decode b_H_has 0 = .ok (.aload_n 0, 1) := by decide +kernel
theorem d_H_has_1 : decode b_H_has 1 = .ok (.getfield 43, 3) := by decide +kernel
theorem d_H_has_4 : decode b_H_has 4 = .ok (.iload_n 1, 1) := by decide +kernel
theorem d_H_has_5 : decode b_H_has 5 = .ok (.iadd, 1) := by decide +kernel
theorem d_H_has_6 : decode b_H_has 6 = .ok (.aload_n 0, 1) := by decide +kernel
theorem d_H_has_7 : decode b_H_has 7 = .ok (.getfield 37, 3) := by decide +kernel
theorem d_H_has_10 : decode b_H_has 10 = .ok (.if_icmp .le 7, 3) := by decide +kernel
theorem d_H_has_13 : decode b_H_has 13 = .ok (.aload_n 0, 1) := by decide +kernel
theorem d_H_has_14 : decode b_H_has 14 = .ok (.invokevirtual 46, 3) := by decide +kernel
theorem d_H_has_17 : decode b_H_has 17 = .ok (.aload_n 0, 1) := by decide +kernel
theorem d_H_has_18 : decode b_H_has 18 = .ok (.getfield 43, 3) := by decide +kernel
theorem d_H_has_21 : decode b_H_has 21 = .ok (.iload_n 1, 1) := by decide +kernel
theorem d_H_has_22 : decode b_H_has 22 = .ok (.iadd, 1) := by decide +kernel
theorem d_H_has_23 : decode b_H_has 23 = .ok (.aload_n 0, 1) := by decide +kernel
theorem d_H_has_24 : decode b_H_has 24 = .ok (.getfield 37, 3) := by decide +kernel
theorem d_H_has_27 : decode b_H_has 27 = .ok (.if_icmp .gt 7, 3) := by decide +kernel
theorem d_H_has_30 : decode b_H_has 30 = .ok (.iconst 1, 1) := by decide +kernel
theorem d_H_has_31 : decode b_H_has 31 = .ok (.goto 4, 3) := by decide +kernel
theorem d_H_has_34 : decode b_H_has 34 = .ok (.iconst 0, 1) := by decide +kernel
theorem d_H_has_35 : decode b_H_has 35 = .ok (.ireturn, 1) := by decide +kernel
theorem d_H_make_0 : decode b_H_make 0 = .ok (.aload_n 0, 1) := by decide +kernel
theorem d_H_make_1 : decode b_H_make 1 = .ok (.dup, 1) := by decide +kernel
theorem d_H_make_2 : decode b_H_make 2 = .ok (.getfield 40, 3) := by decide +kernel
theorem d_H_make_5 : decode b_H_make 5 = .ok (.iconst 1, 1) := by decide +kernel
theorem d_H_make_6 : decode b_H_make 6 = .ok (.isub, 1) := by decide +kernel
theorem d_H_make_7 : decode b_H_make 7 = .ok (.putfield 40, 3) := by decide +kernel
theorem d_H_make_10 : decode b_H_make 10 = .ok (.aload_n 0, 1) := by decide +kernel
theorem d_H_make_11 : decode b_H_make 11 = .ok (.getfield 23, 3) := by decide +kernel
theorem d_H_make_14 : decode b_H_make 14 = .ok (.aload_n 0, 1) := by decide +kernel
theorem d_H_make_15 : decode b_H_make 15 = .ok (.getfield 40, 3) := by decide +kernel
theorem d_H_make_18 : decode b_H_make 18 = .ok (.iaload, 1) := by decide +kernel
theorem d_H_make_19 : decode b_H_make 19 = .ok (.istore_n 2, 1) := by decide +kernel
theorem d_H_make_20 : decode b_H_make 20 = .ok (.aload_n 0, 1) := by decide +kernel
theorem d_H_make_21 : decode b_H_make 21 = .ok (.getfield 13, 3) := by decide +kernel
theorem d_H_make_24 : decode b_H_make 24 = .ok (.iload_n 2, 1) := by decide +kernel
theorem d_H_make_25 : decode b_H_make 25 = .ok (.iload_n 1, 1) := by decide +kernel
theorem d_H_make_26 : decode b_H_make 26 = .ok (.i2b, 1) := by decide +kernel
theorem d_H_make_27 : decode b_H_make 27 = .ok (.bastore, 1) := by decide +kernel
theorem d_H_make_28 : decode b_H_make 28 = .ok (.aload_n 0, 1) := by decide +kernel
theorem d_H_make_29 : decode b_H_make 29 = .ok (.getfield 9, 3) := by decide +kernel
theorem d_H_make_32 : decode b_H_make 32 = .ok (.iload_n 2, 1) := by decide +kernel
theorem d_H_make_33 : decode b_H_make 33 = .ok (.aload_n 0, 1) := by decide +kernel
theorem d_H_make_34 : decode b_H_make 34 = .ok (.getfield 49, 3) := by decide +kernel
theorem d_H_make_37 : decode b_H_make 37 = .ok (.iconst 1, 1) := by decide +kernel
theorem d_H_make_38 : decode b_H_make 38 = .ok (.if_icmp .ne 7, 3) := by decide +kernel
theorem d_H_make_41 : decode b_H_make 41 = .ok (.iconst 4, 1) := by decide +kernel
theorem d_H_make_42 : decode b_H_make 42 = .ok (.goto 7, 3) := by decide +kernel
theorem d_H_make_45 : decode b_H_make 45 = .ok (.aload_n 0, 1) := by decide +kernel
theorem d_H_make_46 : decode b_H_make 46 = .ok (.getfield 29, 3) := by decide +kernel
theorem d_H_make_49 : decode b_H_make 49 = .ok (.i2b, 1) := by decide +kernel
theorem d_H_make_50 : decode b_H_make 50 = .ok (.bastore, 1) := by decide +kernel
theorem d_H_make_51 : decode b_H_make 51 = .ok (.aload_n 0, 1) := by decide +kernel
theorem d_H_make_52 : decode b_H_make 52 = .ok (.dup, 1) := by decide +kernel
theorem d_H_make_53 : decode b_H_make 53 = .ok (.getfield 43, 3) := by decide +kernel
theorem d_H_make_56 : decode b_H_make 56 = .ok (.iconst 2, 1) := by decide +kernel
theorem d_H_make_57 : decode b_H_make 57 = .ok (.iload_n 1, 1) := by decide +kernel
theorem d_H_make_58 : decode b_H_make 58 = .ok (.iadd, 1) := by decide +kernel
theorem d_H_make_59 : decode b_H_make 59 = .ok (.iadd, 1) := by decide +kernel
theorem d_H_make_60 : decode b_H_make 60 = .ok (.putfield 43, 3) := by decide +kernel
theorem d_H_make_63 : decode b_H_make 63 = .ok (.aload_n 0, 1) := by decide +kernel
theorem d_H_make_64 : decode b_H_make 64 = .ok (.dup, 1) := by decide +kernel
theorem d_H_make_65 : decode b_H_make 65 = .ok (.getfield 52, 3) := by decide +kernel
theorem d_H_make_68 : decode b_H_make 68 = .ok (.iconst 1, 1) := by decide +kernel
theorem d_H_make_69 : decode b_H_make 69 = .ok (.iadd, 1) := by decide +kernel
theorem d_H_make_70 : decode b_H_make 70 = .ok (.putfield 52, 3) := by decide +kernel
theorem d_H_make_73 : decode b_H_make 73 = .ok (.iload_n 2, 1) := by decide +kernel
theorem d_H_make_74 : decode b_H_make 74 = .ok (.ireturn, 1) := by decide +kernel
theorem d_H_drop_0 : decode b_H_drop 0 = .ok (.aload_n 0, 1) := by decide +kernel
theorem d_H_drop_1 : decode b_H_drop 1 = .ok (.getfield 9, 3) := by decide +kernel
theorem d_H_drop_4 : decode b_H_drop 4 = .ok (.iload_n 1, 1) := by decide +kernel
theorem d_H_drop_5 : decode b_H_drop 5 = .ok (.iconst 0, 1) := by decide +kernel
theorem d_H_drop_6 : decode b_H_drop 6 = .ok (.bastore, 1) := by decide +kernel
theorem d_H_drop_7 : decode b_H_drop 7 = .ok (.aload_n 0, 1) := by decide +kernel
theorem d_H_drop_8 : decode b_H_drop 8 = .ok (.dup, 1) := by decide +kernel
theorem d_H_drop_9 : decode b_H_drop 9 = .ok (.getfield 43, 3) := by decide +kernel
theorem d_H_drop_12 : decode b_H_drop 12 = .ok (.iconst 2, 1) := by decide +kernel
theorem d_H_drop_13 : decode b_H_drop 13 = .ok (.aload_n 0, 1) := by decide +kernel
theorem d_H_drop_14 : decode b_H_drop 14 = .ok (.getfield 13, 3) := by decide +kernel
theorem d_H_drop_17 : decode b_H_drop 17 = .ok (.iload_n 1, 1) := by decide +kernel
theorem d_H_drop_18 : decode b_H_drop 18 = .ok (.baload, 1) := by decide +kernel
theorem d_H_drop_19 : decode b_H_drop 19 = .ok (.iadd, 1) := by decide +kernel
theorem d_H_drop_20 : decode b_H_drop 20 = .ok (.isub, 1) := by decide +kernel
theorem d_H_drop_21 : decode b_H_drop 21 = .ok (.putfield 43, 3) := by decide +kernel
theorem d_H_drop_24 : decode b_H_drop 24 = .ok (.aload_n 0, 1) := by decide +kernel
theorem d_H_drop_25 : decode b_H_drop 25 = .ok (.dup, 1) := by decide +kernel
theorem d_H_drop_26 : decode b_H_drop 26 = .ok (.getfield 52, 3) := by decide +kernel
theorem d_H_drop_29 : decode b_H_drop 29 = .ok (.iconst 1, 1) := by decide +kernel
theorem d_H_drop_30 : decode b_H_drop 30 = .ok (.isub, 1) := by decide +kernel
theorem d_H_drop_31 : decode b_H_drop 31 = .ok (.putfield 52, 3) := by decide +kernel
theorem d_H_drop_34 : decode b_H_drop 34 = .ok (.aload_n 0, 1) := by decide +kernel
theorem d_H_drop_35 : decode b_H_drop 35 = .ok (.getfield 23, 3) := by decide +kernel
theorem d_H_drop_38 : decode b_H_drop 38 = .ok (.aload_n 0, 1) := by decide +kernel
theorem d_H_drop_39 : decode b_H_drop 39 = .ok (.getfield 40, 3) := by decide +kernel
theorem d_H_drop_42 : decode b_H_drop 42 = .ok (.iload_n 1, 1) := by decide +kernel
theorem d_H_drop_43 : decode b_H_drop 43 = .ok (.iastore, 1) := by decide +kernel
theorem d_H_drop_44 : decode b_H_drop 44 = .ok (.aload_n 0, 1) := by decide +kernel
theorem d_H_drop_45 : decode b_H_drop 45 = .ok (.dup, 1) := by decide +kernel
theorem d_H_drop_46 : decode b_H_drop 46 = .ok (.getfield 40, 3) := by decide +kernel
theorem d_H_drop_49 : decode b_H_drop 49 = .ok (.iconst 1, 1) := by decide +kernel
theorem d_H_drop_50 : decode b_H_drop 50 = .ok (.iadd, 1) := by decide +kernel
theorem d_H_drop_51 : decode b_H_drop 51 = .ok (.putfield 40, 3) := by decide +kernel
theorem d_H_drop_54 : decode b_H_drop 54 = .ok (.return_, 1) := by decide +kernel
theorem d_H_mark_0 : decode b_H_mark 0 = .ok (.iload_n 1, 1) := by decide +kernel
theorem d_H_mark_1 : decode b_H_mark 1 = .ok (.iconst 2, 1) := by decide +kernel
theorem d_H_mark_2 : decode b_H_mark 2 = .ok (.if_icmp .ne 23, 3) := by decide +kernel
theorem d_H_mark_5 : decode b_H_mark 5 = .ok (.aload_n 0, 1) := by decide +kernel
theorem d_H_mark_6 : decode b_H_mark 6 = .ok (.getfield 9, 3) := by decide +kernel
theorem d_H_mark_9 : decode b_H_mark 9 = .ok (.iload_n 2, 1) := by decide +kernel
theorem d_H_mark_10 : decode b_H_mark 10 = .ok (.baload, 1) := by decide +kernel
theorem d_H_mark_11 : decode b_H_mark 11 = .ok (.iconst 1, 1) := by decide +kernel
theorem d_H_mark_12 : decode b_H_mark 12 = .ok (.if_icmp .eq 14, 3) := by decide +kernel
theorem d_H_mark_15 : decode b_H_mark 15 = .ok (.aload_n 0, 1) := by decide +kernel
theorem d_H_mark_16 : decode b_H_mark 16 = .ok (.getfield 9, 3) := by decide +kernel
theorem d_H_mark_19 : decode b_H_mark 19 = .ok (.iload_n 2, 1) := by decide +kernel
theorem d_H_mark_20 : decode b_H_mark 20 = .ok (.baload, 1) := by decide +kernel
theorem d_H_mark_21 : decode b_H_mark 21 = .ok (.iconst 2, 1) := by decide +kernel
theorem d_H_mark_22 : decode b_H_mark 22 = .ok (.if_icmp .eq 4, 3) := by decide +kernel
theorem d_H_mark_25 : decode b_H_mark 25 = .ok (.return_, 1) := by decide +kernel
theorem d_H_mark_26 : decode b_H_mark 26 = .ok (.aload_n 0, 1) := by decide +kernel
theorem d_H_mark_27 : decode b_H_mark 27 = .ok (.getfield 9, 3) := by decide +kernel
theorem d_H_mark_30 : decode b_H_mark 30 = .ok (.iload_n 2, 1) := by decide +kernel
theorem d_H_mark_31 : decode b_H_mark 31 = .ok (.iconst 3, 1) := by decide +kernel
theorem d_H_mark_32 : decode b_H_mark 32 = .ok (.bastore, 1) := by decide +kernel
theorem d_H_mark_33 : decode b_H_mark 33 = .ok (.aload_n 0, 1) := by decide +kernel
theorem d_H_mark_34 : decode b_H_mark 34 = .ok (.getfield 26, 3) := by decide +kernel
theorem d_H_mark_37 : decode b_H_mark 37 = .ok (.aload_n 0, 1) := by decide +kernel
theorem d_H_mark_38 : decode b_H_mark 38 = .ok (.getfield 55, 3) := by decide +kernel
theorem d_H_mark_41 : decode b_H_mark 41 = .ok (.iload_n 2, 1) := by decide +kernel
theorem d_H_mark_42 : decode b_H_mark 42 = .ok (.iastore, 1) := by decide +kernel
theorem d_H_mark_43 : decode b_H_mark 43 = .ok (.aload_n 0, 1) := by decide +kernel
theorem d_H_mark_44 : decode b_H_mark 44 = .ok (.dup, 1) := by decide +kernel
theorem d_H_mark_45 : decode b_H_mark 45 = .ok (.getfield 55, 3) := by decide +kernel
theorem d_H_mark_48 : decode b_H_mark 48 = .ok (.iconst 1, 1) := by decide +kernel
theorem d_H_mark_49 : decode b_H_mark 49 = .ok (.iadd, 1) := by decide +kernel
theorem d_H_mark_50 : decode b_H_mark 50 = .ok (.putfield 55, 3) := by decide +kernel
theorem d_H_mark_53 : decode b_H_mark 53 = .ok (.return_, 1) := by decide +kernel
theorem d_H_blacken_0 : decode b_H_blacken 0 = .ok (.aload_n 0, 1) := by decide +kernel
theorem d_H_blacken_1 : decode b_H_blacken 1 = .ok (.dup, 1) := by decide +kernel
theorem d_H_blacken_2 : decode b_H_blacken 2 = .ok (.getfield 55, 3) := by decide +kernel
theorem d_H_blacken_5 : decode b_H_blacken 5 = .ok (.iconst 1, 1) := by decide +kernel
theorem d_H_blacken_6 : decode b_H_blacken 6 = .ok (.isub, 1) := by decide +kernel
theorem d_H_blacken_7 : decode b_H_blacken 7 = .ok (.putfield 55, 3) := by decide +kernel
theorem d_H_blacken_10 : decode b_H_blacken 10 = .ok (.aload_n 0, 1) := by decide +kernel
theorem d_H_blacken_11 : decode b_H_blacken 11 = .ok (.getfield 26, 3) := by decide +kernel
theorem d_H_blacken_14 : decode b_H_blacken 14 = .ok (.aload_n 0, 1) := by decide +kernel
theorem d_H_blacken_15 : decode b_H_blacken 15 = .ok (.getfield 55, 3) := by decide +kernel
theorem d_H_blacken_18 : decode b_H_blacken 18 = .ok (.iaload, 1) := by decide +kernel
theorem d_H_blacken_19 : decode b_H_blacken 19 = .ok (.istore_n 1, 1) := by decide +kernel
theorem d_H_blacken_20 : decode b_H_blacken 20 = .ok (.aload_n 0, 1) := by decide +kernel
theorem d_H_blacken_21 : decode b_H_blacken 21 = .ok (.getfield 9, 3) := by decide +kernel
theorem d_H_blacken_24 : decode b_H_blacken 24 = .ok (.iload_n 1, 1) := by decide +kernel
theorem d_H_blacken_25 : decode b_H_blacken 25 = .ok (.iconst 4, 1) := by decide +kernel
theorem d_H_blacken_26 : decode b_H_blacken 26 = .ok (.bastore, 1) := by decide +kernel
theorem d_H_blacken_27 : decode b_H_blacken 27 = .ok (.iconst 0, 1) := by decide +kernel
theorem d_H_blacken_28 : decode b_H_blacken 28 = .ok (.istore_n 2, 1) := by decide +kernel
theorem d_H_blacken_29 : decode b_H_blacken 29 = .ok (.iload_n 2, 1) := by decide +kernel
theorem d_H_blacken_30 : decode b_H_blacken 30 = .ok (.aload_n 0, 1) := by decide +kernel
theorem d_H_blacken_31 : decode b_H_blacken 31 = .ok (.getfield 13, 3) := by decide +kernel
theorem d_H_blacken_34 : decode b_H_blacken 34 = .ok (.iload_n 1, 1) := by decide +kernel
theorem d_H_blacken_35 : decode b_H_blacken 35 = .ok (.baload, 1) := by decide +kernel
theorem d_H_blacken_36 : decode b_H_blacken 36 = .ok (.if_icmp .ge 35, 3) := by decide +kernel
theorem d_H_blacken_39 : decode b_H_blacken 39 = .ok (.aload_n 0, 1) := by decide +kernel
theorem d_H_blacken_40 : decode b_H_blacken 40 = .ok (.aload_n 0, 1) := by decide +kernel
theorem d_H_blacken_41 : decode b_H_blacken 41 = .ok (.getfield 16, 3) := by decide +kernel
theorem d_H_blacken_44 : decode b_H_blacken 44 = .ok (.bipush 20, 2) := by decide +kernel
theorem d_H_blacken_46 : decode b_H_blacken 46 = .ok (.iload_n 1, 1) := by decide +kernel
theorem d_H_blacken_47 : decode b_H_blacken 47 = .ok (.imul, 1) := by decide +kernel
theorem d_H_blacken_48 : decode b_H_blacken 48 = .ok (.iload_n 2, 1) := by decide +kernel
theorem d_H_blacken_49 : decode b_H_blacken 49 = .ok (.iadd, 1) := by decide +kernel
theorem d_H_blacken_50 : decode b_H_blacken 50 = .ok (.baload, 1) := by decide +kernel
theorem d_H_blacken_51 : decode b_H_blacken 51 = .ok (.aload_n 0, 1) := by decide +kernel
theorem d_H_blacken_52 : decode b_H_blacken 52 = .ok (.getfield 19, 3) := by decide +kernel
theorem d_H_blacken_55 : decode b_H_blacken 55 = .ok (.bipush 20, 2) := by decide +kernel
theorem d_H_blacken_57 : decode b_H_blacken 57 = .ok (.iload_n 1, 1) := by decide +kernel
theorem d_H_blacken_58 : decode b_H_blacken 58 = .ok (.imul, 1) := by decide +kernel
theorem d_H_blacken_59 : decode b_H_blacken 59 = .ok (.iload_n 2, 1) := by decide +kernel
theorem d_H_blacken_60 : decode b_H_blacken 60 = .ok (.iadd, 1) := by decide +kernel
theorem d_H_blacken_61 : decode b_H_blacken 61 = .ok (.iaload, 1) := by decide +kernel
theorem d_H_blacken_62 : decode b_H_blacken 62 = .ok (.invokevirtual 58, 3) := by decide +kernel
theorem d_H_blacken_65 : decode b_H_blacken 65 = .ok (.iinc 2 1, 3) := by decide +kernel
theorem d_H_blacken_68 : decode b_H_blacken 68 = .ok (.goto (-39), 3) := by decide +kernel
theorem d_H_blacken_71 : decode b_H_blacken 71 = .ok (.return_, 1) := by decide +kernel
theorem d_H_touched_0 : decode b_H_touched 0 = .ok (.aload_n 0, 1) := by decide +kernel
theorem d_H_touched_1 : decode b_H_touched 1 = .ok (.getfield 49, 3) := by decide +kernel
theorem d_H_touched_4 : decode b_H_touched 4 = .ok (.iconst 1, 1) := by decide +kernel
theorem d_H_touched_5 : decode b_H_touched 5 = .ok (.if_icmp .ne 13, 3) := by decide +kernel
theorem d_H_touched_8 : decode b_H_touched 8 = .ok (.aload_n 0, 1) := by decide +kernel
theorem d_H_touched_9 : decode b_H_touched 9 = .ok (.getfield 9, 3) := by decide +kernel
theorem d_H_touched_12 : decode b_H_touched 12 = .ok (.iload_n 1, 1) := by decide +kernel
theorem d_H_touched_13 : decode b_H_touched 13 = .ok (.baload, 1) := by decide +kernel
theorem d_H_touched_14 : decode b_H_touched 14 = .ok (.iconst 4, 1) := by decide +kernel
theorem d_H_touched_15 : decode b_H_touched 15 = .ok (.if_icmp .eq 4, 3) := by decide +kernel
theorem d_H_touched_18 : decode b_H_touched 18 = .ok (.return_, 1) := by decide +kernel
theorem d_H_touched_19 : decode b_H_touched 19 = .ok (.aload_n 0, 1) := by decide +kernel
theorem d_H_touched_20 : decode b_H_touched 20 = .ok (.getfield 9, 3) := by decide +kernel
theorem d_H_touched_23 : decode b_H_touched 23 = .ok (.iload_n 1, 1) := by decide +kernel
theorem d_H_touched_24 : decode b_H_touched 24 = .ok (.iconst 3, 1) := by decide +kernel
theorem d_H_touched_25 : decode b_H_touched 25 = .ok (.bastore, 1) := by decide +kernel
theorem d_H_touched_26 : decode b_H_touched 26 = .ok (.aload_n 0, 1) := by decide +kernel
theorem d_H_touched_27 : decode b_H_touched 27 = .ok (.getfield 26, 3) := by decide +kernel
theorem d_H_touched_30 : decode b_H_touched 30 = .ok (.aload_n 0, 1) := by decide +kernel
theorem d_H_touched_31 : decode b_H_touched 31 = .ok (.getfield 55, 3) := by decide +kernel
theorem d_H_touched_34 : decode b_H_touched 34 = .ok (.iload_n 1, 1) := by decide +kernel
theorem d_H_touched_35 : decode b_H_touched 35 = .ok (.iastore, 1) := by decide +kernel
theorem d_H_touched_36 : decode b_H_touched 36 = .ok (.aload_n 0, 1) := by decide +kernel
theorem d_H_touched_37 : decode b_H_touched 37 = .ok (.dup, 1) := by decide +kernel
theorem d_H_touched_38 : decode b_H_touched 38 = .ok (.getfield 55, 3) := by decide +kernel
theorem d_H_touched_41 : decode b_H_touched 41 = .ok (.iconst 1, 1) := by decide +kernel
theorem d_H_touched_42 : decode b_H_touched 42 = .ok (.iadd, 1) := by decide +kernel
theorem d_H_touched_43 : decode b_H_touched 43 = .ok (.putfield 55, 3) := by decide +kernel
theorem d_H_touched_46 : decode b_H_touched 46 = .ok (.return_, 1) := by decide +kernel
theorem d_H_slice_0 : decode b_H_slice 0 = .ok (.aload_n 0, 1) := by decide +kernel
theorem d_H_slice_1 : decode b_H_slice 1 = .ok (.dup, 1) := by decide +kernel
theorem d_H_slice_2 : decode b_H_slice 2 = .ok (.getfield 62, 3) := by decide +kernel
theorem d_H_slice_5 : decode b_H_slice 5 = .ok (.iconst 1, 1) := by decide +kernel
theorem d_H_slice_6 : decode b_H_slice 6 = .ok (.iadd, 1) := by decide +kernel
theorem d_H_slice_7 : decode b_H_slice 7 = .ok (.putfield 62, 3) := by decide +kernel
theorem d_H_slice_10 : decode b_H_slice 10 = .ok (.aload_n 0, 1) := by decide +kernel
theorem d_H_slice_11 : decode b_H_slice 11 = .ok (.getfield 49, 3) := by decide +kernel
theorem d_H_slice_14 : decode b_H_slice 14 = .ok (.ifCond .ne 34, 3) := by decide +kernel
theorem d_H_slice_17 : decode b_H_slice 17 = .ok (.aload_n 0, 1) := by decide +kernel
theorem d_H_slice_18 : decode b_H_slice 18 = .ok (.getfield 62, 3) := by decide +kernel
theorem d_H_slice_21 : decode b_H_slice 21 = .ok (.bipush 12, 2) := by decide +kernel
theorem d_H_slice_23 : decode b_H_slice 23 = .ok (.if_icmp .ge 4, 3) := by decide +kernel
theorem d_H_slice_26 : decode b_H_slice 26 = .ok (.return_, 1) := by decide +kernel
theorem d_H_slice_27 : decode b_H_slice 27 = .ok (.aload_n 0, 1) := by decide +kernel
theorem d_H_slice_28 : decode b_H_slice 28 = .ok (.iconst 0, 1) := by decide +kernel
theorem d_H_slice_29 : decode b_H_slice 29 = .ok (.putfield 62, 3) := by decide +kernel
theorem d_H_slice_32 : decode b_H_slice 32 = .ok (.aload_n 0, 1) := by decide +kernel
theorem d_H_slice_33 : decode b_H_slice 33 = .ok (.iconst 1, 1) := by decide +kernel
theorem d_H_slice_34 : decode b_H_slice 34 = .ok (.putfield 49, 3) := by decide +kernel
theorem d_H_slice_37 : decode b_H_slice 37 = .ok (.aload_n 0, 1) := by decide +kernel
theorem d_H_slice_38 : decode b_H_slice 38 = .ok (.getfield 33, 3) := by decide +kernel
theorem d_H_slice_41 : decode b_H_slice 41 = .ok (.aload_n 0, 1) := by decide +kernel
theorem d_H_slice_42 : decode b_H_slice 42 = .ok (.invokevirtual 65, 3) := by decide +kernel
theorem d_H_slice_45 : decode b_H_slice 45 = .ok (.goto 96, 3) := by decide +kernel
theorem d_H_slice_48 : decode b_H_slice 48 = .ok (.aload_n 0, 1) := by decide +kernel
theorem d_H_slice_49 : decode b_H_slice 49 = .ok (.getfield 49, 3) := by decide +kernel
theorem d_H_slice_52 : decode b_H_slice 52 = .ok (.iconst 1, 1) := by decide +kernel
theorem d_H_slice_53 : decode b_H_slice 53 = .ok (.if_icmp .ne 41, 3) := by decide +kernel
theorem d_H_slice_56 : decode b_H_slice 56 = .ok (.iconst 0, 1) := by decide +kernel
theorem d_H_slice_57 : decode b_H_slice 57 = .ok (.istore_n 1, 1) := by decide +kernel
theorem d_H_slice_58 : decode b_H_slice 58 = .ok (.iload_n 1, 1) := by decide +kernel
theorem d_H_slice_59 : decode b_H_slice 59 = .ok (.iconst 4, 1) := by decide +kernel
theorem d_H_slice_60 : decode b_H_slice 60 = .ok (.if_icmp .ge 20, 3) := by decide +kernel
theorem d_H_slice_63 : decode b_H_slice 63 = .ok (.aload_n 0, 1) := by decide +kernel
theorem d_H_slice_64 : decode b_H_slice 64 = .ok (.getfield 55, 3) := by decide +kernel
theorem d_H_slice_67 : decode b_H_slice 67 = .ok (.ifCond .le 13, 3) := by decide +kernel
theorem d_H_slice_70 : decode b_H_slice 70 = .ok (.aload_n 0, 1) := by decide +kernel
theorem d_H_slice_71 : decode b_H_slice 71 = .ok (.invokevirtual 70, 3) := by decide +kernel
theorem d_H_slice_74 : decode b_H_slice 74 = .ok (.iinc 1 1, 3) := by decide +kernel
theorem d_H_slice_77 : decode b_H_slice 77 = .ok (.goto (-19), 3) := by decide +kernel
theorem d_H_slice_80 : decode b_H_slice 80 = .ok (.aload_n 0, 1) := by decide +kernel
theorem d_H_slice_81 : decode b_H_slice 81 = .ok (.getfield 55, 3) := by decide +kernel
theorem d_H_slice_84 : decode b_H_slice 84 = .ok (.ifCond .ne 57, 3) := by decide +kernel
theorem d_H_slice_87 : decode b_H_slice 87 = .ok (.aload_n 0, 1) := by decide +kernel
theorem d_H_slice_88 : decode b_H_slice 88 = .ok (.invokevirtual 73, 3) := by decide +kernel
theorem d_H_slice_91 : decode b_H_slice 91 = .ok (.goto 50, 3) := by decide +kernel
theorem d_H_slice_94 : decode b_H_slice 94 = .ok (.iconst 0, 1) := by decide +kernel
theorem d_H_slice_95 : decode b_H_slice 95 = .ok (.istore_n 1, 1) := by decide +kernel
theorem d_H_slice_96 : decode b_H_slice 96 = .ok (.iload_n 1, 1) := by decide +kernel
theorem d_H_slice_97 : decode b_H_slice 97 = .ok (.bipush 16, 2) := by decide +kernel
theorem d_H_slice_99 : decode b_H_slice 99 = .ok (.if_icmp .ge 23, 3) := by decide +kernel
theorem d_H_slice_102 : decode b_H_slice 102 = .ok (.aload_n 0, 1) := by decide +kernel
theorem d_H_slice_103 : decode b_H_slice 103 = .ok (.getfield 76, 3) := by decide +kernel
theorem d_H_slice_106 : decode b_H_slice 106 = .ok (.sipush 1600, 3) := by decide +kernel
theorem d_H_slice_109 : decode b_H_slice 109 = .ok (.if_icmp .ge 13, 3) := by decide +kernel
theorem d_H_slice_112 : decode b_H_slice 112 = .ok (.aload_n 0, 1) := by decide +kernel
theorem d_H_slice_113 : decode b_H_slice 113 = .ok (.invokevirtual 79, 3) := by decide +kernel
theorem d_H_slice_116 : decode b_H_slice 116 = .ok (.iinc 1 1, 3) := by decide +kernel
theorem d_H_slice_119 : decode b_H_slice 119 = .ok (.goto (-23), 3) := by decide +kernel
theorem d_H_slice_122 : decode b_H_slice 122 = .ok (.aload_n 0, 1) := by decide +kernel
theorem d_H_slice_123 : decode b_H_slice 123 = .ok (.aload_n 0, 1) := by decide +kernel
theorem d_H_slice_124 : decode b_H_slice 124 = .ok (.getfield 76, 3) := by decide +kernel
theorem d_H_slice_127 : decode b_H_slice 127 = .ok (.sipush 1600, 3) := by decide +kernel
theorem d_H_slice_130 : decode b_H_slice 130 = .ok (.if_icmp .ne 7, 3) := by decide +kernel
theorem d_H_slice_133 : decode b_H_slice 133 = .ok (.iconst 0, 1) := by decide +kernel
theorem d_H_slice_134 : decode b_H_slice 134 = .ok (.goto 4, 3) := by decide +kernel
theorem d_H_slice_137 : decode b_H_slice 137 = .ok (.iconst 2, 1) := by decide +kernel
theorem d_H_slice_138 : decode b_H_slice 138 = .ok (.putfield 49, 3) := by decide +kernel
theorem d_H_slice_141 : decode b_H_slice 141 = .ok (.return_, 1) := by decide +kernel
theorem d_H_turn_0 : decode b_H_turn 0 = .ok (.aload_n 0, 1) := by decide +kernel
theorem d_H_turn_1 : decode b_H_turn 1 = .ok (.getfield 33, 3) := by decide +kernel
theorem d_H_turn_4 : decode b_H_turn 4 = .ok (.aload_n 0, 1) := by decide +kernel
theorem d_H_turn_5 : decode b_H_turn 5 = .ok (.invokevirtual 65, 3) := by decide +kernel
theorem d_H_turn_8 : decode b_H_turn 8 = .ok (.aload_n 0, 1) := by decide +kernel
theorem d_H_turn_9 : decode b_H_turn 9 = .ok (.getfield 55, 3) := by decide +kernel
theorem d_H_turn_12 : decode b_H_turn 12 = .ok (.ifCond .le 10, 3) := by decide +kernel
theorem d_H_turn_15 : decode b_H_turn 15 = .ok (.aload_n 0, 1) := by decide +kernel
theorem d_H_turn_16 : decode b_H_turn 16 = .ok (.invokevirtual 70, 3) := by decide +kernel
theorem d_H_turn_19 : decode b_H_turn 19 = .ok (.goto (-11), 3) := by decide +kernel
theorem d_H_turn_22 : decode b_H_turn 22 = .ok (.aload_n 0, 1) := by decide +kernel
theorem d_H_turn_23 : decode b_H_turn 23 = .ok (.iconst 2, 1) := by decide +kernel
theorem d_H_turn_24 : decode b_H_turn 24 = .ok (.putfield 49, 3) := by decide +kernel
theorem d_H_turn_27 : decode b_H_turn 27 = .ok (.aload_n 0, 1) := by decide +kernel
theorem d_H_turn_28 : decode b_H_turn 28 = .ok (.iconst 0, 1) := by decide +kernel
theorem d_H_turn_29 : decode b_H_turn 29 = .ok (.putfield 76, 3) := by decide +kernel
theorem d_H_turn_32 : decode b_H_turn 32 = .ok (.aload_n 0, 1) := by decide +kernel
theorem d_H_turn_33 : decode b_H_turn 33 = .ok (.aload_n 0, 1) := by decide +kernel
theorem d_H_turn_34 : decode b_H_turn 34 = .ok (.getfield 29, 3) := by decide +kernel
theorem d_H_turn_37 : decode b_H_turn 37 = .ok (.iconst 1, 1) := by decide +kernel
theorem d_H_turn_38 : decode b_H_turn 38 = .ok (.if_icmp .ne 7, 3) := by decide +kernel
theorem d_H_turn_41 : decode b_H_turn 41 = .ok (.iconst 2, 1) := by decide +kernel
theorem d_H_turn_42 : decode b_H_turn 42 = .ok (.goto 4, 3) := by decide +kernel
theorem d_H_turn_45 : decode b_H_turn 45 = .ok (.iconst 1, 1) := by decide +kernel
theorem d_H_turn_46 : decode b_H_turn 46 = .ok (.putfield 29, 3) := by decide +kernel
theorem d_H_turn_49 : decode b_H_turn 49 = .ok (.return_, 1) := by decide +kernel
theorem d_H_sweep_0 : decode b_H_sweep 0 = .ok (.aload_n 0, 1) := by decide +kernel
theorem d_H_sweep_1 : decode b_H_sweep 1 = .ok (.getfield 9, 3) := by decide +kernel
theorem d_H_sweep_4 : decode b_H_sweep 4 = .ok (.aload_n 0, 1) := by decide +kernel
theorem d_H_sweep_5 : decode b_H_sweep 5 = .ok (.getfield 76, 3) := by decide +kernel
theorem d_H_sweep_8 : decode b_H_sweep 8 = .ok (.baload, 1) := by decide +kernel
theorem d_H_sweep_9 : decode b_H_sweep 9 = .ok (.istore_n 1, 1) := by decide +kernel
theorem d_H_sweep_10 : decode b_H_sweep 10 = .ok (.iload_n 1, 1) := by decide +kernel
theorem d_H_sweep_11 : decode b_H_sweep 11 = .ok (.iconst 4, 1) := by decide +kernel
theorem d_H_sweep_12 : decode b_H_sweep 12 = .ok (.if_icmp .ne 20, 3) := by decide +kernel
theorem d_H_sweep_15 : decode b_H_sweep 15 = .ok (.aload_n 0, 1) := by decide +kernel
theorem d_H_sweep_16 : decode b_H_sweep 16 = .ok (.getfield 9, 3) := by decide +kernel
theorem d_H_sweep_19 : decode b_H_sweep 19 = .ok (.aload_n 0, 1) := by decide +kernel
theorem d_H_sweep_20 : decode b_H_sweep 20 = .ok (.getfield 76, 3) := by decide +kernel
theorem d_H_sweep_23 : decode b_H_sweep 23 = .ok (.aload_n 0, 1) := by decide +kernel
theorem d_H_sweep_24 : decode b_H_sweep 24 = .ok (.getfield 29, 3) := by decide +kernel
theorem d_H_sweep_27 : decode b_H_sweep 27 = .ok (.i2b, 1) := by decide +kernel
theorem d_H_sweep_28 : decode b_H_sweep 28 = .ok (.bastore, 1) := by decide +kernel
theorem d_H_sweep_29 : decode b_H_sweep 29 = .ok (.goto 23, 3) := by decide +kernel
theorem d_H_sweep_32 : decode b_H_sweep 32 = .ok (.iload_n 1, 1) := by decide +kernel
theorem d_H_sweep_33 : decode b_H_sweep 33 = .ok (.ifCond .eq 19, 3) := by decide +kernel
theorem d_H_sweep_36 : decode b_H_sweep 36 = .ok (.iload_n 1, 1) := by decide +kernel
theorem d_H_sweep_37 : decode b_H_sweep 37 = .ok (.aload_n 0, 1) := by decide +kernel
theorem d_H_sweep_38 : decode b_H_sweep 38 = .ok (.getfield 29, 3) := by decide +kernel
theorem d_H_sweep_41 : decode b_H_sweep 41 = .ok (.if_icmp .eq 11, 3) := by decide +kernel
theorem d_H_sweep_44 : decode b_H_sweep 44 = .ok (.aload_n 0, 1) := by decide +kernel
theorem d_H_sweep_45 : decode b_H_sweep 45 = .ok (.aload_n 0, 1) := by decide +kernel
theorem d_H_sweep_46 : decode b_H_sweep 46 = .ok (.getfield 76, 3) := by decide +kernel
theorem d_H_sweep_49 : decode b_H_sweep 49 = .ok (.invokevirtual 82, 3) := by decide +kernel
theorem d_H_sweep_52 : decode b_H_sweep 52 = .ok (.aload_n 0, 1) := by decide +kernel
theorem d_H_sweep_53 : decode b_H_sweep 53 = .ok (.dup, 1) := by decide +kernel
theorem d_H_sweep_54 : decode b_H_sweep 54 = .ok (.getfield 76, 3) := by decide +kernel
theorem d_H_sweep_57 : decode b_H_sweep 57 = .ok (.iconst 1, 1) := by decide +kernel
theorem d_H_sweep_58 : decode b_H_sweep 58 = .ok (.iadd, 1) := by decide +kernel
theorem d_H_sweep_59 : decode b_H_sweep 59 = .ok (.putfield 76, 3) := by decide +kernel
theorem d_H_sweep_62 : decode b_H_sweep 62 = .ok (.return_, 1) := by decide +kernel
theorem d_H_all_0 : decode b_H_all 0 = .ok (.iconst 0, 1) := by decide +kernel
theorem d_H_all_1 : decode b_H_all 1 = .ok (.istore_n 1, 1) := by decide +kernel
theorem d_H_all_2 : decode b_H_all 2 = .ok (.iload_n 1, 1) := by decide +kernel
theorem d_H_all_3 : decode b_H_all 3 = .ok (.sipush 1600, 3) := by decide +kernel
theorem d_H_all_6 : decode b_H_all 6 = .ok (.if_icmp .ge 29, 3) := by decide +kernel
theorem d_H_all_9 : decode b_H_all 9 = .ok (.aload_n 0, 1) := by decide +kernel
theorem d_H_all_10 : decode b_H_all 10 = .ok (.getfield 9, 3) := by decide +kernel
theorem d_H_all_13 : decode b_H_all 13 = .ok (.iload_n 1, 1) := by decide +kernel
theorem d_H_all_14 : decode b_H_all 14 = .ok (.baload, 1) := by decide +kernel
theorem d_H_all_15 : decode b_H_all 15 = .ok (.ifCond .eq 14, 3) := by decide +kernel
theorem d_H_all_18 : decode b_H_all 18 = .ok (.aload_n 0, 1) := by decide +kernel
theorem d_H_all_19 : decode b_H_all 19 = .ok (.getfield 9, 3) := by decide +kernel
theorem d_H_all_22 : decode b_H_all 22 = .ok (.iload_n 1, 1) := by decide +kernel
theorem d_H_all_23 : decode b_H_all 23 = .ok (.aload_n 0, 1) := by decide +kernel
theorem d_H_all_24 : decode b_H_all 24 = .ok (.getfield 29, 3) := by decide +kernel
theorem d_H_all_27 : decode b_H_all 27 = .ok (.i2b, 1) := by decide +kernel
theorem d_H_all_28 : decode b_H_all 28 = .ok (.bastore, 1) := by decide +kernel
theorem d_H_all_29 : decode b_H_all 29 = .ok (.iinc 1 1, 3) := by decide +kernel
theorem d_H_all_32 : decode b_H_all 32 = .ok (.goto (-30), 3) := by decide +kernel
theorem d_H_all_35 : decode b_H_all 35 = .ok (.aload_n 0, 1) := by decide +kernel
theorem d_H_all_36 : decode b_H_all 36 = .ok (.iconst 0, 1) := by decide +kernel
theorem d_H_all_37 : decode b_H_all 37 = .ok (.putfield 55, 3) := by decide +kernel
theorem d_H_all_40 : decode b_H_all 40 = .ok (.aload_n 0, 1) := by decide +kernel
theorem d_H_all_41 : decode b_H_all 41 = .ok (.getfield 33, 3) := by decide +kernel
theorem d_H_all_44 : decode b_H_all 44 = .ok (.aload_n 0, 1) := by decide +kernel
theorem d_H_all_45 : decode b_H_all 45 = .ok (.invokevirtual 65, 3) := by decide +kernel
theorem d_H_all_48 : decode b_H_all 48 = .ok (.aload_n 0, 1) := by decide +kernel
theorem d_H_all_49 : decode b_H_all 49 = .ok (.getfield 55, 3) := by decide +kernel
theorem d_H_all_52 : decode b_H_all 52 = .ok (.ifCond .le 10, 3) := by decide +kernel
theorem d_H_all_55 : decode b_H_all 55 = .ok (.aload_n 0, 1) := by decide +kernel
theorem d_H_all_56 : decode b_H_all 56 = .ok (.invokevirtual 70, 3) := by decide +kernel
theorem d_H_all_59 : decode b_H_all 59 = .ok (.goto (-11), 3) := by decide +kernel
theorem d_H_all_62 : decode b_H_all 62 = .ok (.iconst 0, 1) := by decide +kernel
theorem d_H_all_63 : decode b_H_all 63 = .ok (.istore_n 1, 1) := by decide +kernel
theorem d_H_all_64 : decode b_H_all 64 = .ok (.iload_n 1, 1) := by decide +kernel
theorem d_H_all_65 : decode b_H_all 65 = .ok (.sipush 1600, 3) := by decide +kernel
theorem d_H_all_68 : decode b_H_all 68 = .ok (.if_icmp .ge 51, 3) := by decide +kernel
theorem d_H_all_71 : decode b_H_all 71 = .ok (.aload_n 0, 1) := by decide +kernel
theorem d_H_all_72 : decode b_H_all 72 = .ok (.getfield 9, 3) := by decide +kernel
theorem d_H_all_75 : decode b_H_all 75 = .ok (.iload_n 1, 1) := by decide +kernel
theorem d_H_all_76 : decode b_H_all 76 = .ok (.baload, 1) := by decide +kernel
theorem d_H_all_77 : decode b_H_all 77 = .ok (.aload_n 0, 1) := by decide +kernel
theorem d_H_all_78 : decode b_H_all 78 = .ok (.getfield 29, 3) := by decide +kernel
theorem d_H_all_81 : decode b_H_all 81 = .ok (.if_icmp .ne 11, 3) := by decide +kernel
theorem d_H_all_84 : decode b_H_all 84 = .ok (.aload_n 0, 1) := by decide +kernel
theorem d_H_all_85 : decode b_H_all 85 = .ok (.iload_n 1, 1) := by decide +kernel
theorem d_H_all_86 : decode b_H_all 86 = .ok (.invokevirtual 82, 3) := by decide +kernel
theorem d_H_all_89 : decode b_H_all 89 = .ok (.goto 24, 3) := by decide +kernel
theorem d_H_all_92 : decode b_H_all 92 = .ok (.aload_n 0, 1) := by decide +kernel
theorem d_H_all_93 : decode b_H_all 93 = .ok (.getfield 9, 3) := by decide +kernel
theorem d_H_all_96 : decode b_H_all 96 = .ok (.iload_n 1, 1) := by decide +kernel
theorem d_H_all_97 : decode b_H_all 97 = .ok (.baload, 1) := by decide +kernel
theorem d_H_all_98 : decode b_H_all 98 = .ok (.iconst 4, 1) := by decide +kernel
theorem d_H_all_99 : decode b_H_all 99 = .ok (.if_icmp .ne 14, 3) := by decide +kernel
theorem d_H_all_102 : decode b_H_all 102 = .ok (.aload_n 0, 1) := by decide +kernel
theorem d_H_all_103 : decode b_H_all 103 = .ok (.getfield 9, 3) := by decide +kernel
theorem d_H_all_106 : decode b_H_all 106 = .ok (.iload_n 1, 1) := by decide +kernel
theorem d_H_all_107 : decode b_H_all 107 = .ok (.aload_n 0, 1) := by decide +kernel
theorem d_H_all_108 : decode b_H_all 108 = .ok (.getfield 29, 3) := by decide +kernel
theorem d_H_all_111 : decode b_H_all 111 = .ok (.i2b, 1) := by decide +kernel
theorem d_H_all_112 : decode b_H_all 112 = .ok (.bastore, 1) := by decide +kernel
theorem d_H_all_113 : decode b_H_all 113 = .ok (.iinc 1 1, 3) := by decide +kernel
theorem d_H_all_116 : decode b_H_all 116 = .ok (.goto (-52), 3) := by decide +kernel
theorem d_H_all_119 : decode b_H_all 119 = .ok (.aload_n 0, 1) := by decide +kernel
theorem d_H_all_120 : decode b_H_all 120 = .ok (.iconst 0, 1) := by decide +kernel
theorem d_H_all_121 : decode b_H_all 121 = .ok (.putfield 49, 3) := by decide +kernel
theorem d_H_all_124 : decode b_H_all 124 = .ok (.aload_n 0, 1) := by decide +kernel
theorem d_H_all_125 : decode b_H_all 125 = .ok (.iconst 0, 1) := by decide +kernel
theorem d_H_all_126 : decode b_H_all 126 = .ok (.putfield 62, 3) := by decide +kernel
theorem d_H_all_129 : decode b_H_all 129 = .ok (.return_, 1) := by decide +kernel
theorem d_R_init_0 : decode b_R_init 0 = .ok (.aload_n 0, 1) := by decide +kernel
theorem d_R_init_1 : decode b_R_init 1 = .ok (.invokespecial 1, 3) := by decide +kernel
theorem d_R_init_4 : decode b_R_init 4 = .ok (.aload_n 0, 1) := by decide +kernel
theorem d_R_init_5 : decode b_R_init 5 = .ok (.bipush 60, 2) := by decide +kernel
theorem d_R_init_7 : decode b_R_init 7 = .ok (.newarray .byte, 2) := by decide +kernel
theorem d_R_init_9 : decode b_R_init 9 = .ok (.putfield 9, 3) := by decide +kernel
theorem d_R_init_12 : decode b_R_init 12 = .ok (.aload_n 0, 1) := by decide +kernel
theorem d_R_init_13 : decode b_R_init 13 = .ok (.bipush 60, 2) := by decide +kernel
theorem d_R_init_15 : decode b_R_init 15 = .ok (.newarray .int, 2) := by decide +kernel
theorem d_R_init_17 : decode b_R_init 17 = .ok (.putfield 13, 3) := by decide +kernel
theorem d_R_init_20 : decode b_R_init 20 = .ok (.return_, 1) := by decide +kernel
theorem d_R_is_0 : decode b_R_is 0 = .ok (.iload_n 0, 1) := by decide +kernel
theorem d_R_is_1 : decode b_R_is 1 = .ok (.ifCond .lt 13, 3) := by decide +kernel
theorem d_R_is_4 : decode b_R_is 4 = .ok (.iload_n 0, 1) := by decide +kernel
theorem d_R_is_5 : decode b_R_is 5 = .ok (.bipush 10, 2) := by decide +kernel
theorem d_R_is_7 : decode b_R_is 7 = .ok (.if_icmp .ge 7, 3) := by decide +kernel
theorem d_R_is_10 : decode b_R_is 10 = .ok (.iconst 1, 1) := by decide +kernel
theorem d_R_is_11 : decode b_R_is 11 = .ok (.goto 4, 3) := by decide +kernel
theorem d_R_is_14 : decode b_R_is 14 = .ok (.iconst 0, 1) := by decide +kernel
theorem d_R_is_15 : decode b_R_is 15 = .ok (.ireturn, 1) := by decide +kernel
theorem d_R_mark_0 : decode b_R_mark 0 = .ok (.iconst 0, 1) := by decide +kernel
theorem d_R_mark_1 : decode b_R_mark 1 = .ok (.istore_n 2, 1) := by decide +kernel
theorem d_R_mark_2 : decode b_R_mark 2 = .ok (.iload_n 2, 1) := by decide +kernel
theorem d_R_mark_3 : decode b_R_mark 3 = .ok (.bipush 10, 2) := by decide +kernel
theorem d_R_mark_5 : decode b_R_mark 5 = .ok (.aload_n 0, 1) := by decide +kernel
theorem d_R_mark_6 : decode b_R_mark 6 = .ok (.getfield 17, 3) := by decide +kernel
theorem d_R_mark_9 : decode b_R_mark 9 = .ok (.iadd, 1) := by decide +kernel
theorem d_R_mark_10 : decode b_R_mark 10 = .ok (.if_icmp .ge 25, 3) := by decide +kernel
theorem d_R_mark_13 : decode b_R_mark 13 = .ok (.aload_n 1, 1) := by decide +kernel
theorem d_R_mark_14 : decode b_R_mark 14 = .ok (.aload_n 0, 1) := by decide +kernel
theorem d_R_mark_15 : decode b_R_mark 15 = .ok (.getfield 9, 3) := by decide +kernel
theorem d_R_mark_18 : decode b_R_mark 18 = .ok (.iload_n 2, 1) := by decide +kernel
theorem d_R_mark_19 : decode b_R_mark 19 = .ok (.baload, 1) := by decide +kernel
theorem d_R_mark_20 : decode b_R_mark 20 = .ok (.aload_n 0, 1) := by decide +kernel
theorem d_R_mark_21 : decode b_R_mark 21 = .ok (.getfield 13, 3) := by decide +kernel
theorem d_R_mark_24 : decode b_R_mark 24 = .ok (.iload_n 2, 1) := by decide +kernel
theorem d_R_mark_25 : decode b_R_mark 25 = .ok (.iaload, 1) := by decide +kernel
theorem d_R_mark_26 : decode b_R_mark 26 = .ok (.invokevirtual 21, 3) := by decide +kernel
theorem d_R_mark_29 : decode b_R_mark 29 = .ok (.iinc 2 1, 3) := by decide +kernel
theorem d_R_mark_32 : decode b_R_mark 32 = .ok (.goto (-30), 3) := by decide +kernel
theorem d_R_mark_35 : decode b_R_mark 35 = .ok (.return_, 1) := by decide +kernel
theorem d_R_set_0 : decode b_R_set 0 = .ok (.aload_n 0, 1) := by decide +kernel
theorem d_R_set_1 : decode b_R_set 1 = .ok (.getfield 9, 3) := by decide +kernel
theorem d_R_set_4 : decode b_R_set 4 = .ok (.iload_n 1, 1) := by decide +kernel
theorem d_R_set_5 : decode b_R_set 5 = .ok (.iload_n 2, 1) := by decide +kernel
theorem d_R_set_6 : decode b_R_set 6 = .ok (.i2b, 1) := by decide +kernel
theorem d_R_set_7 : decode b_R_set 7 = .ok (.bastore, 1) := by decide +kernel
theorem d_R_set_8 : decode b_R_set 8 = .ok (.aload_n 0, 1) := by decide +kernel
theorem d_R_set_9 : decode b_R_set 9 = .ok (.getfield 13, 3) := by decide +kernel
theorem d_R_set_12 : decode b_R_set 12 = .ok (.iload_n 1, 1) := by decide +kernel
theorem d_R_set_13 : decode b_R_set 13 = .ok (.iload_n 3, 1) := by decide +kernel
theorem d_R_set_14 : decode b_R_set 14 = .ok (.iastore, 1) := by decide +kernel
theorem d_R_set_15 : decode b_R_set 15 = .ok (.return_, 1) := by decide +kernel
theorem d_R_hasObject_0 : decode b_R_hasObject 0 = .ok (.iload_n 1, 1) := by decide +kernel
theorem d_R_hasObject_1 : decode b_R_hasObject 1 = .ok (.invokestatic 27, 3) := by decide +kernel
theorem d_R_hasObject_4 : decode b_R_hasObject 4 = .ok (.ifCond .eq 17, 3) := by decide +kernel
theorem d_R_hasObject_7 : decode b_R_hasObject 7 = .ok (.aload_n 0, 1) := by decide +kernel
theorem d_R_hasObject_8 : decode b_R_hasObject 8 = .ok (.getfield 9, 3) := by decide +kernel
theorem d_R_hasObject_11 : decode b_R_hasObject 11 = .ok (.iload_n 1, 1) := by decide +kernel
theorem d_R_hasObject_12 : decode b_R_hasObject 12 = .ok (.baload, 1) := by decide +kernel
theorem d_R_hasObject_13 : decode b_R_hasObject 13 = .ok (.iconst 2, 1) := by decide +kernel
theorem d_R_hasObject_14 : decode b_R_hasObject 14 = .ok (.if_icmp .ne 7, 3) := by decide +kernel
theorem d_R_hasObject_17 : decode b_R_hasObject 17 = .ok (.iconst 1, 1) := by decide +kernel
theorem d_R_hasObject_18 : decode b_R_hasObject 18 = .ok (.goto 4, 3) := by decide +kernel
theorem d_R_hasObject_21 : decode b_R_hasObject 21 = .ok (.iconst 0, 1) := by decide +kernel
theorem d_R_hasObject_22 : decode b_R_hasObject 22 = .ok (.ireturn, 1) := by decide +kernel
end
section
theorem d_X_init_0 : decode b_X_init 0 = .ok (.aload_n 0, 1) := by decide +kernel
theorem d_X_init_1 : decode b_X_init 1 = .ok (.invokespecial 1, 3) := by decide +kernel
theorem d_X_init_4 : decode b_X_init 4 = .ok (.aload_n 0, 1) := by decide +kernel
theorem d_X_init_5 : decode b_X_init 5 = .ok (.new 7, 3) := by decide +kernel
theorem d_X_init_8 : decode b_X_init 8 = .ok (.dup, 1) := by decide +kernel
theorem d_X_init_9 : decode b_X_init 9 = .ok (.invokespecial 9, 3) := by decide +kernel
theorem d_X_init_12 : decode b_X_init 12 = .ok (.putfield 10, 3) := by decide +kernel
theorem d_X_init_15 : decode b_X_init 15 = .ok (.aload_n 0, 1) := by decide +kernel
theorem d_X_init_16 : decode b_X_init 16 = .ok (.new 16, 3) := by decide +kernel
theorem d_X_init_19 : decode b_X_init 19 = .ok (.dup, 1) := by decide +kernel
theorem d_X_init_20 : decode b_X_init 20 = .ok (.aload_n 0, 1) := by decide +kernel
theorem d_X_init_21 : decode b_X_init 21 = .ok (.getfield 10, 3) := by decide +kernel
theorem d_X_init_24 : decode b_X_init 24 = .ok (.iload_n 1, 1) := by decide +kernel
theorem d_X_init_25 : decode b_X_init 25 = .ok (.bipush 20, 2) := by decide +kernel
theorem d_X_init_27 : decode b_X_init 27 = .ok (.if_icmp .lt 14, 3) := by decide +kernel
theorem d_X_init_30 : decode b_X_init 30 = .ok (.iload_n 1, 1) := by decide +kernel
theorem d_X_init_31 : decode b_X_init 31 = .ok (.sipush 3000, 3) := by decide +kernel
theorem d_X_init_34 : decode b_X_init 34 = .ok (.if_icmp .gt 7, 3) := by decide +kernel
theorem d_X_init_37 : decode b_X_init 37 = .ok (.iload_n 1, 1) := by decide +kernel
theorem d_X_init_38 : decode b_X_init 38 = .ok (.goto 6, 3) := by decide +kernel
theorem d_X_init_41 : decode b_X_init 41 = .ok (.sipush 300, 3) := by decide +kernel
theorem d_X_init_44 : decode b_X_init 44 = .ok (.invokespecial 18, 3) := by decide +kernel
theorem d_X_init_47 : decode b_X_init 47 = .ok (.putfield 21, 3) := by decide +kernel
theorem d_X_init_50 : decode b_X_init 50 = .ok (.return_, 1) := by decide +kernel
theorem d_X_room_0 : decode b_X_room 0 = .ok (.aload_n 0, 1) := by decide +kernel
theorem d_X_room_1 : decode b_X_room 1 = .ok (.getfield 21, 3) := by decide +kernel
theorem d_X_room_4 : decode b_X_room 4 = .ok (.iload_n 1, 1) := by decide +kernel
theorem d_X_room_5 : decode b_X_room 5 = .ok (.invokevirtual 25, 3) := by decide +kernel
theorem d_X_room_8 : decode b_X_room 8 = .ok (.ifCond .eq 5, 3) := by decide +kernel
theorem d_X_room_11 : decode b_X_room 11 = .ok (.iconst 1, 1) := by decide +kernel
theorem d_X_room_12 : decode b_X_room 12 = .ok (.ireturn, 1) := by decide +kernel
theorem d_X_room_13 : decode b_X_room 13 = .ok (.aload_n 0, 1) := by decide +kernel
theorem d_X_room_14 : decode b_X_room 14 = .ok (.dup, 1) := by decide +kernel
theorem d_X_room_15 : decode b_X_room 15 = .ok (.getfield 29, 3) := by decide +kernel
theorem d_X_room_18 : decode b_X_room 18 = .ok (.iconst 1, 1) := by decide +kernel
theorem d_X_room_19 : decode b_X_room 19 = .ok (.iadd, 1) := by decide +kernel
theorem d_X_room_20 : decode b_X_room 20 = .ok (.putfield 29, 3) := by decide +kernel
theorem d_X_room_23 : decode b_X_room 23 = .ok (.iconst 0, 1) := by decide +kernel
theorem d_X_room_24 : decode b_X_room 24 = .ok (.ireturn, 1) := by decide +kernel
theorem d_X_lay_0 : decode b_X_lay 0 = .ok (.aload_n 0, 1) := by decide +kernel
theorem d_X_lay_1 : decode b_X_lay 1 = .ok (.getfield 21, 3) := by decide +kernel
theorem d_X_lay_4 : decode b_X_lay 4 = .ok (.getfield 33, 3) := by decide +kernel
theorem d_X_lay_7 : decode b_X_lay 7 = .ok (.bipush 20, 2) := by decide +kernel
theorem d_X_lay_9 : decode b_X_lay 9 = .ok (.iload_n 1, 1) := by decide +kernel
theorem d_X_lay_10 : decode b_X_lay 10 = .ok (.imul, 1) := by decide +kernel
theorem d_X_lay_11 : decode b_X_lay 11 = .ok (.iload_n 2, 1) := by decide +kernel
theorem d_X_lay_12 : decode b_X_lay 12 = .ok (.iadd, 1) := by decide +kernel
theorem d_X_lay_13 : decode b_X_lay 13 = .ok (.aload_n 0, 1) := by decide +kernel
theorem d_X_lay_14 : decode b_X_lay 14 = .ok (.getfield 10, 3) := by decide +kernel
theorem d_X_lay_17 : decode b_X_lay 17 = .ok (.getfield 37, 3) := by decide +kernel
theorem d_X_lay_20 : decode b_X_lay 20 = .ok (.iload_n 3, 1) := by decide +kernel
theorem d_X_lay_21 : decode b_X_lay 21 = .ok (.baload, 1) := by decide +kernel
theorem d_X_lay_22 : decode b_X_lay 22 = .ok (.bastore, 1) := by decide +kernel
theorem d_X_lay_23 : decode b_X_lay 23 = .ok (.aload_n 0, 1) := by decide +kernel
theorem d_X_lay_24 : decode b_X_lay 24 = .ok (.getfield 21, 3) := by decide +kernel
theorem d_X_lay_27 : decode b_X_lay 27 = .ok (.getfield 38, 3) := by decide +kernel
theorem d_X_lay_30 : decode b_X_lay 30 = .ok (.bipush 20, 2) := by decide +kernel
theorem d_X_lay_32 : decode b_X_lay 32 = .ok (.iload_n 1, 1) := by decide +kernel
theorem d_X_lay_33 : decode b_X_lay 33 = .ok (.imul, 1) := by decide +kernel
theorem d_X_lay_34 : decode b_X_lay 34 = .ok (.iload_n 2, 1) := by decide +kernel
theorem d_X_lay_35 : decode b_X_lay 35 = .ok (.iadd, 1) := by decide +kernel
theorem d_X_lay_36 : decode b_X_lay 36 = .ok (.aload_n 0, 1) := by decide +kernel
theorem d_X_lay_37 : decode b_X_lay 37 = .ok (.getfield 10, 3) := by decide +kernel
theorem d_X_lay_40 : decode b_X_lay 40 = .ok (.getfield 42, 3) := by decide +kernel
theorem d_X_lay_43 : decode b_X_lay 43 = .ok (.iload_n 3, 1) := by decide +kernel
theorem d_X_lay_44 : decode b_X_lay 44 = .ok (.iaload, 1) := by decide +kernel
theorem d_X_lay_45 : decode b_X_lay 45 = .ok (.iastore, 1) := by decide +kernel
theorem d_X_lay_46 : decode b_X_lay 46 = .ok (.aload_n 0, 1) := by decide +kernel
theorem d_X_lay_47 : decode b_X_lay 47 = .ok (.getfield 21, 3) := by decide +kernel
theorem d_X_lay_50 : decode b_X_lay 50 = .ok (.iload_n 1, 1) := by decide +kernel
theorem d_X_lay_51 : decode b_X_lay 51 = .ok (.invokevirtual 43, 3) := by decide +kernel
theorem d_X_lay_54 : decode b_X_lay 54 = .ok (.return_, 1) := by decide +kernel
theorem d_X_make_0 : decode b_X_make 0 = .ok (.iload_n 1, 1) := by decide +kernel
theorem d_X_make_1 : decode b_X_make 1 = .ok (.invokestatic 47, 3) := by decide +kernel
theorem d_X_make_4 : decode b_X_make 4 = .ok (.ifCond .eq 20, 3) := by decide +kernel
theorem d_X_make_7 : decode b_X_make 7 = .ok (.iload_n 3, 1) := by decide +kernel
theorem d_X_make_8 : decode b_X_make 8 = .ok (.invokestatic 47, 3) := by decide +kernel
theorem d_X_make_11 : decode b_X_make 11 = .ok (.ifCond .eq 13, 3) := by decide +kernel
theorem d_X_make_14 : decode b_X_make 14 = .ok (.iload_n 2, 1) := by decide +kernel
theorem d_X_make_15 : decode b_X_make 15 = .ok (.ifCond .lt 9, 3) := by decide +kernel
theorem d_X_make_18 : decode b_X_make 18 = .ok (.iload_n 2, 1) := by decide +kernel
theorem d_X_make_19 : decode b_X_make 19 = .ok (.bipush 20, 2) := by decide +kernel
theorem d_X_make_21 : decode b_X_make 21 = .ok (.if_icmp .le 5, 3) := by decide +kernel
theorem d_X_make_24 : decode b_X_make 24 = .ok (.iconst (-1), 1) := by decide +kernel
theorem d_X_make_25 : decode b_X_make 25 = .ok (.ireturn, 1) := by decide +kernel
theorem d_X_make_26 : decode b_X_make 26 = .ok (.aload_n 0, 1) := by decide +kernel
theorem d_X_make_27 : decode b_X_make 27 = .ok (.iconst 2, 1) := by decide +kernel
theorem d_X_make_28 : decode b_X_make 28 = .ok (.iload_n 2, 1) := by decide +kernel
theorem d_X_make_29 : decode b_X_make 29 = .ok (.iadd, 1) := by decide +kernel
theorem d_X_make_30 : decode b_X_make 30 = .ok (.invokevirtual 50, 3) := by decide +kernel
theorem d_X_make_33 : decode b_X_make 33 = .ok (.ifCond .ne 5, 3) := by decide +kernel
theorem d_X_make_36 : decode b_X_make 36 = .ok (.iconst 0, 1) := by decide +kernel
theorem d_X_make_37 : decode b_X_make 37 = .ok (.ireturn, 1) := by decide +kernel
theorem d_X_make_38 : decode b_X_make 38 = .ok (.aload_n 0, 1) := by decide +kernel
theorem d_X_make_39 : decode b_X_make 39 = .ok (.getfield 21, 3) := by decide +kernel
theorem d_X_make_42 : decode b_X_make 42 = .ok (.iload_n 2, 1) := by decide +kernel
theorem d_X_make_43 : decode b_X_make 43 = .ok (.invokevirtual 53, 3) := by decide +kernel
theorem d_X_make_46 : decode b_X_make 46 = .ok (.istore 4, 2) := by decide +kernel
theorem d_X_make_48 : decode b_X_make 48 = .ok (.iconst 0, 1) := by decide +kernel
theorem d_X_make_49 : decode b_X_make 49 = .ok (.istore 5, 2) := by decide +kernel
theorem d_X_make_51 : decode b_X_make 51 = .ok (.iload 5, 2) := by decide +kernel
theorem d_X_make_53 : decode b_X_make 53 = .ok (.iload_n 2, 1) := by decide +kernel
theorem d_X_make_54 : decode b_X_make 54 = .ok (.if_icmp .ge 18, 3) := by decide +kernel
theorem d_X_make_57 : decode b_X_make 57 = .ok (.aload_n 0, 1) := by decide +kernel
theorem d_X_make_58 : decode b_X_make 58 = .ok (.iload 4, 2) := by decide +kernel
theorem d_X_make_60 : decode b_X_make 60 = .ok (.iload 5, 2) := by decide +kernel
theorem d_X_make_62 : decode b_X_make 62 = .ok (.iload_n 3, 1) := by decide +kernel
theorem d_X_make_63 : decode b_X_make 63 = .ok (.invokevirtual 57, 3) := by decide +kernel
theorem d_X_make_66 : decode b_X_make 66 = .ok (.iinc 5 1, 3) := by decide +kernel
theorem d_X_make_69 : decode b_X_make 69 = .ok (.goto (-18), 3) := by decide +kernel
theorem d_X_make_72 : decode b_X_make 72 = .ok (.aload_n 0, 1) := by decide +kernel
theorem d_X_make_73 : decode b_X_make 73 = .ok (.getfield 10, 3) := by decide +kernel
theorem d_X_make_76 : decode b_X_make 76 = .ok (.iload_n 1, 1) := by decide +kernel
theorem d_X_make_77 : decode b_X_make 77 = .ok (.iconst 2, 1) := by decide +kernel
theorem d_X_make_78 : decode b_X_make 78 = .ok (.iload 4, 2) := by decide +kernel
theorem d_X_make_80 : decode b_X_make 80 = .ok (.invokevirtual 61, 3) := by decide +kernel
theorem d_X_make_83 : decode b_X_make 83 = .ok (.aload_n 0, 1) := by decide +kernel
theorem d_X_make_84 : decode b_X_make 84 = .ok (.dup, 1) := by decide +kernel
theorem d_X_make_85 : decode b_X_make 85 = .ok (.getfield 64, 3) := by decide +kernel
theorem d_X_make_88 : decode b_X_make 88 = .ok (.iconst 1, 1) := by decide +kernel
theorem d_X_make_89 : decode b_X_make 89 = .ok (.iadd, 1) := by decide +kernel
theorem d_X_make_90 : decode b_X_make 90 = .ok (.putfield 64, 3) := by decide +kernel
theorem d_X_make_93 : decode b_X_make 93 = .ok (.aload_n 0, 1) := by decide +kernel
theorem d_X_make_94 : decode b_X_make 94 = .ok (.getfield 21, 3) := by decide +kernel
theorem d_X_make_97 : decode b_X_make 97 = .ok (.invokevirtual 67, 3) := by decide +kernel
theorem d_X_make_100 : decode b_X_make 100 = .ok (.iconst 1, 1) := by decide +kernel
theorem d_X_make_101 : decode b_X_make 101 = .ok (.ireturn, 1) := by decide +kernel
theorem d_X_grow_0 : decode b_X_grow 0 = .ok (.iload_n 2, 1) := by decide +kernel
theorem d_X_grow_1 : decode b_X_grow 1 = .ok (.invokestatic 47, 3) := by decide +kernel
theorem d_X_grow_4 : decode b_X_grow 4 = .ok (.ifCond .eq 36, 3) := by decide +kernel
theorem d_X_grow_7 : decode b_X_grow 7 = .ok (.aload_n 0, 1) := by decide +kernel
theorem d_X_grow_8 : decode b_X_grow 8 = .ok (.getfield 10, 3) := by decide +kernel
theorem d_X_grow_11 : decode b_X_grow 11 = .ok (.iload_n 1, 1) := by decide +kernel
theorem d_X_grow_12 : decode b_X_grow 12 = .ok (.invokevirtual 70, 3) := by decide +kernel
theorem d_X_grow_15 : decode b_X_grow 15 = .ok (.ifCond .eq 25, 3) := by decide +kernel
theorem d_X_grow_18 : decode b_X_grow 18 = .ok (.aload_n 0, 1) := by decide +kernel
theorem d_X_grow_19 : decode b_X_grow 19 = .ok (.getfield 21, 3) := by decide +kernel
theorem d_X_grow_22 : decode b_X_grow 22 = .ok (.getfield 73, 3) := by decide +kernel
theorem d_X_grow_25 : decode b_X_grow 25 = .ok (.aload_n 0, 1) := by decide +kernel
theorem d_X_grow_26 : decode b_X_grow 26 = .ok (.getfield 10, 3) := by decide +kernel
theorem d_X_grow_29 : decode b_X_grow 29 = .ok (.getfield 42, 3) := by decide +kernel
theorem d_X_grow_32 : decode b_X_grow 32 = .ok (.iload_n 1, 1) := by decide +kernel
theorem d_X_grow_33 : decode b_X_grow 33 = .ok (.iaload, 1) := by decide +kernel
theorem d_X_grow_34 : decode b_X_grow 34 = .ok (.baload, 1) := by decide +kernel
theorem d_X_grow_35 : decode b_X_grow 35 = .ok (.bipush 20, 2) := by decide +kernel
theorem d_X_grow_37 : decode b_X_grow 37 = .ok (.if_icmp .ne 5, 3) := by decide +kernel
theorem d_X_grow_40 : decode b_X_grow 40 = .ok (.iconst (-1), 1) := by decide +kernel
theorem d_X_grow_41 : decode b_X_grow 41 = .ok (.ireturn, 1) := by decide +kernel
theorem d_X_grow_42 : decode b_X_grow 42 = .ok (.aload_n 0, 1) := by decide +kernel
theorem d_X_grow_43 : decode b_X_grow 43 = .ok (.iconst 1, 1) := by decide +kernel
theorem d_X_grow_44 : decode b_X_grow 44 = .ok (.invokevirtual 50, 3) := by decide +kernel
theorem d_X_grow_47 : decode b_X_grow 47 = .ok (.ifCond .ne 5, 3) := by decide +kernel
theorem d_X_grow_50 : decode b_X_grow 50 = .ok (.iconst 0, 1) := by decide +kernel
theorem d_X_grow_51 : decode b_X_grow 51 = .ok (.ireturn, 1) := by decide +kernel
theorem d_X_grow_52 : decode b_X_grow 52 = .ok (.aload_n 0, 1) := by decide +kernel
theorem d_X_grow_53 : decode b_X_grow 53 = .ok (.getfield 10, 3) := by decide +kernel
theorem d_X_grow_56 : decode b_X_grow 56 = .ok (.getfield 42, 3) := by decide +kernel
theorem d_X_grow_59 : decode b_X_grow 59 = .ok (.iload_n 1, 1) := by decide +kernel
theorem d_X_grow_60 : decode b_X_grow 60 = .ok (.iaload, 1) := by decide +kernel
theorem d_X_grow_61 : decode b_X_grow 61 = .ok (.istore_n 3, 1) := by decide +kernel
theorem d_X_grow_62 : decode b_X_grow 62 = .ok (.aload_n 0, 1) := by decide +kernel
theorem d_X_grow_63 : decode b_X_grow 63 = .ok (.getfield 21, 3) := by decide +kernel
theorem d_X_grow_66 : decode b_X_grow 66 = .ok (.getfield 73, 3) := by decide +kernel
theorem d_X_grow_69 : decode b_X_grow 69 = .ok (.iload_n 3, 1) := by decide +kernel
theorem d_X_grow_70 : decode b_X_grow 70 = .ok (.baload, 1) := by decide +kernel
theorem d_X_grow_71 : decode b_X_grow 71 = .ok (.istore 4, 2) := by decide +kernel
theorem d_X_grow_73 : decode b_X_grow 73 = .ok (.aload_n 0, 1) := by decide +kernel
theorem d_X_grow_74 : decode b_X_grow 74 = .ok (.getfield 21, 3) := by decide +kernel
theorem d_X_grow_77 : decode b_X_grow 77 = .ok (.getfield 73, 3) := by decide +kernel
theorem d_X_grow_80 : decode b_X_grow 80 = .ok (.iload_n 3, 1) := by decide +kernel
theorem d_X_grow_81 : decode b_X_grow 81 = .ok (.iload 4, 2) := by decide +kernel
theorem d_X_grow_83 : decode b_X_grow 83 = .ok (.iconst 1, 1) := by decide +kernel
theorem d_X_grow_84 : decode b_X_grow 84 = .ok (.iadd, 1) := by decide +kernel
theorem d_X_grow_85 : decode b_X_grow 85 = .ok (.i2b, 1) := by decide +kernel
theorem d_X_grow_86 : decode b_X_grow 86 = .ok (.bastore, 1) := by decide +kernel
theorem d_X_grow_87 : decode b_X_grow 87 = .ok (.aload_n 0, 1) := by decide +kernel
theorem d_X_grow_88 : decode b_X_grow 88 = .ok (.getfield 21, 3) := by decide +kernel
theorem d_X_grow_91 : decode b_X_grow 91 = .ok (.dup, 1) := by decide +kernel
theorem d_X_grow_92 : decode b_X_grow 92 = .ok (.getfield 76, 3) := by decide +kernel
theorem d_X_grow_95 : decode b_X_grow 95 = .ok (.iconst 1, 1) := by decide +kernel
theorem d_X_grow_96 : decode b_X_grow 96 = .ok (.iadd, 1) := by decide +kernel
theorem d_X_grow_97 : decode b_X_grow 97 = .ok (.putfield 76, 3) := by decide +kernel
theorem d_X_grow_100 : decode b_X_grow 100 = .ok (.aload_n 0, 1) := by decide +kernel
theorem d_X_grow_101 : decode b_X_grow 101 = .ok (.iload_n 3, 1) := by decide +kernel
theorem d_X_grow_102 : decode b_X_grow 102 = .ok (.iload 4, 2) := by decide +kernel
theorem d_X_grow_104 : decode b_X_grow 104 = .ok (.iload_n 2, 1) := by decide +kernel
theorem d_X_grow_105 : decode b_X_grow 105 = .ok (.invokevirtual 57, 3) := by decide +kernel
theorem d_X_grow_108 : decode b_X_grow 108 = .ok (.aload_n 0, 1) := by decide +kernel
theorem d_X_grow_109 : decode b_X_grow 109 = .ok (.getfield 21, 3) := by decide +kernel
theorem d_X_grow_112 : decode b_X_grow 112 = .ok (.invokevirtual 67, 3) := by decide +kernel
theorem d_X_grow_115 : decode b_X_grow 115 = .ok (.iload 4, 2) := by decide +kernel
theorem d_X_grow_117 : decode b_X_grow 117 = .ok (.iconst 1, 1) := by decide +kernel
theorem d_X_grow_118 : decode b_X_grow 118 = .ok (.iadd, 1) := by decide +kernel
theorem d_X_grow_119 : decode b_X_grow 119 = .ok (.ireturn, 1) := by decide +kernel
theorem d_X_shrink_0 : decode b_X_shrink 0 = .ok (.aload_n 0, 1) := by decide +kernel
theorem d_X_shrink_1 : decode b_X_shrink 1 = .ok (.getfield 10, 3) := by decide +kernel
theorem d_X_shrink_4 : decode b_X_shrink 4 = .ok (.iload_n 1, 1) := by decide +kernel
theorem d_X_shrink_5 : decode b_X_shrink 5 = .ok (.invokevirtual 70, 3) := by decide +kernel
theorem d_X_shrink_8 : decode b_X_shrink 8 = .ok (.ifCond .eq 23, 3) := by decide +kernel
theorem d_X_shrink_11 : decode b_X_shrink 11 = .ok (.aload_n 0, 1) := by decide +kernel
theorem d_X_shrink_12 : decode b_X_shrink 12 = .ok (.getfield 21, 3) := by decide +kernel
theorem d_X_shrink_15 : decode b_X_shrink 15 = .ok (.getfield 73, 3) := by decide +kernel
theorem d_X_shrink_18 : decode b_X_shrink 18 = .ok (.aload_n 0, 1) := by decide +kernel
theorem d_X_shrink_19 : decode b_X_shrink 19 = .ok (.getfield 10, 3) := by decide +kernel
theorem d_X_shrink_22 : decode b_X_shrink 22 = .ok (.getfield 42, 3) := by decide +kernel
theorem d_X_shrink_25 : decode b_X_shrink 25 = .ok (.iload_n 1, 1) := by decide +kernel
theorem d_X_shrink_26 : decode b_X_shrink 26 = .ok (.iaload, 1) := by decide +kernel
theorem d_X_shrink_27 : decode b_X_shrink 27 = .ok (.baload, 1) := by decide +kernel
theorem d_X_shrink_28 : decode b_X_shrink 28 = .ok (.ifCond .ne 5, 3) := by decide +kernel
theorem d_X_shrink_31 : decode b_X_shrink 31 = .ok (.iconst (-1), 1) := by decide +kernel
theorem d_X_shrink_32 : decode b_X_shrink 32 = .ok (.ireturn, 1) := by decide +kernel
theorem d_X_shrink_33 : decode b_X_shrink 33 = .ok (.aload_n 0, 1) := by decide +kernel
theorem d_X_shrink_34 : decode b_X_shrink 34 = .ok (.getfield 10, 3) := by decide +kernel
theorem d_X_shrink_37 : decode b_X_shrink 37 = .ok (.getfield 42, 3) := by decide +kernel
theorem d_X_shrink_40 : decode b_X_shrink 40 = .ok (.iload_n 1, 1) := by decide +kernel
theorem d_X_shrink_41 : decode b_X_shrink 41 = .ok (.iaload, 1) := by decide +kernel
theorem d_X_shrink_42 : decode b_X_shrink 42 = .ok (.istore_n 2, 1) := by decide +kernel
theorem d_X_shrink_43 : decode b_X_shrink 43 = .ok (.aload_n 0, 1) := by decide +kernel
theorem d_X_shrink_44 : decode b_X_shrink 44 = .ok (.getfield 21, 3) := by decide +kernel
theorem d_X_shrink_47 : decode b_X_shrink 47 = .ok (.getfield 73, 3) := by decide +kernel
theorem d_X_shrink_50 : decode b_X_shrink 50 = .ok (.iload_n 2, 1) := by decide +kernel
theorem d_X_shrink_51 : decode b_X_shrink 51 = .ok (.dup2, 1) := by decide +kernel
theorem d_X_shrink_52 : decode b_X_shrink 52 = .ok (.baload, 1) := by decide +kernel
theorem d_X_shrink_53 : decode b_X_shrink 53 = .ok (.iconst 1, 1) := by decide +kernel
theorem d_X_shrink_54 : decode b_X_shrink 54 = .ok (.isub, 1) := by decide +kernel
theorem d_X_shrink_55 : decode b_X_shrink 55 = .ok (.i2b, 1) := by decide +kernel
theorem d_X_shrink_56 : decode b_X_shrink 56 = .ok (.bastore, 1) := by decide +kernel
theorem d_X_shrink_57 : decode b_X_shrink 57 = .ok (.aload_n 0, 1) := by decide +kernel
theorem d_X_shrink_58 : decode b_X_shrink 58 = .ok (.getfield 21, 3) := by decide +kernel
theorem d_X_shrink_61 : decode b_X_shrink 61 = .ok (.dup, 1) := by decide +kernel
theorem d_X_shrink_62 : decode b_X_shrink 62 = .ok (.getfield 76, 3) := by decide +kernel
theorem d_X_shrink_65 : decode b_X_shrink 65 = .ok (.iconst 1, 1) := by decide +kernel
theorem d_X_shrink_66 : decode b_X_shrink 66 = .ok (.isub, 1) := by decide +kernel
theorem d_X_shrink_67 : decode b_X_shrink 67 = .ok (.putfield 76, 3) := by decide +kernel
theorem d_X_shrink_70 : decode b_X_shrink 70 = .ok (.aload_n 0, 1) := by decide +kernel
theorem d_X_shrink_71 : decode b_X_shrink 71 = .ok (.getfield 21, 3) := by decide +kernel
theorem d_X_shrink_74 : decode b_X_shrink 74 = .ok (.getfield 73, 3) := by decide +kernel
theorem d_X_shrink_77 : decode b_X_shrink 77 = .ok (.iload_n 2, 1) := by decide +kernel
theorem d_X_shrink_78 : decode b_X_shrink 78 = .ok (.baload, 1) := by decide +kernel
theorem d_X_shrink_79 : decode b_X_shrink 79 = .ok (.ireturn, 1) := by decide +kernel
theorem d_X_number_0 : decode b_X_number 0 = .ok (.iload_n 1, 1) := by decide +kernel
theorem d_X_number_1 : decode b_X_number 1 = .ok (.invokestatic 47, 3) := by decide +kernel
theorem d_X_number_4 : decode b_X_number 4 = .ok (.ifCond .ne 5, 3) := by decide +kernel
theorem d_X_number_7 : decode b_X_number 7 = .ok (.iconst 0, 1) := by decide +kernel
theorem d_X_number_8 : decode b_X_number 8 = .ok (.ireturn, 1) := by decide +kernel
theorem d_X_number_9 : decode b_X_number 9 = .ok (.aload_n 0, 1) := by decide +kernel
theorem d_X_number_10 : decode b_X_number 10 = .ok (.getfield 10, 3) := by decide +kernel
theorem d_X_number_13 : decode b_X_number 13 = .ok (.iload_n 1, 1) := by decide +kernel
theorem d_X_number_14 : decode b_X_number 14 = .ok (.iconst 1, 1) := by decide +kernel
theorem d_X_number_15 : decode b_X_number 15 = .ok (.iload_n 2, 1) := by decide +kernel
theorem d_X_number_16 : decode b_X_number 16 = .ok (.invokevirtual 61, 3) := by decide +kernel
theorem d_X_number_19 : decode b_X_number 19 = .ok (.iconst 1, 1) := by decide +kernel
theorem d_X_number_20 : decode b_X_number 20 = .ok (.ireturn, 1) := by decide +kernel
theorem d_X_copy_0 : decode b_X_copy 0 = .ok (.iload_n 1, 1) := by decide +kernel
theorem d_X_copy_1 : decode b_X_copy 1 = .ok (.invokestatic 47, 3) := by decide +kernel
theorem d_X_copy_4 : decode b_X_copy 4 = .ok (.ifCond .eq 15, 3) := by decide +kernel
theorem d_X_copy_7 : decode b_X_copy 7 = .ok (.iload_n 2, 1) := by decide +kernel
theorem d_X_copy_8 : decode b_X_copy 8 = .ok (.iconst (-1), 1) := by decide +kernel
theorem d_X_copy_9 : decode b_X_copy 9 = .ok (.if_icmp .eq 12, 3) := by decide +kernel
theorem d_X_copy_12 : decode b_X_copy 12 = .ok (.iload_n 2, 1) := by decide +kernel
theorem d_X_copy_13 : decode b_X_copy 13 = .ok (.invokestatic 47, 3) := by decide +kernel
theorem d_X_copy_16 : decode b_X_copy 16 = .ok (.ifCond .ne 5, 3) := by decide +kernel
theorem d_X_copy_19 : decode b_X_copy 19 = .ok (.iconst 0, 1) := by decide +kernel
theorem d_X_copy_20 : decode b_X_copy 20 = .ok (.ireturn, 1) := by decide +kernel
theorem d_X_copy_21 : decode b_X_copy 21 = .ok (.iload_n 2, 1) := by decide +kernel
theorem d_X_copy_22 : decode b_X_copy 22 = .ok (.iconst (-1), 1) := by decide +kernel
theorem d_X_copy_23 : decode b_X_copy 23 = .ok (.if_icmp .ne 16, 3) := by decide +kernel
theorem d_X_copy_26 : decode b_X_copy 26 = .ok (.aload_n 0, 1) := by decide +kernel
theorem d_X_copy_27 : decode b_X_copy 27 = .ok (.getfield 10, 3) := by decide +kernel
theorem d_X_copy_30 : decode b_X_copy 30 = .ok (.iload_n 1, 1) := by decide +kernel
theorem d_X_copy_31 : decode b_X_copy 31 = .ok (.iconst 0, 1) := by decide +kernel
theorem d_X_copy_32 : decode b_X_copy 32 = .ok (.iconst 0, 1) := by decide +kernel
theorem d_X_copy_33 : decode b_X_copy 33 = .ok (.invokevirtual 61, 3) := by decide +kernel
theorem d_X_copy_36 : decode b_X_copy 36 = .ok (.goto 29, 3) := by decide +kernel
theorem d_X_copy_39 : decode b_X_copy 39 = .ok (.aload_n 0, 1) := by decide +kernel
theorem d_X_copy_40 : decode b_X_copy 40 = .ok (.getfield 10, 3) := by decide +kernel
theorem d_X_copy_43 : decode b_X_copy 43 = .ok (.iload_n 1, 1) := by decide +kernel
theorem d_X_copy_44 : decode b_X_copy 44 = .ok (.aload_n 0, 1) := by decide +kernel
theorem d_X_copy_45 : decode b_X_copy 45 = .ok (.getfield 10, 3) := by decide +kernel
theorem d_X_copy_48 : decode b_X_copy 48 = .ok (.getfield 37, 3) := by decide +kernel
theorem d_X_copy_51 : decode b_X_copy 51 = .ok (.iload_n 2, 1) := by decide +kernel
theorem d_X_copy_52 : decode b_X_copy 52 = .ok (.baload, 1) := by decide +kernel
theorem d_X_copy_53 : decode b_X_copy 53 = .ok (.aload_n 0, 1) := by decide +kernel
theorem d_X_copy_54 : decode b_X_copy 54 = .ok (.getfield 10, 3) := by decide +kernel
theorem d_X_copy_57 : decode b_X_copy 57 = .ok (.getfield 42, 3) := by decide +kernel
theorem d_X_copy_60 : decode b_X_copy 60 = .ok (.iload_n 2, 1) := by decide +kernel
theorem d_X_copy_61 : decode b_X_copy 61 = .ok (.iaload, 1) := by decide +kernel
theorem d_X_copy_62 : decode b_X_copy 62 = .ok (.invokevirtual 61, 3) := by decide +kernel
theorem d_X_copy_65 : decode b_X_copy 65 = .ok (.iconst 1, 1) := by decide +kernel
theorem d_X_copy_66 : decode b_X_copy 66 = .ok (.ireturn, 1) := by decide +kernel
theorem d_X_hasValue_0 : decode b_X_hasValue 0 = .ok (.aload_n 0, 1) := by decide +kernel
theorem d_X_hasValue_1 : decode b_X_hasValue 1 = .ok (.getfield 10, 3) := by decide +kernel
theorem d_X_hasValue_4 : decode b_X_hasValue 4 = .ok (.iload_n 1, 1) := by decide +kernel
theorem d_X_hasValue_5 : decode b_X_hasValue 5 = .ok (.invokevirtual 70, 3) := by decide +kernel
theorem d_X_hasValue_8 : decode b_X_hasValue 8 = .ok (.ifCond .eq 32, 3) := by decide +kernel
theorem d_X_hasValue_11 : decode b_X_hasValue 11 = .ok (.iload_n 2, 1) := by decide +kernel
theorem d_X_hasValue_12 : decode b_X_hasValue 12 = .ok (.ifCond .lt 28, 3) := by decide +kernel
theorem d_X_hasValue_15 : decode b_X_hasValue 15 = .ok (.iload_n 2, 1) := by decide +kernel
theorem d_X_hasValue_16 : decode b_X_hasValue 16 = .ok (.aload_n 0, 1) := by decide +kernel
theorem d_X_hasValue_17 : decode b_X_hasValue 17 = .ok (.getfield 21, 3) := by decide +kernel
theorem d_X_hasValue_20 : decode b_X_hasValue 20 = .ok (.getfield 73, 3) := by decide +kernel
theorem d_X_hasValue_23 : decode b_X_hasValue 23 = .ok (.aload_n 0, 1) := by decide +kernel
theorem d_X_hasValue_24 : decode b_X_hasValue 24 = .ok (.getfield 10, 3) := by decide +kernel
theorem d_X_hasValue_27 : decode b_X_hasValue 27 = .ok (.getfield 42, 3) := by decide +kernel
theorem d_X_hasValue_30 : decode b_X_hasValue 30 = .ok (.iload_n 1, 1) := by decide +kernel
theorem d_X_hasValue_31 : decode b_X_hasValue 31 = .ok (.iaload, 1) := by decide +kernel
theorem d_X_hasValue_32 : decode b_X_hasValue 32 = .ok (.baload, 1) := by decide +kernel
theorem d_X_hasValue_33 : decode b_X_hasValue 33 = .ok (.if_icmp .ge 7, 3) := by decide +kernel
theorem d_X_hasValue_36 : decode b_X_hasValue 36 = .ok (.iconst 1, 1) := by decide +kernel
theorem d_X_hasValue_37 : decode b_X_hasValue 37 = .ok (.goto 4, 3) := by decide +kernel
theorem d_X_hasValue_40 : decode b_X_hasValue 40 = .ok (.iconst 0, 1) := by decide +kernel
theorem d_X_hasValue_41 : decode b_X_hasValue 41 = .ok (.ireturn, 1) := by decide +kernel
theorem d_X_get_0 : decode b_X_get 0 = .ok (.iload_n 1, 1) := by decide +kernel
theorem d_X_get_1 : decode b_X_get 1 = .ok (.invokestatic 47, 3) := by decide +kernel
theorem d_X_get_4 : decode b_X_get 4 = .ok (.ifCond .eq 12, 3) := by decide +kernel
theorem d_X_get_7 : decode b_X_get 7 = .ok (.aload_n 0, 1) := by decide +kernel
theorem d_X_get_8 : decode b_X_get 8 = .ok (.iload_n 2, 1) := by decide +kernel
theorem d_X_get_9 : decode b_X_get 9 = .ok (.iload_n 3, 1) := by decide +kernel
theorem d_X_get_10 : decode b_X_get 10 = .ok (.invokevirtual 79, 3) := by decide +kernel
theorem d_X_get_13 : decode b_X_get 13 = .ok (.ifCond .ne 5, 3) := by decide +kernel
theorem d_X_get_16 : decode b_X_get 16 = .ok (.iconst 0, 1) := by decide +kernel
theorem d_X_get_17 : decode b_X_get 17 = .ok (.ireturn, 1) := by decide +kernel
theorem d_X_get_18 : decode b_X_get 18 = .ok (.bipush 20, 2) := by decide +kernel
theorem d_X_get_20 : decode b_X_get 20 = .ok (.aload_n 0, 1) := by decide +kernel
theorem d_X_get_21 : decode b_X_get 21 = .ok (.getfield 10, 3) := by decide +kernel
theorem d_X_get_24 : decode b_X_get 24 = .ok (.getfield 42, 3) := by decide +kernel
theorem d_X_get_27 : decode b_X_get 27 = .ok (.iload_n 2, 1) := by decide +kernel
theorem d_X_get_28 : decode b_X_get 28 = .ok (.iaload, 1) := by decide +kernel
theorem d_X_get_29 : decode b_X_get 29 = .ok (.imul, 1) := by decide +kernel
theorem d_X_get_30 : decode b_X_get 30 = .ok (.iload_n 3, 1) := by decide +kernel
theorem d_X_get_31 : decode b_X_get 31 = .ok (.iadd, 1) := by decide +kernel
theorem d_X_get_32 : decode b_X_get 32 = .ok (.istore 4, 2) := by decide +kernel
theorem d_X_get_34 : decode b_X_get 34 = .ok (.aload_n 0, 1) := by decide +kernel
theorem d_X_get_35 : decode b_X_get 35 = .ok (.getfield 10, 3) := by decide +kernel
theorem d_X_get_38 : decode b_X_get 38 = .ok (.iload_n 1, 1) := by decide +kernel
theorem d_X_get_39 : decode b_X_get 39 = .ok (.aload_n 0, 1) := by decide +kernel
theorem d_X_get_40 : decode b_X_get 40 = .ok (.getfield 21, 3) := by decide +kernel
theorem d_X_get_43 : decode b_X_get 43 = .ok (.getfield 33, 3) := by decide +kernel
theorem d_X_get_46 : decode b_X_get 46 = .ok (.iload 4, 2) := by decide +kernel
theorem d_X_get_48 : decode b_X_get 48 = .ok (.baload, 1) := by decide +kernel
theorem d_X_get_49 : decode b_X_get 49 = .ok (.aload_n 0, 1) := by decide +kernel
theorem d_X_get_50 : decode b_X_get 50 = .ok (.getfield 21, 3) := by decide +kernel
theorem d_X_get_53 : decode b_X_get 53 = .ok (.getfield 38, 3) := by decide +kernel
theorem d_X_get_56 : decode b_X_get 56 = .ok (.iload 4, 2) := by decide +kernel
theorem d_X_get_58 : decode b_X_get 58 = .ok (.iaload, 1) := by decide +kernel
theorem d_X_get_59 : decode b_X_get 59 = .ok (.invokevirtual 61, 3) := by decide +kernel
theorem d_X_get_62 : decode b_X_get 62 = .ok (.iconst 1, 1) := by decide +kernel
theorem d_X_get_63 : decode b_X_get 63 = .ok (.ireturn, 1) := by decide +kernel
theorem d_X_set_0 : decode b_X_set 0 = .ok (.iload_n 3, 1) := by decide +kernel
theorem d_X_set_1 : decode b_X_set 1 = .ok (.invokestatic 47, 3) := by decide +kernel
theorem d_X_set_4 : decode b_X_set 4 = .ok (.ifCond .eq 12, 3) := by decide +kernel
theorem d_X_set_7 : decode b_X_set 7 = .ok (.aload_n 0, 1) := by decide +kernel
theorem d_X_set_8 : decode b_X_set 8 = .ok (.iload_n 1, 1) := by decide +kernel
theorem d_X_set_9 : decode b_X_set 9 = .ok (.iload_n 2, 1) := by decide +kernel
theorem d_X_set_10 : decode b_X_set 10 = .ok (.invokevirtual 79, 3) := by decide +kernel
theorem d_X_set_13 : decode b_X_set 13 = .ok (.ifCond .ne 5, 3) := by decide +kernel
theorem d_X_set_16 : decode b_X_set 16 = .ok (.iconst 0, 1) := by decide +kernel
theorem d_X_set_17 : decode b_X_set 17 = .ok (.ireturn, 1) := by decide +kernel
theorem d_X_set_18 : decode b_X_set 18 = .ok (.aload_n 0, 1) := by decide +kernel
theorem d_X_set_19 : decode b_X_set 19 = .ok (.aload_n 0, 1) := by decide +kernel
theorem d_X_set_20 : decode b_X_set 20 = .ok (.getfield 10, 3) := by decide +kernel
theorem d_X_set_23 : decode b_X_set 23 = .ok (.getfield 42, 3) := by decide +kernel
theorem d_X_set_26 : decode b_X_set 26 = .ok (.iload_n 1, 1) := by decide +kernel
theorem d_X_set_27 : decode b_X_set 27 = .ok (.iaload, 1) := by decide +kernel
theorem d_X_set_28 : decode b_X_set 28 = .ok (.iload_n 2, 1) := by decide +kernel
theorem d_X_set_29 : decode b_X_set 29 = .ok (.iload_n 3, 1) := by decide +kernel
theorem d_X_set_30 : decode b_X_set 30 = .ok (.invokevirtual 57, 3) := by decide +kernel
theorem d_X_set_33 : decode b_X_set 33 = .ok (.iconst 1, 1) := by decide +kernel
theorem d_X_set_34 : decode b_X_set 34 = .ok (.ireturn, 1) := by decide +kernel
theorem d_X_push_0 : decode b_X_push 0 = .ok (.iload_n 1, 1) := by decide +kernel
theorem d_X_push_1 : decode b_X_push 1 = .ok (.invokestatic 47, 3) := by decide +kernel
theorem d_X_push_4 : decode b_X_push 4 = .ok (.ifCond .eq 15, 3) := by decide +kernel
theorem d_X_push_7 : decode b_X_push 7 = .ok (.aload_n 0, 1) := by decide +kernel
theorem d_X_push_8 : decode b_X_push 8 = .ok (.getfield 10, 3) := by decide +kernel
theorem d_X_push_11 : decode b_X_push 11 = .ok (.getfield 83, 3) := by decide +kernel
theorem d_X_push_14 : decode b_X_push 14 = .ok (.bipush 50, 2) := by decide +kernel
theorem d_X_push_16 : decode b_X_push 16 = .ok (.if_icmp .ne 5, 3) := by decide +kernel
theorem d_X_push_19 : decode b_X_push 19 = .ok (.iconst (-1), 1) := by decide +kernel
theorem d_X_push_20 : decode b_X_push 20 = .ok (.ireturn, 1) := by decide +kernel
theorem d_X_push_21 : decode b_X_push 21 = .ok (.aload_n 0, 1) := by decide +kernel
theorem d_X_push_22 : decode b_X_push 22 = .ok (.getfield 10, 3) := by decide +kernel
theorem d_X_push_25 : decode b_X_push 25 = .ok (.bipush 10, 2) := by decide +kernel
theorem d_X_push_27 : decode b_X_push 27 = .ok (.aload_n 0, 1) := by decide +kernel
theorem d_X_push_28 : decode b_X_push 28 = .ok (.getfield 10, 3) := by decide +kernel
theorem d_X_push_31 : decode b_X_push 31 = .ok (.getfield 83, 3) := by decide +kernel
theorem d_X_push_34 : decode b_X_push 34 = .ok (.iadd, 1) := by decide +kernel
theorem d_X_push_35 : decode b_X_push 35 = .ok (.aload_n 0, 1) := by decide +kernel
theorem d_X_push_36 : decode b_X_push 36 = .ok (.getfield 10, 3) := by decide +kernel
theorem d_X_push_39 : decode b_X_push 39 = .ok (.getfield 37, 3) := by decide +kernel
theorem d_X_push_42 : decode b_X_push 42 = .ok (.iload_n 1, 1) := by decide +kernel
theorem d_X_push_43 : decode b_X_push 43 = .ok (.baload, 1) := by decide +kernel
theorem d_X_push_44 : decode b_X_push 44 = .ok (.aload_n 0, 1) := by decide +kernel
theorem d_X_push_45 : decode b_X_push 45 = .ok (.getfield 10, 3) := by decide +kernel
theorem d_X_push_48 : decode b_X_push 48 = .ok (.getfield 42, 3) := by decide +kernel
theorem d_X_push_51 : decode b_X_push 51 = .ok (.iload_n 1, 1) := by decide +kernel
theorem d_X_push_52 : decode b_X_push 52 = .ok (.iaload, 1) := by decide +kernel
theorem d_X_push_53 : decode b_X_push 53 = .ok (.invokevirtual 61, 3) := by decide +kernel
theorem d_X_push_56 : decode b_X_push 56 = .ok (.aload_n 0, 1) := by decide +kernel
theorem d_X_push_57 : decode b_X_push 57 = .ok (.getfield 10, 3) := by decide +kernel
theorem d_X_push_60 : decode b_X_push 60 = .ok (.dup, 1) := by decide +kernel
theorem d_X_push_61 : decode b_X_push 61 = .ok (.getfield 83, 3) := by decide +kernel
theorem d_X_push_64 : decode b_X_push 64 = .ok (.iconst 1, 1) := by decide +kernel
theorem d_X_push_65 : decode b_X_push 65 = .ok (.iadd, 1) := by decide +kernel
theorem d_X_push_66 : decode b_X_push 66 = .ok (.putfield 83, 3) := by decide +kernel
theorem d_X_push_69 : decode b_X_push 69 = .ok (.aload_n 0, 1) := by decide +kernel
theorem d_X_push_70 : decode b_X_push 70 = .ok (.getfield 10, 3) := by decide +kernel
theorem d_X_push_73 : decode b_X_push 73 = .ok (.iload_n 1, 1) := by decide +kernel
theorem d_X_push_74 : decode b_X_push 74 = .ok (.iconst 0, 1) := by decide +kernel
theorem d_X_push_75 : decode b_X_push 75 = .ok (.iconst 0, 1) := by decide +kernel
theorem d_X_push_76 : decode b_X_push 76 = .ok (.invokevirtual 61, 3) := by decide +kernel
theorem d_X_push_79 : decode b_X_push 79 = .ok (.aload_n 0, 1) := by decide +kernel
theorem d_X_push_80 : decode b_X_push 80 = .ok (.getfield 10, 3) := by decide +kernel
theorem d_X_push_83 : decode b_X_push 83 = .ok (.getfield 83, 3) := by decide +kernel
theorem d_X_push_86 : decode b_X_push 86 = .ok (.ireturn, 1) := by decide +kernel
theorem d_X_pop_0 : decode b_X_pop 0 = .ok (.iload_n 1, 1) := by decide +kernel
theorem d_X_pop_1 : decode b_X_pop 1 = .ok (.invokestatic 47, 3) := by decide +kernel
theorem d_X_pop_4 : decode b_X_pop 4 = .ok (.ifCond .eq 13, 3) := by decide +kernel
theorem d_X_pop_7 : decode b_X_pop 7 = .ok (.aload_n 0, 1) := by decide +kernel
theorem d_X_pop_8 : decode b_X_pop 8 = .ok (.getfield 10, 3) := by decide +kernel
theorem d_X_pop_11 : decode b_X_pop 11 = .ok (.getfield 83, 3) := by decide +kernel
theorem d_X_pop_14 : decode b_X_pop 14 = .ok (.ifCond .ne 5, 3) := by decide +kernel
theorem d_X_pop_17 : decode b_X_pop 17 = .ok (.iconst (-1), 1) := by decide +kernel
theorem d_X_pop_18 : decode b_X_pop 18 = .ok (.ireturn, 1) := by decide +kernel
theorem d_X_pop_19 : decode b_X_pop 19 = .ok (.aload_n 0, 1) := by decide +kernel
theorem d_X_pop_20 : decode b_X_pop 20 = .ok (.getfield 10, 3) := by decide +kernel
theorem d_X_pop_23 : decode b_X_pop 23 = .ok (.dup, 1) := by decide +kernel
theorem d_X_pop_24 : decode b_X_pop 24 = .ok (.getfield 83, 3) := by decide +kernel
theorem d_X_pop_27 : decode b_X_pop 27 = .ok (.iconst 1, 1) := by decide +kernel
theorem d_X_pop_28 : decode b_X_pop 28 = .ok (.isub, 1) := by decide +kernel
theorem d_X_pop_29 : decode b_X_pop 29 = .ok (.putfield 83, 3) := by decide +kernel
theorem d_X_pop_32 : decode b_X_pop 32 = .ok (.aload_n 0, 1) := by decide +kernel
theorem d_X_pop_33 : decode b_X_pop 33 = .ok (.getfield 10, 3) := by decide +kernel
theorem d_X_pop_36 : decode b_X_pop 36 = .ok (.iload_n 1, 1) := by decide +kernel
theorem d_X_pop_37 : decode b_X_pop 37 = .ok (.aload_n 0, 1) := by decide +kernel
theorem d_X_pop_38 : decode b_X_pop 38 = .ok (.getfield 10, 3) := by decide +kernel
theorem d_X_pop_41 : decode b_X_pop 41 = .ok (.getfield 37, 3) := by decide +kernel
theorem d_X_pop_44 : decode b_X_pop 44 = .ok (.bipush 10, 2) := by decide +kernel
theorem d_X_pop_46 : decode b_X_pop 46 = .ok (.aload_n 0, 1) := by decide +kernel
theorem d_X_pop_47 : decode b_X_pop 47 = .ok (.getfield 10, 3) := by decide +kernel
theorem d_X_pop_50 : decode b_X_pop 50 = .ok (.getfield 83, 3) := by decide +kernel
theorem d_X_pop_53 : decode b_X_pop 53 = .ok (.iadd, 1) := by decide +kernel
theorem d_X_pop_54 : decode b_X_pop 54 = .ok (.baload, 1) := by decide +kernel
theorem d_X_pop_55 : decode b_X_pop 55 = .ok (.aload_n 0, 1) := by decide +kernel
theorem d_X_pop_56 : decode b_X_pop 56 = .ok (.getfield 10, 3) := by decide +kernel
theorem d_X_pop_59 : decode b_X_pop 59 = .ok (.getfield 42, 3) := by decide +kernel
theorem d_X_pop_62 : decode b_X_pop 62 = .ok (.bipush 10, 2) := by decide +kernel
theorem d_X_pop_64 : decode b_X_pop 64 = .ok (.aload_n 0, 1) := by decide +kernel
theorem d_X_pop_65 : decode b_X_pop 65 = .ok (.getfield 10, 3) := by decide +kernel
theorem d_X_pop_68 : decode b_X_pop 68 = .ok (.getfield 83, 3) := by decide +kernel
theorem d_X_pop_71 : decode b_X_pop 71 = .ok (.iadd, 1) := by decide +kernel
theorem d_X_pop_72 : decode b_X_pop 72 = .ok (.iaload, 1) := by decide +kernel
theorem d_X_pop_73 : decode b_X_pop 73 = .ok (.invokevirtual 61, 3) := by decide +kernel
theorem d_X_pop_76 : decode b_X_pop 76 = .ok (.aload_n 0, 1) := by decide +kernel
theorem d_X_pop_77 : decode b_X_pop 77 = .ok (.getfield 10, 3) := by decide +kernel
theorem d_X_pop_80 : decode b_X_pop 80 = .ok (.getfield 83, 3) := by decide +kernel
theorem d_X_pop_83 : decode b_X_pop 83 = .ok (.ireturn, 1) := by decide +kernel
theorem d_X_look_0 : decode b_X_look 0 = .ok (.iload_n 1, 1) := by decide +kernel
theorem d_X_look_1 : decode b_X_look 1 = .ok (.invokestatic 47, 3) := by decide +kernel
theorem d_X_look_4 : decode b_X_look 4 = .ok (.ifCond .ne 7, 3) := by decide +kernel
theorem d_X_look_7 : decode b_X_look 7 = .ok (.iconst (-1), 1) := by decide +kernel
theorem d_X_look_8 : decode b_X_look 8 = .ok (.goto 55, 3) := by decide +kernel
theorem d_X_look_11 : decode b_X_look 11 = .ok (.aload_n 0, 1) := by decide +kernel
theorem d_X_look_12 : decode b_X_look 12 = .ok (.getfield 10, 3) := by decide +kernel
theorem d_X_look_15 : decode b_X_look 15 = .ok (.getfield 37, 3) := by decide +kernel
theorem d_X_look_18 : decode b_X_look 18 = .ok (.iload_n 1, 1) := by decide +kernel
theorem d_X_look_19 : decode b_X_look 19 = .ok (.baload, 1) := by decide +kernel
theorem d_X_look_20 : decode b_X_look 20 = .ok (.ifCond .ne 8, 3) := by decide +kernel
theorem d_X_look_23 : decode b_X_look 23 = .ok (.bipush (-2), 2) := by decide +kernel
theorem d_X_look_25 : decode b_X_look 25 = .ok (.goto 38, 3) := by decide +kernel
theorem d_X_look_28 : decode b_X_look 28 = .ok (.aload_n 0, 1) := by decide +kernel
theorem d_X_look_29 : decode b_X_look 29 = .ok (.getfield 10, 3) := by decide +kernel
theorem d_X_look_32 : decode b_X_look 32 = .ok (.getfield 37, 3) := by decide +kernel
theorem d_X_look_35 : decode b_X_look 35 = .ok (.iload_n 1, 1) := by decide +kernel
theorem d_X_look_36 : decode b_X_look 36 = .ok (.baload, 1) := by decide +kernel
theorem d_X_look_37 : decode b_X_look 37 = .ok (.iconst 1, 1) := by decide +kernel
theorem d_X_look_38 : decode b_X_look 38 = .ok (.if_icmp .ne 8, 3) := by decide +kernel
theorem d_X_look_41 : decode b_X_look 41 = .ok (.bipush (-3), 2) := by decide +kernel
theorem d_X_look_43 : decode b_X_look 43 = .ok (.goto 20, 3) := by decide +kernel
theorem d_X_look_46 : decode b_X_look 46 = .ok (.aload_n 0, 1) := by decide +kernel
theorem d_X_look_47 : decode b_X_look 47 = .ok (.getfield 21, 3) := by decide +kernel
theorem d_X_look_50 : decode b_X_look 50 = .ok (.getfield 73, 3) := by decide +kernel
theorem d_X_look_53 : decode b_X_look 53 = .ok (.aload_n 0, 1) := by decide +kernel
theorem d_X_look_54 : decode b_X_look 54 = .ok (.getfield 10, 3) := by decide +kernel
theorem d_X_look_57 : decode b_X_look 57 = .ok (.getfield 42, 3) := by decide +kernel
theorem d_X_look_60 : decode b_X_look 60 = .ok (.iload_n 1, 1) := by decide +kernel
theorem d_X_look_61 : decode b_X_look 61 = .ok (.iaload, 1) := by decide +kernel
theorem d_X_look_62 : decode b_X_look 62 = .ok (.baload, 1) := by decide +kernel
theorem d_X_look_63 : decode b_X_look 63 = .ok (.ireturn, 1) := by decide +kernel
theorem d_X_numberIn_0 : decode b_X_numberIn 0 = .ok (.iload_n 1, 1) := by decide +kernel
theorem d_X_numberIn_1 : decode b_X_numberIn 1 = .ok (.invokestatic 47, 3) := by decide +kernel
theorem d_X_numberIn_4 : decode b_X_numberIn 4 = .ok (.ifCond .eq 28, 3) := by decide +kernel
theorem d_X_numberIn_7 : decode b_X_numberIn 7 = .ok (.aload_n 0, 1) := by decide +kernel
theorem d_X_numberIn_8 : decode b_X_numberIn 8 = .ok (.getfield 10, 3) := by decide +kernel
theorem d_X_numberIn_11 : decode b_X_numberIn 11 = .ok (.getfield 37, 3) := by decide +kernel
theorem d_X_numberIn_14 : decode b_X_numberIn 14 = .ok (.iload_n 1, 1) := by decide +kernel
theorem d_X_numberIn_15 : decode b_X_numberIn 15 = .ok (.baload, 1) := by decide +kernel
theorem d_X_numberIn_16 : decode b_X_numberIn 16 = .ok (.iconst 1, 1) := by decide +kernel
theorem d_X_numberIn_17 : decode b_X_numberIn 17 = .ok (.if_icmp .ne 15, 3) := by decide +kernel
theorem d_X_numberIn_20 : decode b_X_numberIn 20 = .ok (.aload_n 0, 1) := by decide +kernel
theorem d_X_numberIn_21 : decode b_X_numberIn 21 = .ok (.getfield 10, 3) := by decide +kernel
theorem d_X_numberIn_24 : decode b_X_numberIn 24 = .ok (.getfield 42, 3) := by decide +kernel
theorem d_X_numberIn_27 : decode b_X_numberIn 27 = .ok (.iload_n 1, 1) := by decide +kernel
theorem d_X_numberIn_28 : decode b_X_numberIn 28 = .ok (.iaload, 1) := by decide +kernel
theorem d_X_numberIn_29 : decode b_X_numberIn 29 = .ok (.goto 4, 3) := by decide +kernel
theorem d_X_numberIn_32 : decode b_X_numberIn 32 = .ok (.iconst 0, 1) := by decide +kernel
theorem d_X_numberIn_33 : decode b_X_numberIn 33 = .ok (.ireturn, 1) := by decide +kernel
theorem d_X_same_0 : decode b_X_same 0 = .ok (.iload_n 1, 1) := by decide +kernel
theorem d_X_same_1 : decode b_X_same 1 = .ok (.invokestatic 47, 3) := by decide +kernel
theorem d_X_same_4 : decode b_X_same 4 = .ok (.ifCond .eq 10, 3) := by decide +kernel
theorem d_X_same_7 : decode b_X_same 7 = .ok (.iload_n 2, 1) := by decide +kernel
theorem d_X_same_8 : decode b_X_same 8 = .ok (.invokestatic 47, 3) := by decide +kernel
theorem d_X_same_11 : decode b_X_same 11 = .ok (.ifCond .ne 7, 3) := by decide +kernel
theorem d_X_same_14 : decode b_X_same 14 = .ok (.iconst (-1), 1) := by decide +kernel
theorem d_X_same_15 : decode b_X_same 15 = .ok (.goto 50, 3) := by decide +kernel
theorem d_X_same_18 : decode b_X_same 18 = .ok (.aload_n 0, 1) := by decide +kernel
theorem d_X_same_19 : decode b_X_same 19 = .ok (.getfield 10, 3) := by decide +kernel
theorem d_X_same_22 : decode b_X_same 22 = .ok (.getfield 37, 3) := by decide +kernel
theorem d_X_same_25 : decode b_X_same 25 = .ok (.iload_n 1, 1) := by decide +kernel
theorem d_X_same_26 : decode b_X_same 26 = .ok (.baload, 1) := by decide +kernel
theorem d_X_same_27 : decode b_X_same 27 = .ok (.aload_n 0, 1) := by decide +kernel
theorem d_X_same_28 : decode b_X_same 28 = .ok (.getfield 10, 3) := by decide +kernel
theorem d_X_same_31 : decode b_X_same 31 = .ok (.getfield 37, 3) := by decide +kernel
theorem d_X_same_34 : decode b_X_same 34 = .ok (.iload_n 2, 1) := by decide +kernel
theorem d_X_same_35 : decode b_X_same 35 = .ok (.baload, 1) := by decide +kernel
theorem d_X_same_36 : decode b_X_same 36 = .ok (.if_icmp .ne 28, 3) := by decide +kernel
theorem d_X_same_39 : decode b_X_same 39 = .ok (.aload_n 0, 1) := by decide +kernel
theorem d_X_same_40 : decode b_X_same 40 = .ok (.getfield 10, 3) := by decide +kernel
theorem d_X_same_43 : decode b_X_same 43 = .ok (.getfield 42, 3) := by decide +kernel
theorem d_X_same_46 : decode b_X_same 46 = .ok (.iload_n 1, 1) := by decide +kernel
theorem d_X_same_47 : decode b_X_same 47 = .ok (.iaload, 1) := by decide +kernel
theorem d_X_same_48 : decode b_X_same 48 = .ok (.aload_n 0, 1) := by decide +kernel
theorem d_X_same_49 : decode b_X_same 49 = .ok (.getfield 10, 3) := by decide +kernel
theorem d_X_same_52 : decode b_X_same 52 = .ok (.getfield 42, 3) := by decide +kernel
theorem d_X_same_55 : decode b_X_same 55 = .ok (.iload_n 2, 1) := by decide +kernel
theorem d_X_same_56 : decode b_X_same 56 = .ok (.iaload, 1) := by decide +kernel
theorem d_X_same_57 : decode b_X_same 57 = .ok (.if_icmp .ne 7, 3) := by decide +kernel
theorem d_X_same_60 : decode b_X_same 60 = .ok (.iconst 1, 1) := by decide +kernel
theorem d_X_same_61 : decode b_X_same 61 = .ok (.goto 4, 3) := by decide +kernel
theorem d_X_same_64 : decode b_X_same 64 = .ok (.iconst 0, 1) := by decide +kernel
theorem d_X_same_65 : decode b_X_same 65 = .ok (.ireturn, 1) := by decide +kernel
theorem d_X_count_0 : decode b_X_count 0 = .ok (.iload_n 1, 1) := by decide +kernel
theorem d_X_count_1 : decode b_X_count 1 = .ok (.tableswitch 82 0 4 #[35, 35, 64, 72, 77], 35) := by decide +kernel
theorem d_X_count_36 : decode b_X_count 36 = .ok (.aload_n 0, 1) := by decide +kernel
theorem d_X_count_37 : decode b_X_count 37 = .ok (.getfield 21, 3) := by decide +kernel
theorem d_X_count_40 : decode b_X_count 40 = .ok (.invokevirtual 86, 3) := by decide +kernel
theorem d_X_count_43 : decode b_X_count 43 = .ok (.iload_n 1, 1) := by decide +kernel
theorem d_X_count_44 : decode b_X_count 44 = .ok (.ifCond .ne 13, 3) := by decide +kernel
theorem d_X_count_47 : decode b_X_count 47 = .ok (.aload_n 0, 1) := by decide +kernel
theorem d_X_count_48 : decode b_X_count 48 = .ok (.getfield 21, 3) := by decide +kernel
theorem d_X_count_51 : decode b_X_count 51 = .ok (.getfield 76, 3) := by decide +kernel
theorem d_X_count_54 : decode b_X_count 54 = .ok (.goto 10, 3) := by decide +kernel
theorem d_X_count_57 : decode b_X_count 57 = .ok (.aload_n 0, 1) := by decide +kernel
theorem d_X_count_58 : decode b_X_count 58 = .ok (.getfield 21, 3) := by decide +kernel
theorem d_X_count_61 : decode b_X_count 61 = .ok (.getfield 89, 3) := by decide +kernel
theorem d_X_count_64 : decode b_X_count 64 = .ok (.ireturn, 1) := by decide +kernel
theorem d_X_count_65 : decode b_X_count 65 = .ok (.aload_n 0, 1) := by decide +kernel
theorem d_X_count_66 : decode b_X_count 66 = .ok (.getfield 10, 3) := by decide +kernel
theorem d_X_count_69 : decode b_X_count 69 = .ok (.getfield 83, 3) := by decide +kernel
theorem d_X_count_72 : decode b_X_count 72 = .ok (.ireturn, 1) := by decide +kernel
theorem d_X_count_73 : decode b_X_count 73 = .ok (.aload_n 0, 1) := by decide +kernel
theorem d_X_count_74 : decode b_X_count 74 = .ok (.getfield 64, 3) := by decide +kernel
theorem d_X_count_77 : decode b_X_count 77 = .ok (.ireturn, 1) := by decide +kernel
theorem d_X_count_78 : decode b_X_count 78 = .ok (.aload_n 0, 1) := by decide +kernel
theorem d_X_count_79 : decode b_X_count 79 = .ok (.getfield 29, 3) := by decide +kernel
theorem d_X_count_82 : decode b_X_count 82 = .ok (.ireturn, 1) := by decide +kernel
theorem d_X_count_83 : decode b_X_count 83 = .ok (.iconst (-1), 1) := by decide +kernel
theorem d_X_count_84 : decode b_X_count 84 = .ok (.ireturn, 1) := by decide +kernel
end
section
theorem d_M_init_0 : decode b_M_init 0 = .ok (.aload_n 0, 1) := by decide +kernel
theorem d_M_init_1 : decode b_M_init 1 = .ok (.invokespecial 1, 3) := by decide +kernel
theorem d_M_init_4 : decode b_M_init 4 = .ok (.aload_n 0, 1) := by decide +kernel
theorem d_M_init_5 : decode b_M_init 5 = .ok (.sipush 10460, 3) := by decide +kernel
theorem d_M_init_8 : decode b_M_init 8 = .ok (.newarray .byte, 2) := by decide +kernel
theorem d_M_init_10 : decode b_M_init 10 = .ok (.putfield 7, 3) := by decide +kernel
theorem d_M_init_13 : decode b_M_init 13 = .ok (.aload_n 0, 1) := by decide +kernel
theorem d_M_init_14 : decode b_M_init 14 = .ok (.sipush 10460, 3) := by decide +kernel
theorem d_M_init_17 : decode b_M_init 17 = .ok (.newarray .int, 2) := by decide +kernel
theorem d_M_init_19 : decode b_M_init 19 = .ok (.putfield 13, 3) := by decide +kernel
theorem d_M_init_22 : decode b_M_init 22 = .ok (.aload_n 0, 1) := by decide +kernel
theorem d_M_init_23 : decode b_M_init 23 = .ok (.sipush 520, 3) := by decide +kernel
theorem d_M_init_26 : decode b_M_init 26 = .ok (.newarray .int, 2) := by decide +kernel
theorem d_M_init_28 : decode b_M_init 28 = .ok (.putfield 17, 3) := by decide +kernel
theorem d_M_init_31 : decode b_M_init 31 = .ok (.aload_n 0, 1) := by decide +kernel
theorem d_M_init_32 : decode b_M_init 32 = .ok (.sipush 520, 3) := by decide +kernel
theorem d_M_init_35 : decode b_M_init 35 = .ok (.newarray .boolean, 2) := by decide +kernel
theorem d_M_init_37 : decode b_M_init 37 = .ok (.putfield 20, 3) := by decide +kernel
theorem d_M_init_40 : decode b_M_init 40 = .ok (.aload_n 0, 1) := by decide +kernel
theorem d_M_init_41 : decode b_M_init 41 = .ok (.iload_n 1, 1) := by decide +kernel
theorem d_M_init_42 : decode b_M_init 42 = .ok (.bipush 20, 2) := by decide +kernel
theorem d_M_init_44 : decode b_M_init 44 = .ok (.if_icmp .lt 14, 3) := by decide +kernel
theorem d_M_init_47 : decode b_M_init 47 = .ok (.iload_n 1, 1) := by decide +kernel
theorem d_M_init_48 : decode b_M_init 48 = .ok (.sipush 3000, 3) := by decide +kernel
theorem d_M_init_51 : decode b_M_init 51 = .ok (.if_icmp .gt 7, 3) := by decide +kernel
theorem d_M_init_54 : decode b_M_init 54 = .ok (.iload_n 1, 1) := by decide +kernel
theorem d_M_init_55 : decode b_M_init 55 = .ok (.goto 6, 3) := by decide +kernel
theorem d_M_init_58 : decode b_M_init 58 = .ok (.sipush 300, 3) := by decide +kernel
theorem d_M_init_61 : decode b_M_init 61 = .ok (.putfield 24, 3) := by decide +kernel
theorem d_M_init_64 : decode b_M_init 64 = .ok (.return_, 1) := by decide +kernel
theorem d_M_isRegister_0 : decode b_M_isRegister 0 = .ok (.iload_n 0, 1) := by decide +kernel
theorem d_M_isRegister_1 : decode b_M_isRegister 1 = .ok (.ifCond .lt 13, 3) := by decide +kernel
theorem d_M_isRegister_4 : decode b_M_isRegister 4 = .ok (.iload_n 0, 1) := by decide +kernel
theorem d_M_isRegister_5 : decode b_M_isRegister 5 = .ok (.bipush 10, 2) := by decide +kernel
theorem d_M_isRegister_7 : decode b_M_isRegister 7 = .ok (.if_icmp .ge 7, 3) := by decide +kernel
theorem d_M_isRegister_10 : decode b_M_isRegister 10 = .ok (.iconst 1, 1) := by decide +kernel
theorem d_M_isRegister_11 : decode b_M_isRegister 11 = .ok (.goto 4, 3) := by decide +kernel
theorem d_M_isRegister_14 : decode b_M_isRegister 14 = .ok (.iconst 0, 1) := by decide +kernel
theorem d_M_isRegister_15 : decode b_M_isRegister 15 = .ok (.ireturn, 1) := by decide +kernel
theorem d_M_hasObject_0 : decode b_M_hasObject 0 = .ok (.iload_n 1, 1) := by decide +kernel
theorem d_M_hasObject_1 : decode b_M_hasObject 1 = .ok (.invokestatic 28, 3) := by decide +kernel
theorem d_M_hasObject_4 : decode b_M_hasObject 4 = .ok (.ifCond .eq 17, 3) := by decide +kernel
theorem d_M_hasObject_7 : decode b_M_hasObject 7 = .ok (.aload_n 0, 1) := by decide +kernel
theorem d_M_hasObject_8 : decode b_M_hasObject 8 = .ok (.getfield 7, 3) := by decide +kernel
theorem d_M_hasObject_11 : decode b_M_hasObject 11 = .ok (.iload_n 1, 1) := by decide +kernel
theorem d_M_hasObject_12 : decode b_M_hasObject 12 = .ok (.baload, 1) := by decide +kernel
theorem d_M_hasObject_13 : decode b_M_hasObject 13 = .ok (.iconst 2, 1) := by decide +kernel
theorem d_M_hasObject_14 : decode b_M_hasObject 14 = .ok (.if_icmp .ne 7, 3) := by decide +kernel
theorem d_M_hasObject_17 : decode b_M_hasObject 17 = .ok (.iconst 1, 1) := by decide +kernel
theorem d_M_hasObject_18 : decode b_M_hasObject 18 = .ok (.goto 4, 3) := by decide +kernel
theorem d_M_hasObject_21 : decode b_M_hasObject 21 = .ok (.iconst 0, 1) := by decide +kernel
theorem d_M_hasObject_22 : decode b_M_hasObject 22 = .ok (.ireturn, 1) := by decide +kernel
theorem d_M_placeOf_0 : decode b_M_placeOf 0 = .ok (.bipush 60, 2) := by decide +kernel
theorem d_M_placeOf_2 : decode b_M_placeOf 2 = .ok (.bipush 20, 2) := by decide +kernel
theorem d_M_placeOf_4 : decode b_M_placeOf 4 = .ok (.iload_n 0, 1) := by decide +kernel
theorem d_M_placeOf_5 : decode b_M_placeOf 5 = .ok (.imul, 1) := by decide +kernel
theorem d_M_placeOf_6 : decode b_M_placeOf 6 = .ok (.iadd, 1) := by decide +kernel
theorem d_M_placeOf_7 : decode b_M_placeOf 7 = .ok (.iload_n 1, 1) := by decide +kernel
theorem d_M_placeOf_8 : decode b_M_placeOf 8 = .ok (.iadd, 1) := by decide +kernel
theorem d_M_placeOf_9 : decode b_M_placeOf 9 = .ok (.ireturn, 1) := by decide +kernel
theorem d_M_move_0 : decode b_M_move 0 = .ok (.aload_n 0, 1) := by decide +kernel
theorem d_M_move_1 : decode b_M_move 1 = .ok (.getfield 7, 3) := by decide +kernel
theorem d_M_move_4 : decode b_M_move 4 = .ok (.iload_n 1, 1) := by decide +kernel
theorem d_M_move_5 : decode b_M_move 5 = .ok (.aload_n 0, 1) := by decide +kernel
theorem d_M_move_6 : decode b_M_move 6 = .ok (.getfield 7, 3) := by decide +kernel
theorem d_M_move_9 : decode b_M_move 9 = .ok (.iload_n 2, 1) := by decide +kernel
theorem d_M_move_10 : decode b_M_move 10 = .ok (.baload, 1) := by decide +kernel
theorem d_M_move_11 : decode b_M_move 11 = .ok (.bastore, 1) := by decide +kernel
theorem d_M_move_12 : decode b_M_move 12 = .ok (.aload_n 0, 1) := by decide +kernel
theorem d_M_move_13 : decode b_M_move 13 = .ok (.getfield 13, 3) := by decide +kernel
theorem d_M_move_16 : decode b_M_move 16 = .ok (.iload_n 1, 1) := by decide +kernel
theorem d_M_move_17 : decode b_M_move 17 = .ok (.aload_n 0, 1) := by decide +kernel
theorem d_M_move_18 : decode b_M_move 18 = .ok (.getfield 13, 3) := by decide +kernel
theorem d_M_move_21 : decode b_M_move 21 = .ok (.iload_n 2, 1) := by decide +kernel
theorem d_M_move_22 : decode b_M_move 22 = .ok (.iaload, 1) := by decide +kernel
theorem d_M_move_23 : decode b_M_move 23 = .ok (.iastore, 1) := by decide +kernel
theorem d_M_move_24 : decode b_M_move 24 = .ok (.return_, 1) := by decide +kernel
theorem d_M_empty_0 : decode b_M_empty 0 = .ok (.aload_n 0, 1) := by decide +kernel
theorem d_M_empty_1 : decode b_M_empty 1 = .ok (.getfield 7, 3) := by decide +kernel
theorem d_M_empty_4 : decode b_M_empty 4 = .ok (.iload_n 1, 1) := by decide +kernel
theorem d_M_empty_5 : decode b_M_empty 5 = .ok (.iconst 0, 1) := by decide +kernel
theorem d_M_empty_6 : decode b_M_empty 6 = .ok (.bastore, 1) := by decide +kernel
theorem d_M_empty_7 : decode b_M_empty 7 = .ok (.aload_n 0, 1) := by decide +kernel
theorem d_M_empty_8 : decode b_M_empty 8 = .ok (.getfield 13, 3) := by decide +kernel
theorem d_M_empty_11 : decode b_M_empty 11 = .ok (.iload_n 1, 1) := by decide +kernel
theorem d_M_empty_12 : decode b_M_empty 12 = .ok (.iconst 0, 1) := by decide +kernel
theorem d_M_empty_13 : decode b_M_empty 13 = .ok (.iastore, 1) := by decide +kernel
theorem d_M_empty_14 : decode b_M_empty 14 = .ok (.return_, 1) := by decide +kernel
theorem d_M_reach_0 : decode b_M_reach 0 = .ok (.aload_n 0, 1) := by decide +kernel
theorem d_M_reach_1 : decode b_M_reach 1 = .ok (.getfield 7, 3) := by decide +kernel
theorem d_M_reach_4 : decode b_M_reach 4 = .ok (.iload_n 1, 1) := by decide +kernel
theorem d_M_reach_5 : decode b_M_reach 5 = .ok (.baload, 1) := by decide +kernel
theorem d_M_reach_6 : decode b_M_reach 6 = .ok (.iconst 2, 1) := by decide +kernel
theorem d_M_reach_7 : decode b_M_reach 7 = .ok (.if_icmp .ne 17, 3) := by decide +kernel
theorem d_M_reach_10 : decode b_M_reach 10 = .ok (.aload_n 0, 1) := by decide +kernel
theorem d_M_reach_11 : decode b_M_reach 11 = .ok (.getfield 20, 3) := by decide +kernel
theorem d_M_reach_14 : decode b_M_reach 14 = .ok (.aload_n 0, 1) := by decide +kernel
theorem d_M_reach_15 : decode b_M_reach 15 = .ok (.getfield 13, 3) := by decide +kernel
theorem d_M_reach_18 : decode b_M_reach 18 = .ok (.iload_n 1, 1) := by decide +kernel
theorem d_M_reach_19 : decode b_M_reach 19 = .ok (.iaload, 1) := by decide +kernel
theorem d_M_reach_20 : decode b_M_reach 20 = .ok (.baload, 1) := by decide +kernel
theorem d_M_reach_21 : decode b_M_reach 21 = .ok (.ifCond .eq 5, 3) := by decide +kernel
theorem d_M_reach_24 : decode b_M_reach 24 = .ok (.iconst 0, 1) := by decide +kernel
theorem d_M_reach_25 : decode b_M_reach 25 = .ok (.ireturn, 1) := by decide +kernel
theorem d_M_reach_26 : decode b_M_reach 26 = .ok (.aload_n 0, 1) := by decide +kernel
theorem d_M_reach_27 : decode b_M_reach 27 = .ok (.getfield 20, 3) := by decide +kernel
theorem d_M_reach_30 : decode b_M_reach 30 = .ok (.aload_n 0, 1) := by decide +kernel
theorem d_M_reach_31 : decode b_M_reach 31 = .ok (.getfield 13, 3) := by decide +kernel
theorem d_M_reach_34 : decode b_M_reach 34 = .ok (.iload_n 1, 1) := by decide +kernel
theorem d_M_reach_35 : decode b_M_reach 35 = .ok (.iaload, 1) := by decide +kernel
theorem d_M_reach_36 : decode b_M_reach 36 = .ok (.iconst 1, 1) := by decide +kernel
theorem d_M_reach_37 : decode b_M_reach 37 = .ok (.bastore, 1) := by decide +kernel
theorem d_M_reach_38 : decode b_M_reach 38 = .ok (.iconst 1, 1) := by decide +kernel
theorem d_M_reach_39 : decode b_M_reach 39 = .ok (.ireturn, 1) := by decide +kernel
theorem d_M_goOver_0 : decode b_M_goOver 0 = .ok (.iconst 0, 1) := by decide +kernel
theorem d_M_goOver_1 : decode b_M_goOver 1 = .ok (.istore_n 1, 1) := by decide +kernel
theorem d_M_goOver_2 : decode b_M_goOver 2 = .ok (.iload_n 1, 1) := by decide +kernel
theorem d_M_goOver_3 : decode b_M_goOver 3 = .ok (.aload_n 0, 1) := by decide +kernel
theorem d_M_goOver_4 : decode b_M_goOver 4 = .ok (.getfield 32, 3) := by decide +kernel
theorem d_M_goOver_7 : decode b_M_goOver 7 = .ok (.if_icmp .ge 16, 3) := by decide +kernel
theorem d_M_goOver_10 : decode b_M_goOver 10 = .ok (.aload_n 0, 1) := by decide +kernel
theorem d_M_goOver_11 : decode b_M_goOver 11 = .ok (.getfield 20, 3) := by decide +kernel
theorem d_M_goOver_14 : decode b_M_goOver 14 = .ok (.iload_n 1, 1) := by decide +kernel
theorem d_M_goOver_15 : decode b_M_goOver 15 = .ok (.iconst 0, 1) := by decide +kernel
theorem d_M_goOver_16 : decode b_M_goOver 16 = .ok (.bastore, 1) := by decide +kernel
theorem d_M_goOver_17 : decode b_M_goOver 17 = .ok (.iinc 1 1, 3) := by decide +kernel
theorem d_M_goOver_20 : decode b_M_goOver 20 = .ok (.goto (-18), 3) := by decide +kernel
theorem d_M_goOver_23 : decode b_M_goOver 23 = .ok (.iconst 0, 1) := by decide +kernel
theorem d_M_goOver_24 : decode b_M_goOver 24 = .ok (.istore_n 1, 1) := by decide +kernel
theorem d_M_goOver_25 : decode b_M_goOver 25 = .ok (.iload_n 1, 1) := by decide +kernel
theorem d_M_goOver_26 : decode b_M_goOver 26 = .ok (.bipush 10, 2) := by decide +kernel
theorem d_M_goOver_28 : decode b_M_goOver 28 = .ok (.aload_n 0, 1) := by decide +kernel
theorem d_M_goOver_29 : decode b_M_goOver 29 = .ok (.getfield 35, 3) := by decide +kernel
theorem d_M_goOver_32 : decode b_M_goOver 32 = .ok (.iadd, 1) := by decide +kernel
theorem d_M_goOver_33 : decode b_M_goOver 33 = .ok (.if_icmp .ge 15, 3) := by decide +kernel
theorem d_M_goOver_36 : decode b_M_goOver 36 = .ok (.aload_n 0, 1) := by decide +kernel
theorem d_M_goOver_37 : decode b_M_goOver 37 = .ok (.iload_n 1, 1) := by decide +kernel
theorem d_M_goOver_38 : decode b_M_goOver 38 = .ok (.invokevirtual 38, 3) := by decide +kernel
theorem d_M_goOver_41 : decode b_M_goOver 41 = .ok (.pop, 1) := by decide +kernel
theorem d_M_goOver_42 : decode b_M_goOver 42 = .ok (.iinc 1 1, 3) := by decide +kernel
theorem d_M_goOver_45 : decode b_M_goOver 45 = .ok (.goto (-20), 3) := by decide +kernel
theorem d_M_goOver_48 : decode b_M_goOver 48 = .ok (.iconst 1, 1) := by decide +kernel
theorem d_M_goOver_49 : decode b_M_goOver 49 = .ok (.istore_n 1, 1) := by decide +kernel
theorem d_M_goOver_50 : decode b_M_goOver 50 = .ok (.iload_n 1, 1) := by decide +kernel
theorem d_M_goOver_51 : decode b_M_goOver 51 = .ok (.ifCond .eq 73, 3) := by decide +kernel
theorem d_M_goOver_54 : decode b_M_goOver 54 = .ok (.iconst 0, 1) := by decide +kernel
theorem d_M_goOver_55 : decode b_M_goOver 55 = .ok (.istore_n 1, 1) := by decide +kernel
theorem d_M_goOver_56 : decode b_M_goOver 56 = .ok (.iconst 0, 1) := by decide +kernel
theorem d_M_goOver_57 : decode b_M_goOver 57 = .ok (.istore_n 2, 1) := by decide +kernel
theorem d_M_goOver_58 : decode b_M_goOver 58 = .ok (.iload_n 2, 1) := by decide +kernel
theorem d_M_goOver_59 : decode b_M_goOver 59 = .ok (.aload_n 0, 1) := by decide +kernel
theorem d_M_goOver_60 : decode b_M_goOver 60 = .ok (.getfield 32, 3) := by decide +kernel
theorem d_M_goOver_63 : decode b_M_goOver 63 = .ok (.if_icmp .ge 58, 3) := by decide +kernel
theorem d_M_goOver_66 : decode b_M_goOver 66 = .ok (.iconst 0, 1) := by decide +kernel
theorem d_M_goOver_67 : decode b_M_goOver 67 = .ok (.istore_n 3, 1) := by decide +kernel
theorem d_M_goOver_68 : decode b_M_goOver 68 = .ok (.iload_n 3, 1) := by decide +kernel
theorem d_M_goOver_69 : decode b_M_goOver 69 = .ok (.aload_n 0, 1) := by decide +kernel
theorem d_M_goOver_70 : decode b_M_goOver 70 = .ok (.getfield 17, 3) := by decide +kernel
theorem d_M_goOver_73 : decode b_M_goOver 73 = .ok (.iload_n 2, 1) := by decide +kernel
theorem d_M_goOver_74 : decode b_M_goOver 74 = .ok (.iaload, 1) := by decide +kernel
theorem d_M_goOver_75 : decode b_M_goOver 75 = .ok (.if_icmp .ge 40, 3) := by decide +kernel
theorem d_M_goOver_78 : decode b_M_goOver 78 = .ok (.aload_n 0, 1) := by decide +kernel
theorem d_M_goOver_79 : decode b_M_goOver 79 = .ok (.getfield 20, 3) := by decide +kernel
theorem d_M_goOver_82 : decode b_M_goOver 82 = .ok (.iload_n 2, 1) := by decide +kernel
theorem d_M_goOver_83 : decode b_M_goOver 83 = .ok (.baload, 1) := by decide +kernel
theorem d_M_goOver_84 : decode b_M_goOver 84 = .ok (.ifCond .eq 31, 3) := by decide +kernel
theorem d_M_goOver_87 : decode b_M_goOver 87 = .ok (.aload_n 0, 1) := by decide +kernel
theorem d_M_goOver_88 : decode b_M_goOver 88 = .ok (.iload_n 2, 1) := by decide +kernel
theorem d_M_goOver_89 : decode b_M_goOver 89 = .ok (.iload_n 3, 1) := by decide +kernel
theorem d_M_goOver_90 : decode b_M_goOver 90 = .ok (.invokestatic 41, 3) := by decide +kernel
theorem d_M_goOver_93 : decode b_M_goOver 93 = .ok (.invokevirtual 38, 3) := by decide +kernel
theorem d_M_goOver_96 : decode b_M_goOver 96 = .ok (.ifCond .ne 7, 3) := by decide +kernel
theorem d_M_goOver_99 : decode b_M_goOver 99 = .ok (.iload_n 1, 1) := by decide +kernel
theorem d_M_goOver_100 : decode b_M_goOver 100 = .ok (.ifCond .eq 7, 3) := by decide +kernel
theorem d_M_goOver_103 : decode b_M_goOver 103 = .ok (.iconst 1, 1) := by decide +kernel
theorem d_M_goOver_104 : decode b_M_goOver 104 = .ok (.goto 4, 3) := by decide +kernel
theorem d_M_goOver_107 : decode b_M_goOver 107 = .ok (.iconst 0, 1) := by decide +kernel
theorem d_M_goOver_108 : decode b_M_goOver 108 = .ok (.istore_n 1, 1) := by decide +kernel
theorem d_M_goOver_109 : decode b_M_goOver 109 = .ok (.iinc 3 1, 3) := by decide +kernel
theorem d_M_goOver_112 : decode b_M_goOver 112 = .ok (.goto (-44), 3) := by decide +kernel
theorem d_M_goOver_115 : decode b_M_goOver 115 = .ok (.iinc 2 1, 3) := by decide +kernel
theorem d_M_goOver_118 : decode b_M_goOver 118 = .ok (.goto (-60), 3) := by decide +kernel
theorem d_M_goOver_121 : decode b_M_goOver 121 = .ok (.goto (-71), 3) := by decide +kernel
theorem d_M_goOver_124 : decode b_M_goOver 124 = .ok (.return_, 1) := by decide +kernel
theorem d_M_reachable_0 : decode b_M_reachable 0 = .ok (.aload_n 0, 1) := by decide +kernel
theorem d_M_reachable_1 : decode b_M_reachable 1 = .ok (.invokevirtual 45, 3) := by decide +kernel
theorem d_M_reachable_4 : decode b_M_reachable 4 = .ok (.iconst 0, 1) := by decide +kernel
theorem d_M_reachable_5 : decode b_M_reachable 5 = .ok (.istore_n 1, 1) := by decide +kernel
theorem d_M_reachable_6 : decode b_M_reachable 6 = .ok (.iconst 0, 1) := by decide +kernel
theorem d_M_reachable_7 : decode b_M_reachable 7 = .ok (.istore_n 2, 1) := by decide +kernel
theorem d_M_reachable_8 : decode b_M_reachable 8 = .ok (.iload_n 2, 1) := by decide +kernel
theorem d_M_reachable_9 : decode b_M_reachable 9 = .ok (.aload_n 0, 1) := by decide +kernel
theorem d_M_reachable_10 : decode b_M_reachable 10 = .ok (.getfield 32, 3) := by decide +kernel
theorem d_M_reachable_13 : decode b_M_reachable 13 = .ok (.if_icmp .ge 33, 3) := by decide +kernel
theorem d_M_reachable_16 : decode b_M_reachable 16 = .ok (.aload_n 0, 1) := by decide +kernel
theorem d_M_reachable_17 : decode b_M_reachable 17 = .ok (.getfield 20, 3) := by decide +kernel
theorem d_M_reachable_20 : decode b_M_reachable 20 = .ok (.iload_n 2, 1) := by decide +kernel
theorem d_M_reachable_21 : decode b_M_reachable 21 = .ok (.baload, 1) := by decide +kernel
theorem d_M_reachable_22 : decode b_M_reachable 22 = .ok (.ifCond .eq 16, 3) := by decide +kernel
theorem d_M_reachable_25 : decode b_M_reachable 25 = .ok (.iload_n 1, 1) := by decide +kernel
theorem d_M_reachable_26 : decode b_M_reachable 26 = .ok (.iconst 2, 1) := by decide +kernel
theorem d_M_reachable_27 : decode b_M_reachable 27 = .ok (.iadd, 1) := by decide +kernel
theorem d_M_reachable_28 : decode b_M_reachable 28 = .ok (.aload_n 0, 1) := by decide +kernel
theorem d_M_reachable_29 : decode b_M_reachable 29 = .ok (.getfield 17, 3) := by decide +kernel
theorem d_M_reachable_32 : decode b_M_reachable 32 = .ok (.iload_n 2, 1) := by decide +kernel
theorem d_M_reachable_33 : decode b_M_reachable 33 = .ok (.iaload, 1) := by decide +kernel
theorem d_M_reachable_34 : decode b_M_reachable 34 = .ok (.iadd, 1) := by decide +kernel
theorem d_M_reachable_35 : decode b_M_reachable 35 = .ok (.goto 4, 3) := by decide +kernel
theorem d_M_reachable_38 : decode b_M_reachable 38 = .ok (.iload_n 1, 1) := by decide +kernel
theorem d_M_reachable_39 : decode b_M_reachable 39 = .ok (.istore_n 1, 1) := by decide +kernel
theorem d_M_reachable_40 : decode b_M_reachable 40 = .ok (.iinc 2 1, 3) := by decide +kernel
theorem d_M_reachable_43 : decode b_M_reachable 43 = .ok (.goto (-35), 3) := by decide +kernel
theorem d_M_reachable_46 : decode b_M_reachable 46 = .ok (.iload_n 1, 1) := by decide +kernel
theorem d_M_reachable_47 : decode b_M_reachable 47 = .ok (.ireturn, 1) := by decide +kernel
theorem d_M_hasRoom_0 : decode b_M_hasRoom 0 = .ok (.aload_n 0, 1) := by decide +kernel
theorem d_M_hasRoom_1 : decode b_M_hasRoom 1 = .ok (.invokevirtual 48, 3) := by decide +kernel
theorem d_M_hasRoom_4 : decode b_M_hasRoom 4 = .ok (.iload_n 1, 1) := by decide +kernel
theorem d_M_hasRoom_5 : decode b_M_hasRoom 5 = .ok (.iadd, 1) := by decide +kernel
theorem d_M_hasRoom_6 : decode b_M_hasRoom 6 = .ok (.aload_n 0, 1) := by decide +kernel
theorem d_M_hasRoom_7 : decode b_M_hasRoom 7 = .ok (.getfield 24, 3) := by decide +kernel
theorem d_M_hasRoom_10 : decode b_M_hasRoom 10 = .ok (.if_icmp .gt 7, 3) := by decide +kernel
theorem d_M_hasRoom_13 : decode b_M_hasRoom 13 = .ok (.iconst 1, 1) := by decide +kernel
theorem d_M_hasRoom_14 : decode b_M_hasRoom 14 = .ok (.goto 4, 3) := by decide +kernel
theorem d_M_hasRoom_17 : decode b_M_hasRoom 17 = .ok (.iconst 0, 1) := by decide +kernel
theorem d_M_hasRoom_18 : decode b_M_hasRoom 18 = .ok (.istore_n 2, 1) := by decide +kernel
theorem d_M_hasRoom_19 : decode b_M_hasRoom 19 = .ok (.aload_n 0, 1) := by decide +kernel
theorem d_M_hasRoom_20 : decode b_M_hasRoom 20 = .ok (.iload_n 2, 1) := by decide +kernel
theorem d_M_hasRoom_21 : decode b_M_hasRoom 21 = .ok (.ifCond .eq 10, 3) := by decide +kernel
theorem d_M_hasRoom_24 : decode b_M_hasRoom 24 = .ok (.aload_n 0, 1) := by decide +kernel
theorem d_M_hasRoom_25 : decode b_M_hasRoom 25 = .ok (.getfield 52, 3) := by decide +kernel
theorem d_M_hasRoom_28 : decode b_M_hasRoom 28 = .ok (.goto 9, 3) := by decide +kernel
theorem d_M_hasRoom_31 : decode b_M_hasRoom 31 = .ok (.aload_n 0, 1) := by decide +kernel
theorem d_M_hasRoom_32 : decode b_M_hasRoom 32 = .ok (.getfield 52, 3) := by decide +kernel
theorem d_M_hasRoom_35 : decode b_M_hasRoom 35 = .ok (.iconst 1, 1) := by decide +kernel
theorem d_M_hasRoom_36 : decode b_M_hasRoom 36 = .ok (.iadd, 1) := by decide +kernel
theorem d_M_hasRoom_37 : decode b_M_hasRoom 37 = .ok (.putfield 52, 3) := by decide +kernel
theorem d_M_hasRoom_40 : decode b_M_hasRoom 40 = .ok (.iload_n 2, 1) := by decide +kernel
theorem d_M_hasRoom_41 : decode b_M_hasRoom 41 = .ok (.ireturn, 1) := by decide +kernel
theorem d_M_make_0 : decode b_M_make 0 = .ok (.iload_n 1, 1) := by decide +kernel
theorem d_M_make_1 : decode b_M_make 1 = .ok (.invokestatic 28, 3) := by decide +kernel
theorem d_M_make_4 : decode b_M_make 4 = .ok (.ifCond .eq 20, 3) := by decide +kernel
theorem d_M_make_7 : decode b_M_make 7 = .ok (.iload_n 3, 1) := by decide +kernel
theorem d_M_make_8 : decode b_M_make 8 = .ok (.invokestatic 28, 3) := by decide +kernel
theorem d_M_make_11 : decode b_M_make 11 = .ok (.ifCond .eq 13, 3) := by decide +kernel
theorem d_M_make_14 : decode b_M_make 14 = .ok (.iload_n 2, 1) := by decide +kernel
theorem d_M_make_15 : decode b_M_make 15 = .ok (.ifCond .lt 9, 3) := by decide +kernel
theorem d_M_make_18 : decode b_M_make 18 = .ok (.iload_n 2, 1) := by decide +kernel
theorem d_M_make_19 : decode b_M_make 19 = .ok (.bipush 20, 2) := by decide +kernel
theorem d_M_make_21 : decode b_M_make 21 = .ok (.if_icmp .le 5, 3) := by decide +kernel
theorem d_M_make_24 : decode b_M_make 24 = .ok (.iconst (-1), 1) := by decide +kernel
theorem d_M_make_25 : decode b_M_make 25 = .ok (.ireturn, 1) := by decide +kernel
theorem d_M_make_26 : decode b_M_make 26 = .ok (.aload_n 0, 1) := by decide +kernel
theorem d_M_make_27 : decode b_M_make 27 = .ok (.iconst 2, 1) := by decide +kernel
theorem d_M_make_28 : decode b_M_make 28 = .ok (.iload_n 2, 1) := by decide +kernel
theorem d_M_make_29 : decode b_M_make 29 = .ok (.iadd, 1) := by decide +kernel
theorem d_M_make_30 : decode b_M_make 30 = .ok (.invokevirtual 55, 3) := by decide +kernel
theorem d_M_make_33 : decode b_M_make 33 = .ok (.ifCond .ne 5, 3) := by decide +kernel
theorem d_M_make_36 : decode b_M_make 36 = .ok (.iconst 0, 1) := by decide +kernel
theorem d_M_make_37 : decode b_M_make 37 = .ok (.ireturn, 1) := by decide +kernel
theorem d_M_make_38 : decode b_M_make 38 = .ok (.iconst 0, 1) := by decide +kernel
theorem d_M_make_39 : decode b_M_make 39 = .ok (.istore 4, 2) := by decide +kernel
theorem d_M_make_41 : decode b_M_make 41 = .ok (.iload 4, 2) := by decide +kernel
theorem d_M_make_43 : decode b_M_make 43 = .ok (.iload_n 2, 1) := by decide +kernel
theorem d_M_make_44 : decode b_M_make 44 = .ok (.if_icmp .ge 23, 3) := by decide +kernel
theorem d_M_make_47 : decode b_M_make 47 = .ok (.aload_n 0, 1) := by decide +kernel
theorem d_M_make_48 : decode b_M_make 48 = .ok (.aload_n 0, 1) := by decide +kernel
theorem d_M_make_49 : decode b_M_make 49 = .ok (.getfield 32, 3) := by decide +kernel
theorem d_M_make_52 : decode b_M_make 52 = .ok (.iload 4, 2) := by decide +kernel
theorem d_M_make_54 : decode b_M_make 54 = .ok (.invokestatic 41, 3) := by decide +kernel
theorem d_M_make_57 : decode b_M_make 57 = .ok (.iload_n 3, 1) := by decide +kernel
theorem d_M_make_58 : decode b_M_make 58 = .ok (.invokevirtual 58, 3) := by decide +kernel
theorem d_M_make_61 : decode b_M_make 61 = .ok (.iinc 4 1, 3) := by decide +kernel
theorem d_M_make_64 : decode b_M_make 64 = .ok (.goto (-23), 3) := by decide +kernel
theorem d_M_make_67 : decode b_M_make 67 = .ok (.aload_n 0, 1) := by decide +kernel
theorem d_M_make_68 : decode b_M_make 68 = .ok (.getfield 17, 3) := by decide +kernel
theorem d_M_make_71 : decode b_M_make 71 = .ok (.aload_n 0, 1) := by decide +kernel
theorem d_M_make_72 : decode b_M_make 72 = .ok (.getfield 32, 3) := by decide +kernel
theorem d_M_make_75 : decode b_M_make 75 = .ok (.iload_n 2, 1) := by decide +kernel
theorem d_M_make_76 : decode b_M_make 76 = .ok (.iastore, 1) := by decide +kernel
theorem d_M_make_77 : decode b_M_make 77 = .ok (.aload_n 0, 1) := by decide +kernel
theorem d_M_make_78 : decode b_M_make 78 = .ok (.getfield 7, 3) := by decide +kernel
theorem d_M_make_81 : decode b_M_make 81 = .ok (.iload_n 1, 1) := by decide +kernel
theorem d_M_make_82 : decode b_M_make 82 = .ok (.iconst 2, 1) := by decide +kernel
theorem d_M_make_83 : decode b_M_make 83 = .ok (.bastore, 1) := by decide +kernel
theorem d_M_make_84 : decode b_M_make 84 = .ok (.aload_n 0, 1) := by decide +kernel
theorem d_M_make_85 : decode b_M_make 85 = .ok (.getfield 13, 3) := by decide +kernel
theorem d_M_make_88 : decode b_M_make 88 = .ok (.iload_n 1, 1) := by decide +kernel
theorem d_M_make_89 : decode b_M_make 89 = .ok (.aload_n 0, 1) := by decide +kernel
theorem d_M_make_90 : decode b_M_make 90 = .ok (.getfield 32, 3) := by decide +kernel
theorem d_M_make_93 : decode b_M_make 93 = .ok (.iastore, 1) := by decide +kernel
theorem d_M_make_94 : decode b_M_make 94 = .ok (.aload_n 0, 1) := by decide +kernel
theorem d_M_make_95 : decode b_M_make 95 = .ok (.dup, 1) := by decide +kernel
theorem d_M_make_96 : decode b_M_make 96 = .ok (.getfield 32, 3) := by decide +kernel
theorem d_M_make_99 : decode b_M_make 99 = .ok (.iconst 1, 1) := by decide +kernel
theorem d_M_make_100 : decode b_M_make 100 = .ok (.iadd, 1) := by decide +kernel
theorem d_M_make_101 : decode b_M_make 101 = .ok (.putfield 32, 3) := by decide +kernel
theorem d_M_make_104 : decode b_M_make 104 = .ok (.iconst 1, 1) := by decide +kernel
theorem d_M_make_105 : decode b_M_make 105 = .ok (.ireturn, 1) := by decide +kernel
theorem d_M_grow_0 : decode b_M_grow 0 = .ok (.aload_n 0, 1) := by decide +kernel
theorem d_M_grow_1 : decode b_M_grow 1 = .ok (.iload_n 1, 1) := by decide +kernel
theorem d_M_grow_2 : decode b_M_grow 2 = .ok (.invokevirtual 62, 3) := by decide +kernel
theorem d_M_grow_5 : decode b_M_grow 5 = .ok (.ifCond .eq 26, 3) := by decide +kernel
theorem d_M_grow_8 : decode b_M_grow 8 = .ok (.iload_n 2, 1) := by decide +kernel
theorem d_M_grow_9 : decode b_M_grow 9 = .ok (.invokestatic 28, 3) := by decide +kernel
theorem d_M_grow_12 : decode b_M_grow 12 = .ok (.ifCond .eq 19, 3) := by decide +kernel
theorem d_M_grow_15 : decode b_M_grow 15 = .ok (.aload_n 0, 1) := by decide +kernel
theorem d_M_grow_16 : decode b_M_grow 16 = .ok (.getfield 17, 3) := by decide +kernel
theorem d_M_grow_19 : decode b_M_grow 19 = .ok (.aload_n 0, 1) := by decide +kernel
theorem d_M_grow_20 : decode b_M_grow 20 = .ok (.getfield 13, 3) := by decide +kernel
theorem d_M_grow_23 : decode b_M_grow 23 = .ok (.iload_n 1, 1) := by decide +kernel
theorem d_M_grow_24 : decode b_M_grow 24 = .ok (.iaload, 1) := by decide +kernel
theorem d_M_grow_25 : decode b_M_grow 25 = .ok (.iaload, 1) := by decide +kernel
theorem d_M_grow_26 : decode b_M_grow 26 = .ok (.bipush 20, 2) := by decide +kernel
theorem d_M_grow_28 : decode b_M_grow 28 = .ok (.if_icmp .ne 5, 3) := by decide +kernel
theorem d_M_grow_31 : decode b_M_grow 31 = .ok (.iconst (-1), 1) := by decide +kernel
theorem d_M_grow_32 : decode b_M_grow 32 = .ok (.ireturn, 1) := by decide +kernel
theorem d_M_grow_33 : decode b_M_grow 33 = .ok (.aload_n 0, 1) := by decide +kernel
theorem d_M_grow_34 : decode b_M_grow 34 = .ok (.iconst 1, 1) := by decide +kernel
theorem d_M_grow_35 : decode b_M_grow 35 = .ok (.invokevirtual 55, 3) := by decide +kernel
theorem d_M_grow_38 : decode b_M_grow 38 = .ok (.ifCond .ne 5, 3) := by decide +kernel
theorem d_M_grow_41 : decode b_M_grow 41 = .ok (.iconst 0, 1) := by decide +kernel
theorem d_M_grow_42 : decode b_M_grow 42 = .ok (.ireturn, 1) := by decide +kernel
theorem d_M_grow_43 : decode b_M_grow 43 = .ok (.aload_n 0, 1) := by decide +kernel
theorem d_M_grow_44 : decode b_M_grow 44 = .ok (.getfield 13, 3) := by decide +kernel
theorem d_M_grow_47 : decode b_M_grow 47 = .ok (.iload_n 1, 1) := by decide +kernel
theorem d_M_grow_48 : decode b_M_grow 48 = .ok (.iaload, 1) := by decide +kernel
theorem d_M_grow_49 : decode b_M_grow 49 = .ok (.istore_n 3, 1) := by decide +kernel
theorem d_M_grow_50 : decode b_M_grow 50 = .ok (.aload_n 0, 1) := by decide +kernel
theorem d_M_grow_51 : decode b_M_grow 51 = .ok (.iload_n 3, 1) := by decide +kernel
theorem d_M_grow_52 : decode b_M_grow 52 = .ok (.aload_n 0, 1) := by decide +kernel
theorem d_M_grow_53 : decode b_M_grow 53 = .ok (.getfield 17, 3) := by decide +kernel
theorem d_M_grow_56 : decode b_M_grow 56 = .ok (.iload_n 3, 1) := by decide +kernel
theorem d_M_grow_57 : decode b_M_grow 57 = .ok (.iaload, 1) := by decide +kernel
theorem d_M_grow_58 : decode b_M_grow 58 = .ok (.invokestatic 41, 3) := by decide +kernel
theorem d_M_grow_61 : decode b_M_grow 61 = .ok (.iload_n 2, 1) := by decide +kernel
theorem d_M_grow_62 : decode b_M_grow 62 = .ok (.invokevirtual 58, 3) := by decide +kernel
theorem d_M_grow_65 : decode b_M_grow 65 = .ok (.aload_n 0, 1) := by decide +kernel
theorem d_M_grow_66 : decode b_M_grow 66 = .ok (.getfield 17, 3) := by decide +kernel
theorem d_M_grow_69 : decode b_M_grow 69 = .ok (.iload_n 3, 1) := by decide +kernel
theorem d_M_grow_70 : decode b_M_grow 70 = .ok (.dup2, 1) := by decide +kernel
theorem d_M_grow_71 : decode b_M_grow 71 = .ok (.iaload, 1) := by decide +kernel
theorem d_M_grow_72 : decode b_M_grow 72 = .ok (.iconst 1, 1) := by decide +kernel
theorem d_M_grow_73 : decode b_M_grow 73 = .ok (.iadd, 1) := by decide +kernel
theorem d_M_grow_74 : decode b_M_grow 74 = .ok (.iastore, 1) := by decide +kernel
theorem d_M_grow_75 : decode b_M_grow 75 = .ok (.aload_n 0, 1) := by decide +kernel
theorem d_M_grow_76 : decode b_M_grow 76 = .ok (.getfield 17, 3) := by decide +kernel
theorem d_M_grow_79 : decode b_M_grow 79 = .ok (.iload_n 3, 1) := by decide +kernel
theorem d_M_grow_80 : decode b_M_grow 80 = .ok (.iaload, 1) := by decide +kernel
theorem d_M_grow_81 : decode b_M_grow 81 = .ok (.ireturn, 1) := by decide +kernel
theorem d_M_shrink_0 : decode b_M_shrink 0 = .ok (.aload_n 0, 1) := by decide +kernel
theorem d_M_shrink_1 : decode b_M_shrink 1 = .ok (.iload_n 1, 1) := by decide +kernel
theorem d_M_shrink_2 : decode b_M_shrink 2 = .ok (.invokevirtual 62, 3) := by decide +kernel
theorem d_M_shrink_5 : decode b_M_shrink 5 = .ok (.ifCond .eq 17, 3) := by decide +kernel
theorem d_M_shrink_8 : decode b_M_shrink 8 = .ok (.aload_n 0, 1) := by decide +kernel
theorem d_M_shrink_9 : decode b_M_shrink 9 = .ok (.getfield 17, 3) := by decide +kernel
theorem d_M_shrink_12 : decode b_M_shrink 12 = .ok (.aload_n 0, 1) := by decide +kernel
theorem d_M_shrink_13 : decode b_M_shrink 13 = .ok (.getfield 13, 3) := by decide +kernel
theorem d_M_shrink_16 : decode b_M_shrink 16 = .ok (.iload_n 1, 1) := by decide +kernel
theorem d_M_shrink_17 : decode b_M_shrink 17 = .ok (.iaload, 1) := by decide +kernel
theorem d_M_shrink_18 : decode b_M_shrink 18 = .ok (.iaload, 1) := by decide +kernel
theorem d_M_shrink_19 : decode b_M_shrink 19 = .ok (.ifCond .ne 5, 3) := by decide +kernel
theorem d_M_shrink_22 : decode b_M_shrink 22 = .ok (.iconst (-1), 1) := by decide +kernel
theorem d_M_shrink_23 : decode b_M_shrink 23 = .ok (.ireturn, 1) := by decide +kernel
theorem d_M_shrink_24 : decode b_M_shrink 24 = .ok (.aload_n 0, 1) := by decide +kernel
theorem d_M_shrink_25 : decode b_M_shrink 25 = .ok (.getfield 13, 3) := by decide +kernel
theorem d_M_shrink_28 : decode b_M_shrink 28 = .ok (.iload_n 1, 1) := by decide +kernel
theorem d_M_shrink_29 : decode b_M_shrink 29 = .ok (.iaload, 1) := by decide +kernel
theorem d_M_shrink_30 : decode b_M_shrink 30 = .ok (.istore_n 2, 1) := by decide +kernel
theorem d_M_shrink_31 : decode b_M_shrink 31 = .ok (.aload_n 0, 1) := by decide +kernel
theorem d_M_shrink_32 : decode b_M_shrink 32 = .ok (.getfield 17, 3) := by decide +kernel
theorem d_M_shrink_35 : decode b_M_shrink 35 = .ok (.iload_n 2, 1) := by decide +kernel
theorem d_M_shrink_36 : decode b_M_shrink 36 = .ok (.dup2, 1) := by decide +kernel
theorem d_M_shrink_37 : decode b_M_shrink 37 = .ok (.iaload, 1) := by decide +kernel
theorem d_M_shrink_38 : decode b_M_shrink 38 = .ok (.iconst 1, 1) := by decide +kernel
theorem d_M_shrink_39 : decode b_M_shrink 39 = .ok (.isub, 1) := by decide +kernel
theorem d_M_shrink_40 : decode b_M_shrink 40 = .ok (.iastore, 1) := by decide +kernel
theorem d_M_shrink_41 : decode b_M_shrink 41 = .ok (.aload_n 0, 1) := by decide +kernel
theorem d_M_shrink_42 : decode b_M_shrink 42 = .ok (.iload_n 2, 1) := by decide +kernel
theorem d_M_shrink_43 : decode b_M_shrink 43 = .ok (.aload_n 0, 1) := by decide +kernel
theorem d_M_shrink_44 : decode b_M_shrink 44 = .ok (.getfield 17, 3) := by decide +kernel
theorem d_M_shrink_47 : decode b_M_shrink 47 = .ok (.iload_n 2, 1) := by decide +kernel
theorem d_M_shrink_48 : decode b_M_shrink 48 = .ok (.iaload, 1) := by decide +kernel
theorem d_M_shrink_49 : decode b_M_shrink 49 = .ok (.invokestatic 41, 3) := by decide +kernel
theorem d_M_shrink_52 : decode b_M_shrink 52 = .ok (.invokevirtual 65, 3) := by decide +kernel
theorem d_M_shrink_55 : decode b_M_shrink 55 = .ok (.aload_n 0, 1) := by decide +kernel
theorem d_M_shrink_56 : decode b_M_shrink 56 = .ok (.getfield 17, 3) := by decide +kernel
theorem d_M_shrink_59 : decode b_M_shrink 59 = .ok (.iload_n 2, 1) := by decide +kernel
theorem d_M_shrink_60 : decode b_M_shrink 60 = .ok (.iaload, 1) := by decide +kernel
theorem d_M_shrink_61 : decode b_M_shrink 61 = .ok (.ireturn, 1) := by decide +kernel
theorem d_M_number_0 : decode b_M_number 0 = .ok (.iload_n 1, 1) := by decide +kernel
theorem d_M_number_1 : decode b_M_number 1 = .ok (.invokestatic 28, 3) := by decide +kernel
theorem d_M_number_4 : decode b_M_number 4 = .ok (.ifCond .ne 5, 3) := by decide +kernel
theorem d_M_number_7 : decode b_M_number 7 = .ok (.iconst 0, 1) := by decide +kernel
theorem d_M_number_8 : decode b_M_number 8 = .ok (.ireturn, 1) := by decide +kernel
theorem d_M_number_9 : decode b_M_number 9 = .ok (.aload_n 0, 1) := by decide +kernel
theorem d_M_number_10 : decode b_M_number 10 = .ok (.getfield 7, 3) := by decide +kernel
theorem d_M_number_13 : decode b_M_number 13 = .ok (.iload_n 1, 1) := by decide +kernel
theorem d_M_number_14 : decode b_M_number 14 = .ok (.iconst 1, 1) := by decide +kernel
theorem d_M_number_15 : decode b_M_number 15 = .ok (.bastore, 1) := by decide +kernel
theorem d_M_number_16 : decode b_M_number 16 = .ok (.aload_n 0, 1) := by decide +kernel
theorem d_M_number_17 : decode b_M_number 17 = .ok (.getfield 13, 3) := by decide +kernel
theorem d_M_number_20 : decode b_M_number 20 = .ok (.iload_n 1, 1) := by decide +kernel
theorem d_M_number_21 : decode b_M_number 21 = .ok (.iload_n 2, 1) := by decide +kernel
theorem d_M_number_22 : decode b_M_number 22 = .ok (.iastore, 1) := by decide +kernel
theorem d_M_number_23 : decode b_M_number 23 = .ok (.iconst 1, 1) := by decide +kernel
theorem d_M_number_24 : decode b_M_number 24 = .ok (.ireturn, 1) := by decide +kernel
theorem d_M_copy_0 : decode b_M_copy 0 = .ok (.iload_n 1, 1) := by decide +kernel
theorem d_M_copy_1 : decode b_M_copy 1 = .ok (.invokestatic 28, 3) := by decide +kernel
theorem d_M_copy_4 : decode b_M_copy 4 = .ok (.ifCond .eq 15, 3) := by decide +kernel
theorem d_M_copy_7 : decode b_M_copy 7 = .ok (.iload_n 2, 1) := by decide +kernel
theorem d_M_copy_8 : decode b_M_copy 8 = .ok (.iconst (-1), 1) := by decide +kernel
theorem d_M_copy_9 : decode b_M_copy 9 = .ok (.if_icmp .eq 12, 3) := by decide +kernel
theorem d_M_copy_12 : decode b_M_copy 12 = .ok (.iload_n 2, 1) := by decide +kernel
theorem d_M_copy_13 : decode b_M_copy 13 = .ok (.invokestatic 28, 3) := by decide +kernel
theorem d_M_copy_16 : decode b_M_copy 16 = .ok (.ifCond .ne 5, 3) := by decide +kernel
theorem d_M_copy_19 : decode b_M_copy 19 = .ok (.iconst 0, 1) := by decide +kernel
theorem d_M_copy_20 : decode b_M_copy 20 = .ok (.ireturn, 1) := by decide +kernel
theorem d_M_copy_21 : decode b_M_copy 21 = .ok (.iload_n 2, 1) := by decide +kernel
theorem d_M_copy_22 : decode b_M_copy 22 = .ok (.iconst (-1), 1) := by decide +kernel
theorem d_M_copy_23 : decode b_M_copy 23 = .ok (.if_icmp .ne 11, 3) := by decide +kernel
theorem d_M_copy_26 : decode b_M_copy 26 = .ok (.aload_n 0, 1) := by decide +kernel
theorem d_M_copy_27 : decode b_M_copy 27 = .ok (.iload_n 1, 1) := by decide +kernel
theorem d_M_copy_28 : decode b_M_copy 28 = .ok (.invokevirtual 65, 3) := by decide +kernel
theorem d_M_copy_31 : decode b_M_copy 31 = .ok (.goto 9, 3) := by decide +kernel
theorem d_M_copy_34 : decode b_M_copy 34 = .ok (.aload_n 0, 1) := by decide +kernel
theorem d_M_copy_35 : decode b_M_copy 35 = .ok (.iload_n 1, 1) := by decide +kernel
theorem d_M_copy_36 : decode b_M_copy 36 = .ok (.iload_n 2, 1) := by decide +kernel
theorem d_M_copy_37 : decode b_M_copy 37 = .ok (.invokevirtual 58, 3) := by decide +kernel
theorem d_M_copy_40 : decode b_M_copy 40 = .ok (.iconst 1, 1) := by decide +kernel
theorem d_M_copy_41 : decode b_M_copy 41 = .ok (.ireturn, 1) := by decide +kernel
theorem d_M_hasValue_0 : decode b_M_hasValue 0 = .ok (.aload_n 0, 1) := by decide +kernel
theorem d_M_hasValue_1 : decode b_M_hasValue 1 = .ok (.iload_n 1, 1) := by decide +kernel
theorem d_M_hasValue_2 : decode b_M_hasValue 2 = .ok (.invokevirtual 62, 3) := by decide +kernel
theorem d_M_hasValue_5 : decode b_M_hasValue 5 = .ok (.ifCond .eq 26, 3) := by decide +kernel
theorem d_M_hasValue_8 : decode b_M_hasValue 8 = .ok (.iload_n 2, 1) := by decide +kernel
theorem d_M_hasValue_9 : decode b_M_hasValue 9 = .ok (.ifCond .lt 22, 3) := by decide +kernel
theorem d_M_hasValue_12 : decode b_M_hasValue 12 = .ok (.iload_n 2, 1) := by decide +kernel
theorem d_M_hasValue_13 : decode b_M_hasValue 13 = .ok (.aload_n 0, 1) := by decide +kernel
theorem d_M_hasValue_14 : decode b_M_hasValue 14 = .ok (.getfield 17, 3) := by decide +kernel
theorem d_M_hasValue_17 : decode b_M_hasValue 17 = .ok (.aload_n 0, 1) := by decide +kernel
theorem d_M_hasValue_18 : decode b_M_hasValue 18 = .ok (.getfield 13, 3) := by decide +kernel
theorem d_M_hasValue_21 : decode b_M_hasValue 21 = .ok (.iload_n 1, 1) := by decide +kernel
theorem d_M_hasValue_22 : decode b_M_hasValue 22 = .ok (.iaload, 1) := by decide +kernel
theorem d_M_hasValue_23 : decode b_M_hasValue 23 = .ok (.iaload, 1) := by decide +kernel
theorem d_M_hasValue_24 : decode b_M_hasValue 24 = .ok (.if_icmp .ge 7, 3) := by decide +kernel
theorem d_M_hasValue_27 : decode b_M_hasValue 27 = .ok (.iconst 1, 1) := by decide +kernel
theorem d_M_hasValue_28 : decode b_M_hasValue 28 = .ok (.goto 4, 3) := by decide +kernel
theorem d_M_hasValue_31 : decode b_M_hasValue 31 = .ok (.iconst 0, 1) := by decide +kernel
theorem d_M_hasValue_32 : decode b_M_hasValue 32 = .ok (.ireturn, 1) := by decide +kernel
theorem d_M_get_0 : decode b_M_get 0 = .ok (.iload_n 1, 1) := by decide +kernel
theorem d_M_get_1 : decode b_M_get 1 = .ok (.invokestatic 28, 3) := by decide +kernel
theorem d_M_get_4 : decode b_M_get 4 = .ok (.ifCond .eq 12, 3) := by decide +kernel
theorem d_M_get_7 : decode b_M_get 7 = .ok (.aload_n 0, 1) := by decide +kernel
theorem d_M_get_8 : decode b_M_get 8 = .ok (.iload_n 2, 1) := by decide +kernel
theorem d_M_get_9 : decode b_M_get 9 = .ok (.iload_n 3, 1) := by decide +kernel
theorem d_M_get_10 : decode b_M_get 10 = .ok (.invokevirtual 69, 3) := by decide +kernel
theorem d_M_get_13 : decode b_M_get 13 = .ok (.ifCond .ne 5, 3) := by decide +kernel
theorem d_M_get_16 : decode b_M_get 16 = .ok (.iconst 0, 1) := by decide +kernel
theorem d_M_get_17 : decode b_M_get 17 = .ok (.ireturn, 1) := by decide +kernel
theorem d_M_get_18 : decode b_M_get 18 = .ok (.aload_n 0, 1) := by decide +kernel
theorem d_M_get_19 : decode b_M_get 19 = .ok (.iload_n 1, 1) := by decide +kernel
theorem d_M_get_20 : decode b_M_get 20 = .ok (.aload_n 0, 1) := by decide +kernel
theorem d_M_get_21 : decode b_M_get 21 = .ok (.getfield 13, 3) := by decide +kernel
theorem d_M_get_24 : decode b_M_get 24 = .ok (.iload_n 2, 1) := by decide +kernel
theorem d_M_get_25 : decode b_M_get 25 = .ok (.iaload, 1) := by decide +kernel
theorem d_M_get_26 : decode b_M_get 26 = .ok (.iload_n 3, 1) := by decide +kernel
theorem d_M_get_27 : decode b_M_get 27 = .ok (.invokestatic 41, 3) := by decide +kernel
theorem d_M_get_30 : decode b_M_get 30 = .ok (.invokevirtual 58, 3) := by decide +kernel
theorem d_M_get_33 : decode b_M_get 33 = .ok (.iconst 1, 1) := by decide +kernel
theorem d_M_get_34 : decode b_M_get 34 = .ok (.ireturn, 1) := by decide +kernel
theorem d_M_set_0 : decode b_M_set 0 = .ok (.iload_n 3, 1) := by decide +kernel
theorem d_M_set_1 : decode b_M_set 1 = .ok (.invokestatic 28, 3) := by decide +kernel
theorem d_M_set_4 : decode b_M_set 4 = .ok (.ifCond .eq 12, 3) := by decide +kernel
theorem d_M_set_7 : decode b_M_set 7 = .ok (.aload_n 0, 1) := by decide +kernel
theorem d_M_set_8 : decode b_M_set 8 = .ok (.iload_n 1, 1) := by decide +kernel
theorem d_M_set_9 : decode b_M_set 9 = .ok (.iload_n 2, 1) := by decide +kernel
theorem d_M_set_10 : decode b_M_set 10 = .ok (.invokevirtual 69, 3) := by decide +kernel
theorem d_M_set_13 : decode b_M_set 13 = .ok (.ifCond .ne 5, 3) := by decide +kernel
theorem d_M_set_16 : decode b_M_set 16 = .ok (.iconst 0, 1) := by decide +kernel
theorem d_M_set_17 : decode b_M_set 17 = .ok (.ireturn, 1) := by decide +kernel
theorem d_M_set_18 : decode b_M_set 18 = .ok (.aload_n 0, 1) := by decide +kernel
theorem d_M_set_19 : decode b_M_set 19 = .ok (.aload_n 0, 1) := by decide +kernel
theorem d_M_set_20 : decode b_M_set 20 = .ok (.getfield 13, 3) := by decide +kernel
theorem d_M_set_23 : decode b_M_set 23 = .ok (.iload_n 1, 1) := by decide +kernel
theorem d_M_set_24 : decode b_M_set 24 = .ok (.iaload, 1) := by decide +kernel
theorem d_M_set_25 : decode b_M_set 25 = .ok (.iload_n 2, 1) := by decide +kernel
theorem d_M_set_26 : decode b_M_set 26 = .ok (.invokestatic 41, 3) := by decide +kernel
theorem d_M_set_29 : decode b_M_set 29 = .ok (.iload_n 3, 1) := by decide +kernel
theorem d_M_set_30 : decode b_M_set 30 = .ok (.invokevirtual 58, 3) := by decide +kernel
theorem d_M_set_33 : decode b_M_set 33 = .ok (.iconst 1, 1) := by decide +kernel
theorem d_M_set_34 : decode b_M_set 34 = .ok (.ireturn, 1) := by decide +kernel
theorem d_M_push_0 : decode b_M_push 0 = .ok (.iload_n 1, 1) := by decide +kernel
theorem d_M_push_1 : decode b_M_push 1 = .ok (.invokestatic 28, 3) := by decide +kernel
theorem d_M_push_4 : decode b_M_push 4 = .ok (.ifCond .eq 12, 3) := by decide +kernel
theorem d_M_push_7 : decode b_M_push 7 = .ok (.aload_n 0, 1) := by decide +kernel
theorem d_M_push_8 : decode b_M_push 8 = .ok (.getfield 35, 3) := by decide +kernel
theorem d_M_push_11 : decode b_M_push 11 = .ok (.bipush 50, 2) := by decide +kernel
theorem d_M_push_13 : decode b_M_push 13 = .ok (.if_icmp .ne 5, 3) := by decide +kernel
theorem d_M_push_16 : decode b_M_push 16 = .ok (.iconst (-1), 1) := by decide +kernel
theorem d_M_push_17 : decode b_M_push 17 = .ok (.ireturn, 1) := by decide +kernel
theorem d_M_push_18 : decode b_M_push 18 = .ok (.aload_n 0, 1) := by decide +kernel
theorem d_M_push_19 : decode b_M_push 19 = .ok (.bipush 10, 2) := by decide +kernel
theorem d_M_push_21 : decode b_M_push 21 = .ok (.aload_n 0, 1) := by decide +kernel
theorem d_M_push_22 : decode b_M_push 22 = .ok (.getfield 35, 3) := by decide +kernel
theorem d_M_push_25 : decode b_M_push 25 = .ok (.iadd, 1) := by decide +kernel
theorem d_M_push_26 : decode b_M_push 26 = .ok (.iload_n 1, 1) := by decide +kernel
theorem d_M_push_27 : decode b_M_push 27 = .ok (.invokevirtual 58, 3) := by decide +kernel
theorem d_M_push_30 : decode b_M_push 30 = .ok (.aload_n 0, 1) := by decide +kernel
theorem d_M_push_31 : decode b_M_push 31 = .ok (.iload_n 1, 1) := by decide +kernel
theorem d_M_push_32 : decode b_M_push 32 = .ok (.invokevirtual 65, 3) := by decide +kernel
theorem d_M_push_35 : decode b_M_push 35 = .ok (.aload_n 0, 1) := by decide +kernel
theorem d_M_push_36 : decode b_M_push 36 = .ok (.dup, 1) := by decide +kernel
theorem d_M_push_37 : decode b_M_push 37 = .ok (.getfield 35, 3) := by decide +kernel
theorem d_M_push_40 : decode b_M_push 40 = .ok (.iconst 1, 1) := by decide +kernel
theorem d_M_push_41 : decode b_M_push 41 = .ok (.iadd, 1) := by decide +kernel
theorem d_M_push_42 : decode b_M_push 42 = .ok (.putfield 35, 3) := by decide +kernel
theorem d_M_push_45 : decode b_M_push 45 = .ok (.aload_n 0, 1) := by decide +kernel
theorem d_M_push_46 : decode b_M_push 46 = .ok (.getfield 35, 3) := by decide +kernel
theorem d_M_push_49 : decode b_M_push 49 = .ok (.ireturn, 1) := by decide +kernel
theorem d_M_pop_0 : decode b_M_pop 0 = .ok (.iload_n 1, 1) := by decide +kernel
theorem d_M_pop_1 : decode b_M_pop 1 = .ok (.invokestatic 28, 3) := by decide +kernel
theorem d_M_pop_4 : decode b_M_pop 4 = .ok (.ifCond .eq 10, 3) := by decide +kernel
theorem d_M_pop_7 : decode b_M_pop 7 = .ok (.aload_n 0, 1) := by decide +kernel
theorem d_M_pop_8 : decode b_M_pop 8 = .ok (.getfield 35, 3) := by decide +kernel
theorem d_M_pop_11 : decode b_M_pop 11 = .ok (.ifCond .ne 5, 3) := by decide +kernel
theorem d_M_pop_14 : decode b_M_pop 14 = .ok (.iconst (-1), 1) := by decide +kernel
theorem d_M_pop_15 : decode b_M_pop 15 = .ok (.ireturn, 1) := by decide +kernel
theorem d_M_pop_16 : decode b_M_pop 16 = .ok (.aload_n 0, 1) := by decide +kernel
theorem d_M_pop_17 : decode b_M_pop 17 = .ok (.dup, 1) := by decide +kernel
theorem d_M_pop_18 : decode b_M_pop 18 = .ok (.getfield 35, 3) := by decide +kernel
theorem d_M_pop_21 : decode b_M_pop 21 = .ok (.iconst 1, 1) := by decide +kernel
theorem d_M_pop_22 : decode b_M_pop 22 = .ok (.isub, 1) := by decide +kernel
theorem d_M_pop_23 : decode b_M_pop 23 = .ok (.putfield 35, 3) := by decide +kernel
theorem d_M_pop_26 : decode b_M_pop 26 = .ok (.aload_n 0, 1) := by decide +kernel
theorem d_M_pop_27 : decode b_M_pop 27 = .ok (.iload_n 1, 1) := by decide +kernel
theorem d_M_pop_28 : decode b_M_pop 28 = .ok (.bipush 10, 2) := by decide +kernel
theorem d_M_pop_30 : decode b_M_pop 30 = .ok (.aload_n 0, 1) := by decide +kernel
theorem d_M_pop_31 : decode b_M_pop 31 = .ok (.getfield 35, 3) := by decide +kernel
theorem d_M_pop_34 : decode b_M_pop 34 = .ok (.iadd, 1) := by decide +kernel
theorem d_M_pop_35 : decode b_M_pop 35 = .ok (.invokevirtual 58, 3) := by decide +kernel
theorem d_M_pop_38 : decode b_M_pop 38 = .ok (.aload_n 0, 1) := by decide +kernel
theorem d_M_pop_39 : decode b_M_pop 39 = .ok (.getfield 35, 3) := by decide +kernel
theorem d_M_pop_42 : decode b_M_pop 42 = .ok (.ireturn, 1) := by decide +kernel
theorem d_M_look_0 : decode b_M_look 0 = .ok (.iload_n 1, 1) := by decide +kernel
theorem d_M_look_1 : decode b_M_look 1 = .ok (.invokestatic 28, 3) := by decide +kernel
theorem d_M_look_4 : decode b_M_look 4 = .ok (.ifCond .ne 7, 3) := by decide +kernel
theorem d_M_look_7 : decode b_M_look 7 = .ok (.iconst (-1), 1) := by decide +kernel
theorem d_M_look_8 : decode b_M_look 8 = .ok (.goto 43, 3) := by decide +kernel
theorem d_M_look_11 : decode b_M_look 11 = .ok (.aload_n 0, 1) := by decide +kernel
theorem d_M_look_12 : decode b_M_look 12 = .ok (.getfield 7, 3) := by decide +kernel
theorem d_M_look_15 : decode b_M_look 15 = .ok (.iload_n 1, 1) := by decide +kernel
theorem d_M_look_16 : decode b_M_look 16 = .ok (.baload, 1) := by decide +kernel
theorem d_M_look_17 : decode b_M_look 17 = .ok (.ifCond .ne 8, 3) := by decide +kernel
theorem d_M_look_20 : decode b_M_look 20 = .ok (.bipush (-2), 2) := by decide +kernel
theorem d_M_look_22 : decode b_M_look 22 = .ok (.goto 29, 3) := by decide +kernel
theorem d_M_look_25 : decode b_M_look 25 = .ok (.aload_n 0, 1) := by decide +kernel
theorem d_M_look_26 : decode b_M_look 26 = .ok (.getfield 7, 3) := by decide +kernel
theorem d_M_look_29 : decode b_M_look 29 = .ok (.iload_n 1, 1) := by decide +kernel
theorem d_M_look_30 : decode b_M_look 30 = .ok (.baload, 1) := by decide +kernel
theorem d_M_look_31 : decode b_M_look 31 = .ok (.iconst 1, 1) := by decide +kernel
theorem d_M_look_32 : decode b_M_look 32 = .ok (.if_icmp .ne 8, 3) := by decide +kernel
theorem d_M_look_35 : decode b_M_look 35 = .ok (.bipush (-3), 2) := by decide +kernel
theorem d_M_look_37 : decode b_M_look 37 = .ok (.goto 14, 3) := by decide +kernel
theorem d_M_look_40 : decode b_M_look 40 = .ok (.aload_n 0, 1) := by decide +kernel
theorem d_M_look_41 : decode b_M_look 41 = .ok (.getfield 17, 3) := by decide +kernel
theorem d_M_look_44 : decode b_M_look 44 = .ok (.aload_n 0, 1) := by decide +kernel
theorem d_M_look_45 : decode b_M_look 45 = .ok (.getfield 13, 3) := by decide +kernel
theorem d_M_look_48 : decode b_M_look 48 = .ok (.iload_n 1, 1) := by decide +kernel
theorem d_M_look_49 : decode b_M_look 49 = .ok (.iaload, 1) := by decide +kernel
theorem d_M_look_50 : decode b_M_look 50 = .ok (.iaload, 1) := by decide +kernel
theorem d_M_look_51 : decode b_M_look 51 = .ok (.ireturn, 1) := by decide +kernel
theorem d_M_numberIn_0 : decode b_M_numberIn 0 = .ok (.iload_n 1, 1) := by decide +kernel
theorem d_M_numberIn_1 : decode b_M_numberIn 1 = .ok (.invokestatic 28, 3) := by decide +kernel
theorem d_M_numberIn_4 : decode b_M_numberIn 4 = .ok (.ifCond .eq 22, 3) := by decide +kernel
theorem d_M_numberIn_7 : decode b_M_numberIn 7 = .ok (.aload_n 0, 1) := by decide +kernel
theorem d_M_numberIn_8 : decode b_M_numberIn 8 = .ok (.getfield 7, 3) := by decide +kernel
theorem d_M_numberIn_11 : decode b_M_numberIn 11 = .ok (.iload_n 1, 1) := by decide +kernel
theorem d_M_numberIn_12 : decode b_M_numberIn 12 = .ok (.baload, 1) := by decide +kernel
theorem d_M_numberIn_13 : decode b_M_numberIn 13 = .ok (.iconst 1, 1) := by decide +kernel
theorem d_M_numberIn_14 : decode b_M_numberIn 14 = .ok (.if_icmp .ne 12, 3) := by decide +kernel
theorem d_M_numberIn_17 : decode b_M_numberIn 17 = .ok (.aload_n 0, 1) := by decide +kernel
theorem d_M_numberIn_18 : decode b_M_numberIn 18 = .ok (.getfield 13, 3) := by decide +kernel
theorem d_M_numberIn_21 : decode b_M_numberIn 21 = .ok (.iload_n 1, 1) := by decide +kernel
theorem d_M_numberIn_22 : decode b_M_numberIn 22 = .ok (.iaload, 1) := by decide +kernel
theorem d_M_numberIn_23 : decode b_M_numberIn 23 = .ok (.goto 4, 3) := by decide +kernel
theorem d_M_numberIn_26 : decode b_M_numberIn 26 = .ok (.iconst 0, 1) := by decide +kernel
theorem d_M_numberIn_27 : decode b_M_numberIn 27 = .ok (.ireturn, 1) := by decide +kernel
theorem d_M_same_0 : decode b_M_same 0 = .ok (.iload_n 1, 1) := by decide +kernel
theorem d_M_same_1 : decode b_M_same 1 = .ok (.invokestatic 28, 3) := by decide +kernel
theorem d_M_same_4 : decode b_M_same 4 = .ok (.ifCond .eq 10, 3) := by decide +kernel
theorem d_M_same_7 : decode b_M_same 7 = .ok (.iload_n 2, 1) := by decide +kernel
theorem d_M_same_8 : decode b_M_same 8 = .ok (.invokestatic 28, 3) := by decide +kernel
theorem d_M_same_11 : decode b_M_same 11 = .ok (.ifCond .ne 7, 3) := by decide +kernel
theorem d_M_same_14 : decode b_M_same 14 = .ok (.iconst (-1), 1) := by decide +kernel
theorem d_M_same_15 : decode b_M_same 15 = .ok (.goto 38, 3) := by decide +kernel
theorem d_M_same_18 : decode b_M_same 18 = .ok (.aload_n 0, 1) := by decide +kernel
theorem d_M_same_19 : decode b_M_same 19 = .ok (.getfield 7, 3) := by decide +kernel
theorem d_M_same_22 : decode b_M_same 22 = .ok (.iload_n 1, 1) := by decide +kernel
theorem d_M_same_23 : decode b_M_same 23 = .ok (.baload, 1) := by decide +kernel
theorem d_M_same_24 : decode b_M_same 24 = .ok (.aload_n 0, 1) := by decide +kernel
theorem d_M_same_25 : decode b_M_same 25 = .ok (.getfield 7, 3) := by decide +kernel
theorem d_M_same_28 : decode b_M_same 28 = .ok (.iload_n 2, 1) := by decide +kernel
theorem d_M_same_29 : decode b_M_same 29 = .ok (.baload, 1) := by decide +kernel
theorem d_M_same_30 : decode b_M_same 30 = .ok (.if_icmp .ne 22, 3) := by decide +kernel
theorem d_M_same_33 : decode b_M_same 33 = .ok (.aload_n 0, 1) := by decide +kernel
theorem d_M_same_34 : decode b_M_same 34 = .ok (.getfield 13, 3) := by decide +kernel
theorem d_M_same_37 : decode b_M_same 37 = .ok (.iload_n 1, 1) := by decide +kernel
theorem d_M_same_38 : decode b_M_same 38 = .ok (.iaload, 1) := by decide +kernel
theorem d_M_same_39 : decode b_M_same 39 = .ok (.aload_n 0, 1) := by decide +kernel
theorem d_M_same_40 : decode b_M_same 40 = .ok (.getfield 13, 3) := by decide +kernel
theorem d_M_same_43 : decode b_M_same 43 = .ok (.iload_n 2, 1) := by decide +kernel
theorem d_M_same_44 : decode b_M_same 44 = .ok (.iaload, 1) := by decide +kernel
theorem d_M_same_45 : decode b_M_same 45 = .ok (.if_icmp .ne 7, 3) := by decide +kernel
theorem d_M_same_48 : decode b_M_same 48 = .ok (.iconst 1, 1) := by decide +kernel
theorem d_M_same_49 : decode b_M_same 49 = .ok (.goto 4, 3) := by decide +kernel
theorem d_M_same_52 : decode b_M_same 52 = .ok (.iconst 0, 1) := by decide +kernel
theorem d_M_same_53 : decode b_M_same 53 = .ok (.ireturn, 1) := by decide +kernel
theorem d_M_count_0 : decode b_M_count 0 = .ok (.iconst 0, 1) := by decide +kernel
theorem d_M_count_1 : decode b_M_count 1 = .ok (.istore_n 2, 1) := by decide +kernel
theorem d_M_count_2 : decode b_M_count 2 = .ok (.aload_n 0, 1) := by decide +kernel
theorem d_M_count_3 : decode b_M_count 3 = .ok (.invokevirtual 48, 3) := by decide +kernel
theorem d_M_count_6 : decode b_M_count 6 = .ok (.istore_n 3, 1) := by decide +kernel
theorem d_M_count_7 : decode b_M_count 7 = .ok (.iconst 0, 1) := by decide +kernel
theorem d_M_count_8 : decode b_M_count 8 = .ok (.istore 4, 2) := by decide +kernel
theorem d_M_count_10 : decode b_M_count 10 = .ok (.iload 4, 2) := by decide +kernel
theorem d_M_count_12 : decode b_M_count 12 = .ok (.aload_n 0, 1) := by decide +kernel
theorem d_M_count_13 : decode b_M_count 13 = .ok (.getfield 32, 3) := by decide +kernel
theorem d_M_count_16 : decode b_M_count 16 = .ok (.if_icmp .ge 27, 3) := by decide +kernel
theorem d_M_count_19 : decode b_M_count 19 = .ok (.aload_n 0, 1) := by decide +kernel
theorem d_M_count_20 : decode b_M_count 20 = .ok (.getfield 20, 3) := by decide +kernel
theorem d_M_count_23 : decode b_M_count 23 = .ok (.iload 4, 2) := by decide +kernel
theorem d_M_count_25 : decode b_M_count 25 = .ok (.baload, 1) := by decide +kernel
theorem d_M_count_26 : decode b_M_count 26 = .ok (.ifCond .eq 9, 3) := by decide +kernel
theorem d_M_count_29 : decode b_M_count 29 = .ok (.iload_n 2, 1) := by decide +kernel
theorem d_M_count_30 : decode b_M_count 30 = .ok (.iconst 1, 1) := by decide +kernel
theorem d_M_count_31 : decode b_M_count 31 = .ok (.iadd, 1) := by decide +kernel
theorem d_M_count_32 : decode b_M_count 32 = .ok (.goto 4, 3) := by decide +kernel
theorem d_M_count_35 : decode b_M_count 35 = .ok (.iload_n 2, 1) := by decide +kernel
theorem d_M_count_36 : decode b_M_count 36 = .ok (.istore_n 2, 1) := by decide +kernel
theorem d_M_count_37 : decode b_M_count 37 = .ok (.iinc 4 1, 3) := by decide +kernel
theorem d_M_count_40 : decode b_M_count 40 = .ok (.goto (-30), 3) := by decide +kernel
theorem d_M_count_43 : decode b_M_count 43 = .ok (.iload_n 1, 1) := by decide +kernel
theorem d_M_count_44 : decode b_M_count 44 = .ok (.ifCond .ne 7, 3) := by decide +kernel
theorem d_M_count_47 : decode b_M_count 47 = .ok (.iload_n 3, 1) := by decide +kernel
theorem d_M_count_48 : decode b_M_count 48 = .ok (.goto 49, 3) := by decide +kernel
theorem d_M_count_51 : decode b_M_count 51 = .ok (.iload_n 1, 1) := by decide +kernel
theorem d_M_count_52 : decode b_M_count 52 = .ok (.iconst 1, 1) := by decide +kernel
theorem d_M_count_53 : decode b_M_count 53 = .ok (.if_icmp .ne 7, 3) := by decide +kernel
theorem d_M_count_56 : decode b_M_count 56 = .ok (.iload_n 2, 1) := by decide +kernel
theorem d_M_count_57 : decode b_M_count 57 = .ok (.goto 40, 3) := by decide +kernel
theorem d_M_count_60 : decode b_M_count 60 = .ok (.iload_n 1, 1) := by decide +kernel
theorem d_M_count_61 : decode b_M_count 61 = .ok (.iconst 2, 1) := by decide +kernel
theorem d_M_count_62 : decode b_M_count 62 = .ok (.if_icmp .ne 10, 3) := by decide +kernel
theorem d_M_count_65 : decode b_M_count 65 = .ok (.aload_n 0, 1) := by decide +kernel
theorem d_M_count_66 : decode b_M_count 66 = .ok (.getfield 35, 3) := by decide +kernel
theorem d_M_count_69 : decode b_M_count 69 = .ok (.goto 28, 3) := by decide +kernel
theorem d_M_count_72 : decode b_M_count 72 = .ok (.iload_n 1, 1) := by decide +kernel
theorem d_M_count_73 : decode b_M_count 73 = .ok (.iconst 3, 1) := by decide +kernel
theorem d_M_count_74 : decode b_M_count 74 = .ok (.if_icmp .ne 10, 3) := by decide +kernel
theorem d_M_count_77 : decode b_M_count 77 = .ok (.aload_n 0, 1) := by decide +kernel
theorem d_M_count_78 : decode b_M_count 78 = .ok (.getfield 32, 3) := by decide +kernel
theorem d_M_count_81 : decode b_M_count 81 = .ok (.goto 16, 3) := by decide +kernel
theorem d_M_count_84 : decode b_M_count 84 = .ok (.iload_n 1, 1) := by decide +kernel
theorem d_M_count_85 : decode b_M_count 85 = .ok (.iconst 4, 1) := by decide +kernel
theorem d_M_count_86 : decode b_M_count 86 = .ok (.if_icmp .ne 10, 3) := by decide +kernel
theorem d_M_count_89 : decode b_M_count 89 = .ok (.aload_n 0, 1) := by decide +kernel
theorem d_M_count_90 : decode b_M_count 90 = .ok (.getfield 52, 3) := by decide +kernel
theorem d_M_count_93 : decode b_M_count 93 = .ok (.goto 4, 3) := by decide +kernel
theorem d_M_count_96 : decode b_M_count 96 = .ok (.iconst (-1), 1) := by decide +kernel
theorem d_M_count_97 : decode b_M_count 97 = .ok (.ireturn, 1) := by decide +kernel
end
section
theorem d_L_cell_0 : decode b_L_cell 0 = .ok (.iload_n 1, 1) := by decide +kernel
theorem d_L_cell_1 : decode b_L_cell 1 = .ok (.aload_n 0, 1) := by decide +kernel
theorem d_L_cell_2 : decode b_L_cell 2 = .ok (.arraylength, 1) := by decide +kernel
theorem d_L_cell_3 : decode b_L_cell 3 = .ok (.if_icmp .ge 9, 3) := by decide +kernel
theorem d_L_cell_6 : decode b_L_cell 6 = .ok (.aload_n 0, 1) := by decide +kernel
theorem d_L_cell_7 : decode b_L_cell 7 = .ok (.iload_n 1, 1) := by decide +kernel
theorem d_L_cell_8 : decode b_L_cell 8 = .ok (.iaload, 1) := by decide +kernel
theorem d_L_cell_9 : decode b_L_cell 9 = .ok (.goto 4, 3) := by decide +kernel
theorem d_L_cell_12 : decode b_L_cell 12 = .ok (.iconst 0, 1) := by decide +kernel
theorem d_L_cell_13 : decode b_L_cell 13 = .ok (.ireturn, 1) := by decide +kernel
theorem d_L_law_0 : decode code 0 = .ok (.new 7, 3) := by decide +kernel
theorem d_L_law_3 : decode code 3 = .ok (.dup, 1) := by decide +kernel
theorem d_L_law_4 : decode code 4 = .ok (.aload_n 0, 1) := by decide +kernel
theorem d_L_law_5 : decode code 5 = .ok (.iconst 0, 1) := by decide +kernel
theorem d_L_law_6 : decode code 6 = .ok (.invokestatic 9, 3) := by decide +kernel
theorem d_L_law_9 : decode code 9 = .ok (.invokespecial 15, 3) := by decide +kernel
theorem d_L_law_12 : decode code 12 = .ok (.astore_n 1, 1) := by decide +kernel
theorem d_L_law_13 : decode code 13 = .ok (.new 18, 3) := by decide +kernel
theorem d_L_law_16 : decode code 16 = .ok (.dup, 1) := by decide +kernel
theorem d_L_law_17 : decode code 17 = .ok (.aload_n 0, 1) := by decide +kernel
theorem d_L_law_18 : decode code 18 = .ok (.iconst 0, 1) := by decide +kernel
theorem d_L_law_19 : decode code 19 = .ok (.invokestatic 9, 3) := by decide +kernel
theorem d_L_law_22 : decode code 22 = .ok (.invokespecial 20, 3) := by decide +kernel
theorem d_L_law_25 : decode code 25 = .ok (.astore_n 2, 1) := by decide +kernel
theorem d_L_law_26 : decode code 26 = .ok (.iconst 1, 1) := by decide +kernel
theorem d_L_law_27 : decode code 27 = .ok (.istore_n 3, 1) := by decide +kernel
theorem d_L_law_28 : decode code 28 = .ok (.iload_n 3, 1) := by decide +kernel
theorem d_L_law_29 : decode code 29 = .ok (.aload_n 0, 1) := by decide +kernel
theorem d_L_law_30 : decode code 30 = .ok (.arraylength, 1) := by decide +kernel
theorem d_L_law_31 : decode code 31 = .ok (.iconst 4, 1) := by decide +kernel
theorem d_L_law_32 : decode code 32 = .ok (.isub, 1) := by decide +kernel
theorem d_L_law_33 : decode code 33 = .ok (.if_icmp .gt 480, 3) := by decide +kernel
theorem d_L_law_36 : decode code 36 = .ok (.aload_n 0, 1) := by decide +kernel
theorem d_L_law_37 : decode code 37 = .ok (.iload_n 3, 1) := by decide +kernel
theorem d_L_law_38 : decode code 38 = .ok (.iaload, 1) := by decide +kernel
theorem d_L_law_39 : decode code 39 = .ok (.bipush 15, 2) := by decide +kernel
theorem d_L_law_41 : decode code 41 = .ok (.iand, 1) := by decide +kernel
theorem d_L_law_42 : decode code 42 = .ok (.tableswitch 465 0 12 #[66, 109, 142, 165, 198, 231, 274, 317, 340, 363, 386, 409, 442], 66) := by decide +kernel
theorem d_L_law_108 : decode code 108 = .ok (.aload_n 1, 1) := by decide +kernel
theorem d_L_law_109 : decode code 109 = .ok (.aload_n 0, 1) := by decide +kernel
theorem d_L_law_110 : decode code 110 = .ok (.iload_n 3, 1) := by decide +kernel
theorem d_L_law_111 : decode code 111 = .ok (.iconst 1, 1) := by decide +kernel
theorem d_L_law_112 : decode code 112 = .ok (.iadd, 1) := by decide +kernel
theorem d_L_law_113 : decode code 113 = .ok (.iaload, 1) := by decide +kernel
theorem d_L_law_114 : decode code 114 = .ok (.aload_n 0, 1) := by decide +kernel
theorem d_L_law_115 : decode code 115 = .ok (.iload_n 3, 1) := by decide +kernel
theorem d_L_law_116 : decode code 116 = .ok (.iconst 2, 1) := by decide +kernel
theorem d_L_law_117 : decode code 117 = .ok (.iadd, 1) := by decide +kernel
theorem d_L_law_118 : decode code 118 = .ok (.iaload, 1) := by decide +kernel
theorem d_L_law_119 : decode code 119 = .ok (.aload_n 0, 1) := by decide +kernel
theorem d_L_law_120 : decode code 120 = .ok (.iload_n 3, 1) := by decide +kernel
theorem d_L_law_121 : decode code 121 = .ok (.iconst 3, 1) := by decide +kernel
theorem d_L_law_122 : decode code 122 = .ok (.iadd, 1) := by decide +kernel
theorem d_L_law_123 : decode code 123 = .ok (.iaload, 1) := by decide +kernel
theorem d_L_law_124 : decode code 124 = .ok (.invokevirtual 21, 3) := by decide +kernel
theorem d_L_law_127 : decode code 127 = .ok (.aload_n 2, 1) := by decide +kernel
theorem d_L_law_128 : decode code 128 = .ok (.aload_n 0, 1) := by decide +kernel
theorem d_L_law_129 : decode code 129 = .ok (.iload_n 3, 1) := by decide +kernel
theorem d_L_law_130 : decode code 130 = .ok (.iconst 1, 1) := by decide +kernel
theorem d_L_law_131 : decode code 131 = .ok (.iadd, 1) := by decide +kernel
theorem d_L_law_132 : decode code 132 = .ok (.iaload, 1) := by decide +kernel
theorem d_L_law_133 : decode code 133 = .ok (.aload_n 0, 1) := by decide +kernel
theorem d_L_law_134 : decode code 134 = .ok (.iload_n 3, 1) := by decide +kernel
theorem d_L_law_135 : decode code 135 = .ok (.iconst 2, 1) := by decide +kernel
theorem d_L_law_136 : decode code 136 = .ok (.iadd, 1) := by decide +kernel
theorem d_L_law_137 : decode code 137 = .ok (.iaload, 1) := by decide +kernel
theorem d_L_law_138 : decode code 138 = .ok (.aload_n 0, 1) := by decide +kernel
theorem d_L_law_139 : decode code 139 = .ok (.iload_n 3, 1) := by decide +kernel
theorem d_L_law_140 : decode code 140 = .ok (.iconst 3, 1) := by decide +kernel
theorem d_L_law_141 : decode code 141 = .ok (.iadd, 1) := by decide +kernel
theorem d_L_law_142 : decode code 142 = .ok (.iaload, 1) := by decide +kernel
theorem d_L_law_143 : decode code 143 = .ok (.invokevirtual 25, 3) := by decide +kernel
theorem d_L_law_146 : decode code 146 = .ok (.if_icmp .eq 361, 3) := by decide +kernel
theorem d_L_law_149 : decode code 149 = .ok (.iconst 0, 1) := by decide +kernel
theorem d_L_law_150 : decode code 150 = .ok (.ireturn, 1) := by decide +kernel
theorem d_L_law_151 : decode code 151 = .ok (.aload_n 1, 1) := by decide +kernel
theorem d_L_law_152 : decode code 152 = .ok (.aload_n 0, 1) := by decide +kernel
theorem d_L_law_153 : decode code 153 = .ok (.iload_n 3, 1) := by decide +kernel
theorem d_L_law_154 : decode code 154 = .ok (.iconst 1, 1) := by decide +kernel
theorem d_L_law_155 : decode code 155 = .ok (.iadd, 1) := by decide +kernel
theorem d_L_law_156 : decode code 156 = .ok (.iaload, 1) := by decide +kernel
theorem d_L_law_157 : decode code 157 = .ok (.aload_n 0, 1) := by decide +kernel
theorem d_L_law_158 : decode code 158 = .ok (.iload_n 3, 1) := by decide +kernel
theorem d_L_law_159 : decode code 159 = .ok (.iconst 2, 1) := by decide +kernel
theorem d_L_law_160 : decode code 160 = .ok (.iadd, 1) := by decide +kernel
theorem d_L_law_161 : decode code 161 = .ok (.iaload, 1) := by decide +kernel
theorem d_L_law_162 : decode code 162 = .ok (.invokevirtual 26, 3) := by decide +kernel
theorem d_L_law_165 : decode code 165 = .ok (.aload_n 2, 1) := by decide +kernel
theorem d_L_law_166 : decode code 166 = .ok (.aload_n 0, 1) := by decide +kernel
theorem d_L_law_167 : decode code 167 = .ok (.iload_n 3, 1) := by decide +kernel
theorem d_L_law_168 : decode code 168 = .ok (.iconst 1, 1) := by decide +kernel
theorem d_L_law_169 : decode code 169 = .ok (.iadd, 1) := by decide +kernel
theorem d_L_law_170 : decode code 170 = .ok (.iaload, 1) := by decide +kernel
theorem d_L_law_171 : decode code 171 = .ok (.aload_n 0, 1) := by decide +kernel
theorem d_L_law_172 : decode code 172 = .ok (.iload_n 3, 1) := by decide +kernel
theorem d_L_law_173 : decode code 173 = .ok (.iconst 2, 1) := by decide +kernel
theorem d_L_law_174 : decode code 174 = .ok (.iadd, 1) := by decide +kernel
theorem d_L_law_175 : decode code 175 = .ok (.iaload, 1) := by decide +kernel
theorem d_L_law_176 : decode code 176 = .ok (.invokevirtual 30, 3) := by decide +kernel
theorem d_L_law_179 : decode code 179 = .ok (.if_icmp .eq 328, 3) := by decide +kernel
theorem d_L_law_182 : decode code 182 = .ok (.iconst 0, 1) := by decide +kernel
theorem d_L_law_183 : decode code 183 = .ok (.ireturn, 1) := by decide +kernel
theorem d_L_law_184 : decode code 184 = .ok (.aload_n 1, 1) := by decide +kernel
theorem d_L_law_185 : decode code 185 = .ok (.aload_n 0, 1) := by decide +kernel
theorem d_L_law_186 : decode code 186 = .ok (.iload_n 3, 1) := by decide +kernel
theorem d_L_law_187 : decode code 187 = .ok (.iconst 1, 1) := by decide +kernel
theorem d_L_law_188 : decode code 188 = .ok (.iadd, 1) := by decide +kernel
theorem d_L_law_189 : decode code 189 = .ok (.iaload, 1) := by decide +kernel
theorem d_L_law_190 : decode code 190 = .ok (.invokevirtual 31, 3) := by decide +kernel
theorem d_L_law_193 : decode code 193 = .ok (.aload_n 2, 1) := by decide +kernel
theorem d_L_law_194 : decode code 194 = .ok (.aload_n 0, 1) := by decide +kernel
theorem d_L_law_195 : decode code 195 = .ok (.iload_n 3, 1) := by decide +kernel
theorem d_L_law_196 : decode code 196 = .ok (.iconst 1, 1) := by decide +kernel
theorem d_L_law_197 : decode code 197 = .ok (.iadd, 1) := by decide +kernel
theorem d_L_law_198 : decode code 198 = .ok (.iaload, 1) := by decide +kernel
theorem d_L_law_199 : decode code 199 = .ok (.invokevirtual 35, 3) := by decide +kernel
theorem d_L_law_202 : decode code 202 = .ok (.if_icmp .eq 305, 3) := by decide +kernel
theorem d_L_law_205 : decode code 205 = .ok (.iconst 0, 1) := by decide +kernel
theorem d_L_law_206 : decode code 206 = .ok (.ireturn, 1) := by decide +kernel
theorem d_L_law_207 : decode code 207 = .ok (.aload_n 1, 1) := by decide +kernel
theorem d_L_law_208 : decode code 208 = .ok (.aload_n 0, 1) := by decide +kernel
theorem d_L_law_209 : decode code 209 = .ok (.iload_n 3, 1) := by decide +kernel
theorem d_L_law_210 : decode code 210 = .ok (.iconst 1, 1) := by decide +kernel
theorem d_L_law_211 : decode code 211 = .ok (.iadd, 1) := by decide +kernel
theorem d_L_law_212 : decode code 212 = .ok (.iaload, 1) := by decide +kernel
theorem d_L_law_213 : decode code 213 = .ok (.aload_n 0, 1) := by decide +kernel
theorem d_L_law_214 : decode code 214 = .ok (.iload_n 3, 1) := by decide +kernel
theorem d_L_law_215 : decode code 215 = .ok (.iconst 2, 1) := by decide +kernel
theorem d_L_law_216 : decode code 216 = .ok (.iadd, 1) := by decide +kernel
theorem d_L_law_217 : decode code 217 = .ok (.iaload, 1) := by decide +kernel
end
section
theorem d_L_law_218 : decode code 218 = .ok (.invokevirtual 36, 3) := by decide +kernel
theorem d_L_law_221 : decode code 221 = .ok (.aload_n 2, 1) := by decide +kernel
theorem d_L_law_222 : decode code 222 = .ok (.aload_n 0, 1) := by decide +kernel
theorem d_L_law_223 : decode code 223 = .ok (.iload_n 3, 1) := by decide +kernel
theorem d_L_law_224 : decode code 224 = .ok (.iconst 1, 1) := by decide +kernel
theorem d_L_law_225 : decode code 225 = .ok (.iadd, 1) := by decide +kernel
theorem d_L_law_226 : decode code 226 = .ok (.iaload, 1) := by decide +kernel
theorem d_L_law_227 : decode code 227 = .ok (.aload_n 0, 1) := by decide +kernel
theorem d_L_law_228 : decode code 228 = .ok (.iload_n 3, 1) := by decide +kernel
theorem d_L_law_229 : decode code 229 = .ok (.iconst 2, 1) := by decide +kernel
theorem d_L_law_230 : decode code 230 = .ok (.iadd, 1) := by decide +kernel
theorem d_L_law_231 : decode code 231 = .ok (.iaload, 1) := by decide +kernel
theorem d_L_law_232 : decode code 232 = .ok (.invokevirtual 40, 3) := by decide +kernel
theorem d_L_law_235 : decode code 235 = .ok (.if_icmp .eq 272, 3) := by decide +kernel
theorem d_L_law_238 : decode code 238 = .ok (.iconst 0, 1) := by decide +kernel
theorem d_L_law_239 : decode code 239 = .ok (.ireturn, 1) := by decide +kernel
theorem d_L_law_240 : decode code 240 = .ok (.aload_n 1, 1) := by decide +kernel
theorem d_L_law_241 : decode code 241 = .ok (.aload_n 0, 1) := by decide +kernel
theorem d_L_law_242 : decode code 242 = .ok (.iload_n 3, 1) := by decide +kernel
theorem d_L_law_243 : decode code 243 = .ok (.iconst 1, 1) := by decide +kernel
theorem d_L_law_244 : decode code 244 = .ok (.iadd, 1) := by decide +kernel
theorem d_L_law_245 : decode code 245 = .ok (.iaload, 1) := by decide +kernel
theorem d_L_law_246 : decode code 246 = .ok (.aload_n 0, 1) := by decide +kernel
theorem d_L_law_247 : decode code 247 = .ok (.iload_n 3, 1) := by decide +kernel
theorem d_L_law_248 : decode code 248 = .ok (.iconst 2, 1) := by decide +kernel
theorem d_L_law_249 : decode code 249 = .ok (.iadd, 1) := by decide +kernel
theorem d_L_law_250 : decode code 250 = .ok (.iaload, 1) := by decide +kernel
theorem d_L_law_251 : decode code 251 = .ok (.invokevirtual 41, 3) := by decide +kernel
theorem d_L_law_254 : decode code 254 = .ok (.aload_n 2, 1) := by decide +kernel
theorem d_L_law_255 : decode code 255 = .ok (.aload_n 0, 1) := by decide +kernel
theorem d_L_law_256 : decode code 256 = .ok (.iload_n 3, 1) := by decide +kernel
theorem d_L_law_257 : decode code 257 = .ok (.iconst 1, 1) := by decide +kernel
theorem d_L_law_258 : decode code 258 = .ok (.iadd, 1) := by decide +kernel
theorem d_L_law_259 : decode code 259 = .ok (.iaload, 1) := by decide +kernel
theorem d_L_law_260 : decode code 260 = .ok (.aload_n 0, 1) := by decide +kernel
theorem d_L_law_261 : decode code 261 = .ok (.iload_n 3, 1) := by decide +kernel
theorem d_L_law_262 : decode code 262 = .ok (.iconst 2, 1) := by decide +kernel
theorem d_L_law_263 : decode code 263 = .ok (.iadd, 1) := by decide +kernel
theorem d_L_law_264 : decode code 264 = .ok (.iaload, 1) := by decide +kernel
theorem d_L_law_265 : decode code 265 = .ok (.invokevirtual 44, 3) := by decide +kernel
theorem d_L_law_268 : decode code 268 = .ok (.if_icmp .eq 239, 3) := by decide +kernel
theorem d_L_law_271 : decode code 271 = .ok (.iconst 0, 1) := by decide +kernel
theorem d_L_law_272 : decode code 272 = .ok (.ireturn, 1) := by decide +kernel
theorem d_L_law_273 : decode code 273 = .ok (.aload_n 1, 1) := by decide +kernel
theorem d_L_law_274 : decode code 274 = .ok (.aload_n 0, 1) := by decide +kernel
theorem d_L_law_275 : decode code 275 = .ok (.iload_n 3, 1) := by decide +kernel
theorem d_L_law_276 : decode code 276 = .ok (.iconst 1, 1) := by decide +kernel
theorem d_L_law_277 : decode code 277 = .ok (.iadd, 1) := by decide +kernel
theorem d_L_law_278 : decode code 278 = .ok (.iaload, 1) := by decide +kernel
theorem d_L_law_279 : decode code 279 = .ok (.aload_n 0, 1) := by decide +kernel
theorem d_L_law_280 : decode code 280 = .ok (.iload_n 3, 1) := by decide +kernel
theorem d_L_law_281 : decode code 281 = .ok (.iconst 2, 1) := by decide +kernel
theorem d_L_law_282 : decode code 282 = .ok (.iadd, 1) := by decide +kernel
theorem d_L_law_283 : decode code 283 = .ok (.iaload, 1) := by decide +kernel
theorem d_L_law_284 : decode code 284 = .ok (.aload_n 0, 1) := by decide +kernel
theorem d_L_law_285 : decode code 285 = .ok (.iload_n 3, 1) := by decide +kernel
theorem d_L_law_286 : decode code 286 = .ok (.iconst 3, 1) := by decide +kernel
theorem d_L_law_287 : decode code 287 = .ok (.iadd, 1) := by decide +kernel
theorem d_L_law_288 : decode code 288 = .ok (.iaload, 1) := by decide +kernel
theorem d_L_law_289 : decode code 289 = .ok (.invokevirtual 45, 3) := by decide +kernel
theorem d_L_law_292 : decode code 292 = .ok (.aload_n 2, 1) := by decide +kernel
theorem d_L_law_293 : decode code 293 = .ok (.aload_n 0, 1) := by decide +kernel
theorem d_L_law_294 : decode code 294 = .ok (.iload_n 3, 1) := by decide +kernel
theorem d_L_law_295 : decode code 295 = .ok (.iconst 1, 1) := by decide +kernel
theorem d_L_law_296 : decode code 296 = .ok (.iadd, 1) := by decide +kernel
theorem d_L_law_297 : decode code 297 = .ok (.iaload, 1) := by decide +kernel
theorem d_L_law_298 : decode code 298 = .ok (.aload_n 0, 1) := by decide +kernel
theorem d_L_law_299 : decode code 299 = .ok (.iload_n 3, 1) := by decide +kernel
theorem d_L_law_300 : decode code 300 = .ok (.iconst 2, 1) := by decide +kernel
theorem d_L_law_301 : decode code 301 = .ok (.iadd, 1) := by decide +kernel
theorem d_L_law_302 : decode code 302 = .ok (.iaload, 1) := by decide +kernel
theorem d_L_law_303 : decode code 303 = .ok (.aload_n 0, 1) := by decide +kernel
theorem d_L_law_304 : decode code 304 = .ok (.iload_n 3, 1) := by decide +kernel
theorem d_L_law_305 : decode code 305 = .ok (.iconst 3, 1) := by decide +kernel
theorem d_L_law_306 : decode code 306 = .ok (.iadd, 1) := by decide +kernel
theorem d_L_law_307 : decode code 307 = .ok (.iaload, 1) := by decide +kernel
theorem d_L_law_308 : decode code 308 = .ok (.invokevirtual 49, 3) := by decide +kernel
theorem d_L_law_311 : decode code 311 = .ok (.if_icmp .eq 196, 3) := by decide +kernel
theorem d_L_law_314 : decode code 314 = .ok (.iconst 0, 1) := by decide +kernel
theorem d_L_law_315 : decode code 315 = .ok (.ireturn, 1) := by decide +kernel
theorem d_L_law_316 : decode code 316 = .ok (.aload_n 1, 1) := by decide +kernel
theorem d_L_law_317 : decode code 317 = .ok (.aload_n 0, 1) := by decide +kernel
theorem d_L_law_318 : decode code 318 = .ok (.iload_n 3, 1) := by decide +kernel
theorem d_L_law_319 : decode code 319 = .ok (.iconst 1, 1) := by decide +kernel
theorem d_L_law_320 : decode code 320 = .ok (.iadd, 1) := by decide +kernel
theorem d_L_law_321 : decode code 321 = .ok (.iaload, 1) := by decide +kernel
theorem d_L_law_322 : decode code 322 = .ok (.aload_n 0, 1) := by decide +kernel
theorem d_L_law_323 : decode code 323 = .ok (.iload_n 3, 1) := by decide +kernel
theorem d_L_law_324 : decode code 324 = .ok (.iconst 2, 1) := by decide +kernel
theorem d_L_law_325 : decode code 325 = .ok (.iadd, 1) := by decide +kernel
theorem d_L_law_326 : decode code 326 = .ok (.iaload, 1) := by decide +kernel
theorem d_L_law_327 : decode code 327 = .ok (.aload_n 0, 1) := by decide +kernel
theorem d_L_law_328 : decode code 328 = .ok (.iload_n 3, 1) := by decide +kernel
theorem d_L_law_329 : decode code 329 = .ok (.iconst 3, 1) := by decide +kernel
theorem d_L_law_330 : decode code 330 = .ok (.iadd, 1) := by decide +kernel
theorem d_L_law_331 : decode code 331 = .ok (.iaload, 1) := by decide +kernel
theorem d_L_law_332 : decode code 332 = .ok (.invokevirtual 50, 3) := by decide +kernel
theorem d_L_law_335 : decode code 335 = .ok (.aload_n 2, 1) := by decide +kernel
theorem d_L_law_336 : decode code 336 = .ok (.aload_n 0, 1) := by decide +kernel
theorem d_L_law_337 : decode code 337 = .ok (.iload_n 3, 1) := by decide +kernel
theorem d_L_law_338 : decode code 338 = .ok (.iconst 1, 1) := by decide +kernel
theorem d_L_law_339 : decode code 339 = .ok (.iadd, 1) := by decide +kernel
theorem d_L_law_340 : decode code 340 = .ok (.iaload, 1) := by decide +kernel
theorem d_L_law_341 : decode code 341 = .ok (.aload_n 0, 1) := by decide +kernel
theorem d_L_law_342 : decode code 342 = .ok (.iload_n 3, 1) := by decide +kernel
theorem d_L_law_343 : decode code 343 = .ok (.iconst 2, 1) := by decide +kernel
theorem d_L_law_344 : decode code 344 = .ok (.iadd, 1) := by decide +kernel
theorem d_L_law_345 : decode code 345 = .ok (.iaload, 1) := by decide +kernel
theorem d_L_law_346 : decode code 346 = .ok (.aload_n 0, 1) := by decide +kernel
theorem d_L_law_347 : decode code 347 = .ok (.iload_n 3, 1) := by decide +kernel
theorem d_L_law_348 : decode code 348 = .ok (.iconst 3, 1) := by decide +kernel
theorem d_L_law_349 : decode code 349 = .ok (.iadd, 1) := by decide +kernel
theorem d_L_law_350 : decode code 350 = .ok (.iaload, 1) := by decide +kernel
theorem d_L_law_351 : decode code 351 = .ok (.invokevirtual 53, 3) := by decide +kernel
theorem d_L_law_354 : decode code 354 = .ok (.if_icmp .eq 153, 3) := by decide +kernel
theorem d_L_law_357 : decode code 357 = .ok (.iconst 0, 1) := by decide +kernel
theorem d_L_law_358 : decode code 358 = .ok (.ireturn, 1) := by decide +kernel
theorem d_L_law_359 : decode code 359 = .ok (.aload_n 1, 1) := by decide +kernel
theorem d_L_law_360 : decode code 360 = .ok (.aload_n 0, 1) := by decide +kernel
theorem d_L_law_361 : decode code 361 = .ok (.iload_n 3, 1) := by decide +kernel
theorem d_L_law_362 : decode code 362 = .ok (.iconst 1, 1) := by decide +kernel
theorem d_L_law_363 : decode code 363 = .ok (.iadd, 1) := by decide +kernel
theorem d_L_law_364 : decode code 364 = .ok (.iaload, 1) := by decide +kernel
theorem d_L_law_365 : decode code 365 = .ok (.invokevirtual 54, 3) := by decide +kernel
theorem d_L_law_368 : decode code 368 = .ok (.aload_n 2, 1) := by decide +kernel
theorem d_L_law_369 : decode code 369 = .ok (.aload_n 0, 1) := by decide +kernel
theorem d_L_law_370 : decode code 370 = .ok (.iload_n 3, 1) := by decide +kernel
theorem d_L_law_371 : decode code 371 = .ok (.iconst 1, 1) := by decide +kernel
theorem d_L_law_372 : decode code 372 = .ok (.iadd, 1) := by decide +kernel
theorem d_L_law_373 : decode code 373 = .ok (.iaload, 1) := by decide +kernel
end
section
theorem d_L_law_374 : decode code 374 = .ok (.invokevirtual 57, 3) := by decide +kernel
theorem d_L_law_377 : decode code 377 = .ok (.if_icmp .eq 130, 3) := by decide +kernel
theorem d_L_law_380 : decode code 380 = .ok (.iconst 0, 1) := by decide +kernel
theorem d_L_law_381 : decode code 381 = .ok (.ireturn, 1) := by decide +kernel
theorem d_L_law_382 : decode code 382 = .ok (.aload_n 1, 1) := by decide +kernel
theorem d_L_law_383 : decode code 383 = .ok (.aload_n 0, 1) := by decide +kernel
theorem d_L_law_384 : decode code 384 = .ok (.iload_n 3, 1) := by decide +kernel
theorem d_L_law_385 : decode code 385 = .ok (.iconst 1, 1) := by decide +kernel
theorem d_L_law_386 : decode code 386 = .ok (.iadd, 1) := by decide +kernel
theorem d_L_law_387 : decode code 387 = .ok (.iaload, 1) := by decide +kernel
theorem d_L_law_388 : decode code 388 = .ok (.invokevirtual 58, 3) := by decide +kernel
theorem d_L_law_391 : decode code 391 = .ok (.aload_n 2, 1) := by decide +kernel
theorem d_L_law_392 : decode code 392 = .ok (.aload_n 0, 1) := by decide +kernel
theorem d_L_law_393 : decode code 393 = .ok (.iload_n 3, 1) := by decide +kernel
theorem d_L_law_394 : decode code 394 = .ok (.iconst 1, 1) := by decide +kernel
theorem d_L_law_395 : decode code 395 = .ok (.iadd, 1) := by decide +kernel
theorem d_L_law_396 : decode code 396 = .ok (.iaload, 1) := by decide +kernel
theorem d_L_law_397 : decode code 397 = .ok (.invokevirtual 61, 3) := by decide +kernel
theorem d_L_law_400 : decode code 400 = .ok (.if_icmp .eq 107, 3) := by decide +kernel
theorem d_L_law_403 : decode code 403 = .ok (.iconst 0, 1) := by decide +kernel
theorem d_L_law_404 : decode code 404 = .ok (.ireturn, 1) := by decide +kernel
theorem d_L_law_405 : decode code 405 = .ok (.aload_n 1, 1) := by decide +kernel
theorem d_L_law_406 : decode code 406 = .ok (.aload_n 0, 1) := by decide +kernel
theorem d_L_law_407 : decode code 407 = .ok (.iload_n 3, 1) := by decide +kernel
theorem d_L_law_408 : decode code 408 = .ok (.iconst 1, 1) := by decide +kernel
theorem d_L_law_409 : decode code 409 = .ok (.iadd, 1) := by decide +kernel
theorem d_L_law_410 : decode code 410 = .ok (.iaload, 1) := by decide +kernel
theorem d_L_law_411 : decode code 411 = .ok (.invokevirtual 62, 3) := by decide +kernel
theorem d_L_law_414 : decode code 414 = .ok (.aload_n 2, 1) := by decide +kernel
theorem d_L_law_415 : decode code 415 = .ok (.aload_n 0, 1) := by decide +kernel
theorem d_L_law_416 : decode code 416 = .ok (.iload_n 3, 1) := by decide +kernel
theorem d_L_law_417 : decode code 417 = .ok (.iconst 1, 1) := by decide +kernel
theorem d_L_law_418 : decode code 418 = .ok (.iadd, 1) := by decide +kernel
theorem d_L_law_419 : decode code 419 = .ok (.iaload, 1) := by decide +kernel
theorem d_L_law_420 : decode code 420 = .ok (.invokevirtual 65, 3) := by decide +kernel
theorem d_L_law_423 : decode code 423 = .ok (.if_icmp .eq 84, 3) := by decide +kernel
theorem d_L_law_426 : decode code 426 = .ok (.iconst 0, 1) := by decide +kernel
theorem d_L_law_427 : decode code 427 = .ok (.ireturn, 1) := by decide +kernel
theorem d_L_law_428 : decode code 428 = .ok (.aload_n 1, 1) := by decide +kernel
theorem d_L_law_429 : decode code 429 = .ok (.aload_n 0, 1) := by decide +kernel
theorem d_L_law_430 : decode code 430 = .ok (.iload_n 3, 1) := by decide +kernel
theorem d_L_law_431 : decode code 431 = .ok (.iconst 1, 1) := by decide +kernel
theorem d_L_law_432 : decode code 432 = .ok (.iadd, 1) := by decide +kernel
theorem d_L_law_433 : decode code 433 = .ok (.iaload, 1) := by decide +kernel
theorem d_L_law_434 : decode code 434 = .ok (.invokevirtual 66, 3) := by decide +kernel
theorem d_L_law_437 : decode code 437 = .ok (.aload_n 2, 1) := by decide +kernel
theorem d_L_law_438 : decode code 438 = .ok (.aload_n 0, 1) := by decide +kernel
theorem d_L_law_439 : decode code 439 = .ok (.iload_n 3, 1) := by decide +kernel
theorem d_L_law_440 : decode code 440 = .ok (.iconst 1, 1) := by decide +kernel
theorem d_L_law_441 : decode code 441 = .ok (.iadd, 1) := by decide +kernel
theorem d_L_law_442 : decode code 442 = .ok (.iaload, 1) := by decide +kernel
theorem d_L_law_443 : decode code 443 = .ok (.invokevirtual 69, 3) := by decide +kernel
theorem d_L_law_446 : decode code 446 = .ok (.if_icmp .eq 61, 3) := by decide +kernel
theorem d_L_law_449 : decode code 449 = .ok (.iconst 0, 1) := by decide +kernel
theorem d_L_law_450 : decode code 450 = .ok (.ireturn, 1) := by decide +kernel
theorem d_L_law_451 : decode code 451 = .ok (.aload_n 1, 1) := by decide +kernel
theorem d_L_law_452 : decode code 452 = .ok (.aload_n 0, 1) := by decide +kernel
theorem d_L_law_453 : decode code 453 = .ok (.iload_n 3, 1) := by decide +kernel
theorem d_L_law_454 : decode code 454 = .ok (.iconst 1, 1) := by decide +kernel
theorem d_L_law_455 : decode code 455 = .ok (.iadd, 1) := by decide +kernel
theorem d_L_law_456 : decode code 456 = .ok (.iaload, 1) := by decide +kernel
theorem d_L_law_457 : decode code 457 = .ok (.aload_n 0, 1) := by decide +kernel
theorem d_L_law_458 : decode code 458 = .ok (.iload_n 3, 1) := by decide +kernel
theorem d_L_law_459 : decode code 459 = .ok (.iconst 2, 1) := by decide +kernel
theorem d_L_law_460 : decode code 460 = .ok (.iadd, 1) := by decide +kernel
theorem d_L_law_461 : decode code 461 = .ok (.iaload, 1) := by decide +kernel
theorem d_L_law_462 : decode code 462 = .ok (.invokevirtual 70, 3) := by decide +kernel
theorem d_L_law_465 : decode code 465 = .ok (.aload_n 2, 1) := by decide +kernel
theorem d_L_law_466 : decode code 466 = .ok (.aload_n 0, 1) := by decide +kernel
theorem d_L_law_467 : decode code 467 = .ok (.iload_n 3, 1) := by decide +kernel
theorem d_L_law_468 : decode code 468 = .ok (.iconst 1, 1) := by decide +kernel
theorem d_L_law_469 : decode code 469 = .ok (.iadd, 1) := by decide +kernel
theorem d_L_law_470 : decode code 470 = .ok (.iaload, 1) := by decide +kernel
theorem d_L_law_471 : decode code 471 = .ok (.aload_n 0, 1) := by decide +kernel
theorem d_L_law_472 : decode code 472 = .ok (.iload_n 3, 1) := by decide +kernel
theorem d_L_law_473 : decode code 473 = .ok (.iconst 2, 1) := by decide +kernel
theorem d_L_law_474 : decode code 474 = .ok (.iadd, 1) := by decide +kernel
theorem d_L_law_475 : decode code 475 = .ok (.iaload, 1) := by decide +kernel
theorem d_L_law_476 : decode code 476 = .ok (.invokevirtual 73, 3) := by decide +kernel
theorem d_L_law_479 : decode code 479 = .ok (.if_icmp .eq 28, 3) := by decide +kernel
theorem d_L_law_482 : decode code 482 = .ok (.iconst 0, 1) := by decide +kernel
theorem d_L_law_483 : decode code 483 = .ok (.ireturn, 1) := by decide +kernel
theorem d_L_law_484 : decode code 484 = .ok (.aload_n 1, 1) := by decide +kernel
theorem d_L_law_485 : decode code 485 = .ok (.aload_n 0, 1) := by decide +kernel
theorem d_L_law_486 : decode code 486 = .ok (.iload_n 3, 1) := by decide +kernel
theorem d_L_law_487 : decode code 487 = .ok (.iconst 1, 1) := by decide +kernel
theorem d_L_law_488 : decode code 488 = .ok (.iadd, 1) := by decide +kernel
theorem d_L_law_489 : decode code 489 = .ok (.iaload, 1) := by decide +kernel
theorem d_L_law_490 : decode code 490 = .ok (.invokevirtual 74, 3) := by decide +kernel
theorem d_L_law_493 : decode code 493 = .ok (.aload_n 2, 1) := by decide +kernel
theorem d_L_law_494 : decode code 494 = .ok (.aload_n 0, 1) := by decide +kernel
theorem d_L_law_495 : decode code 495 = .ok (.iload_n 3, 1) := by decide +kernel
theorem d_L_law_496 : decode code 496 = .ok (.iconst 1, 1) := by decide +kernel
theorem d_L_law_497 : decode code 497 = .ok (.iadd, 1) := by decide +kernel
theorem d_L_law_498 : decode code 498 = .ok (.iaload, 1) := by decide +kernel
theorem d_L_law_499 : decode code 499 = .ok (.invokevirtual 77, 3) := by decide +kernel
theorem d_L_law_502 : decode code 502 = .ok (.if_icmp .eq 5, 3) := by decide +kernel
theorem d_L_law_505 : decode code 505 = .ok (.iconst 0, 1) := by decide +kernel
theorem d_L_law_506 : decode code 506 = .ok (.ireturn, 1) := by decide +kernel
theorem d_L_law_507 : decode code 507 = .ok (.iinc 3 4, 3) := by decide +kernel
theorem d_L_law_510 : decode code 510 = .ok (.goto (-482), 3) := by decide +kernel
theorem d_L_law_513 : decode code 513 = .ok (.iconst 1, 1) := by decide +kernel
theorem d_L_law_514 : decode code 514 = .ok (.ireturn, 1) := by decide +kernel
end
section
/-- the state as a tree of pairs (flat ones compare slowly): rs rv dp col siz srt val fre gry most fc gc us ob wh ph sw md made full -/
def XS : Type := (((((Nat → Nat) × (Nat → Int32)) × (Nat × ((Nat → Nat) × (Nat → Nat)))) × (((Nat → Nat) × (Nat → Int32)) × ((Nat → Nat) × ((Nat → Nat) × Nat)))) × (((Nat × Nat) × (Nat × (Nat × Nat))) × ((Nat × Nat) × (Int32 × (Int32 × Int32)))))
def XS.rs (x : XS) : (Nat → Nat) := x.1.1.1.1
def XS.rv (x : XS) : (Nat → Int32) := x.1.1.1.2
def XS.dp (x : XS) : Nat := x.1.1.2.1
def XS.col (x : XS) : (Nat → Nat) := x.1.1.2.2.1
def XS.siz (x : XS) : (Nat → Nat) := x.1.1.2.2.2
def XS.srt (x : XS) : (Nat → Nat) := x.1.2.1.1
def XS.val (x : XS) : (Nat → Int32) := x.1.2.1.2
def XS.fre (x : XS) : (Nat → Nat) := x.1.2.2.1
def XS.gry (x : XS) : (Nat → Nat) := x.1.2.2.2.1
def XS.most (x : XS) : Nat := x.1.2.2.2.2
def XS.fc (x : XS) : Nat := x.2.1.1.1
def XS.gc (x : XS) : Nat := x.2.1.1.2
def XS.us (x : XS) : Nat := x.2.1.2.1
def XS.ob (x : XS) : Nat := x.2.1.2.2.1
def XS.wh (x : XS) : Nat := x.2.1.2.2.2
def XS.ph (x : XS) : Nat := x.2.2.1.1
def XS.sw (x : XS) : Nat := x.2.2.1.2
def XS.md (x : XS) : Int32 := x.2.2.2.1
def XS.made (x : XS) : Int32 := x.2.2.2.2.1
def XS.full (x : XS) : Int32 := x.2.2.2.2.2
def XS.mk (rs : (Nat → Nat)) (rv : (Nat → Int32)) (dp : Nat) (col : (Nat → Nat)) (siz : (Nat → Nat)) (srt : (Nat → Nat)) (val : (Nat → Int32)) (fre : (Nat → Nat)) (gry : (Nat → Nat)) (most : Nat) (fc : Nat) (gc : Nat) (us : Nat) (ob : Nat) (wh : Nat) (ph : Nat) (sw : Nat) (md : Int32) (made : Int32) (full : Int32) : XS := ((((rs, rv), (dp, (col, siz))), ((srt, val), (fre, (gry, most)))), (((fc, gc), (us, (ob, wh))), ((ph, sw), (md, (made, full)))))
/-- the state as a tree of pairs (flat ones compare slowly): cel kin mv st mm msz rch full -/
def MS : Type := (((Nat × (Nat → Nat)) × ((Nat → Int32) × Nat)) × ((Nat × (Nat → Nat)) × ((Nat → Nat) × Int32)))
def MS.cel (x : MS) : Nat := x.1.1.1
def MS.kin (x : MS) : (Nat → Nat) := x.1.1.2
def MS.mv (x : MS) : (Nat → Int32) := x.1.2.1
def MS.st (x : MS) : Nat := x.1.2.2
def MS.mm (x : MS) : Nat := x.2.1.1
def MS.msz (x : MS) : (Nat → Nat) := x.2.1.2
def MS.rch (x : MS) : (Nat → Nat) := x.2.2.1
def MS.full (x : MS) : Int32 := x.2.2.2
def MS.mk (cel : Nat) (kin : (Nat → Nat)) (mv : (Nat → Int32)) (st : Nat) (mm : Nat) (msz : (Nat → Nat)) (rch : (Nat → Nat)) (full : Int32) : MS := (((cel, kin), (mv, st)), ((mm, msz), (rch, full)))
/-- what is fixed: class numbers, array classes (byte, int, boolean), addresses (0 SliceHeap, 1 Roots, 2 3 its arrays, 4 Heap, 5 .. 10 its arrays; 11 SliceHeapModel, 12 .. 15 its arrays) -/
def KX : Type := va_G × (ClassId × ClassId × ClassId) × (Nat → Nat)
def KX.D (E : KX) : va_G := E.1
def KX.cB (E : KX) : ClassId := E.2.1.1
def KX.cI (E : KX) : ClassId := E.2.1.2.1
def KX.cZ (E : KX) : ClassId := E.2.1.2.2
def KX.ad (E : KX) (k : Nat) : Nat := E.2.2 k
def tyl (E : KX) : List (ClassId × FieldType) := [(E.cB, .byte), (E.cI, .int), (E.cZ, .boolean)]
def wXe (E : KX) (rs : (Nat → Nat)) (rv : (Nat → Int32)) (dp : Nat) (col : (Nat → Nat)) (siz : (Nat → Nat)) (srt : (Nat → Nat)) (val : (Nat → Int32)) (fre : (Nat → Nat)) (gry : (Nat → Nat)) (most : Nat) (fc : Nat) (gc : Nat) (us : Nat) (ob : Nat) (wh : Nat) (ph : Nat) (sw : Nat) (md : Int32) (made : Int32) (full : Int32) : va_W := [
  (E.ad 0, .inr (2, [.ref (E.ad 1), .ref (E.ad 4), .int made, .int full])),
  (E.ad 1, .inr (0, [.ref (E.ad 2), .ref (E.ad 3), .int (nI dp)])),
  (E.ad 2, .inl (E.cB, 60, .inl (fun k => nI (rs k)))),
  (E.ad 3, .inl (E.cI, 60, .inl (fun k => rv k))),
  (E.ad 4, .inr (1, [.ref (E.ad 5), .ref (E.ad 6), .ref (E.ad 7), .ref (E.ad 8), .ref (E.ad 9), .ref (E.ad 10), .ref (E.ad 1), .int (nI most), .int (nI fc), .int (nI gc), .int (nI us), .int (nI ob), .int (nI wh), .int (nI ph), .int (nI sw), .int md])),
  (E.ad 5, .inl (E.cB, 1600, .inl (fun k => nI (col k)))),
  (E.ad 6, .inl (E.cB, 1600, .inl (fun k => nI (siz k)))),
  (E.ad 7, .inl (E.cB, 32000, .inl (fun k => nI (srt k)))),
  (E.ad 8, .inl (E.cI, 32000, .inl (fun k => val k))),
  (E.ad 9, .inl (E.cI, 1600, .inl (fun k => nI (fre k)))),
  (E.ad 10, .inl (E.cI, 1600, .inl (fun k => nI (gry k))))]
def wX (E : KX) (x : XS) : va_W := wXe E x.rs x.rv x.dp x.col x.siz x.srt x.val x.fre x.gry x.most x.fc x.gc x.us x.ob x.wh x.ph x.sw x.md x.made x.full
def wMe (E : KX) (cel : Nat) (kin : (Nat → Nat)) (mv : (Nat → Int32)) (st : Nat) (mm : Nat) (msz : (Nat → Nat)) (rch : (Nat → Nat)) (full : Int32) : va_W := [
  (E.ad 11, .inr (3, [.int (nI cel), .ref (E.ad 12), .ref (E.ad 13), .int (nI st), .int (nI mm), .ref (E.ad 14), .ref (E.ad 15), .int full])),
  (E.ad 12, .inl (E.cB, 10460, .inl (fun k => nI (kin k)))),
  (E.ad 13, .inl (E.cI, 10460, .inl (fun k => mv k))),
  (E.ad 14, .inl (E.cI, 520, .inl (fun k => nI (msz k)))),
  (E.ad 15, .inl (E.cZ, 520, .inl (fun k => nI (rch k))))]
def wM (E : KX) (x : MS) : va_W := wMe E x.cel x.kin x.mv x.st x.mm x.msz x.rch x.full
def ApX (E : KX) : Prop := ∀ i j : Nat, i < 16 → j < 16 → E.ad i = E.ad j → i = j
def AX (E : KX) : Nat → Prop := fun q => ∃ k : Nat, k < 11 ∧ q = E.ad k
def AM (E : KX) : Nat → Prop := fun q => ∃ k : Nat, 11 ≤ k ∧ k < 16 ∧ q = E.ad k
theorem wX_at {E : KX} {rs : (Nat → Nat)} {rv : (Nat → Int32)} {dp : Nat} {col : (Nat → Nat)} {siz : (Nat → Nat)} {srt : (Nat → Nat)} {val : (Nat → Int32)} {fre : (Nat → Nat)} {gry : (Nat → Nat)} {most : Nat} {fc : Nat} {gc : Nat} {us : Nat} {ob : Nat} {wh : Nat} {ph : Nat} {sw : Nat} {md : Int32} {made : Int32} {full : Int32} {i : Nat} {q : Nat × va_E} (h : (wXe E rs rv dp col siz srt val fre gry most fc gc us ob wh ph sw md made full)[i]? = some q) : i < 11 ∧ q.1 = E.ad i := by
  have hi : i < 11 := (List.getElem?_eq_some_iff.mp h).1
  refine ⟨hi, ?_⟩
  match i, hi with
  | 0, _ | 1, _ | 2, _ | 3, _ | 4, _ | 5, _ | 6, _ | 7, _ | 8, _ | 9, _ | 10, _ => cases h; rfl
theorem wM_at {E : KX} {cel : Nat} {kin : (Nat → Nat)} {mv : (Nat → Int32)} {st : Nat} {mm : Nat} {msz : (Nat → Nat)} {rch : (Nat → Nat)} {full : Int32} {i : Nat} {q : Nat × va_E} (h : (wMe E cel kin mv st mm msz rch full)[i]? = some q) : i < 5 ∧ q.1 = E.ad (11 + i) := by
  have hi : i < 5 := (List.getElem?_eq_some_iff.mp h).1
  refine ⟨hi, ?_⟩
  match i, hi with
  | 0, _ | 1, _ | 2, _ | 3, _ | 4, _ => cases h; rfl
theorem wX_D {E : KX} (hA : ApX E) {rs : (Nat → Nat)} {rv : (Nat → Int32)} {dp : Nat} {col : (Nat → Nat)} {siz : (Nat → Nat)} {srt : (Nat → Nat)} {val : (Nat → Int32)} {fre : (Nat → Nat)} {gry : (Nat → Nat)} {most : Nat} {fc : Nat} {gc : Nat} {us : Nat} {ob : Nat} {wh : Nat} {ph : Nat} {sw : Nat} {md : Int32} {made : Int32} {full : Int32} : va_D (AX E) (wXe E rs rv dp col siz srt val fre gry most fc gc us ob wh ph sw md made full) := by
  refine ⟨fun i j p q hp hq e => ?_, fun k q hq => ?_⟩
  · obtain ⟨h1, h2⟩ := wX_at hp
    obtain ⟨h3, h4⟩ := wX_at hq
    exact hA i j (by omega) (by omega) (by rw [← h2, ← h4, e])
  · obtain ⟨h1, h2⟩ := wX_at hq
    exact ⟨k, h1, h2⟩
theorem wM_D {E : KX} (hA : ApX E) {cel : Nat} {kin : (Nat → Nat)} {mv : (Nat → Int32)} {st : Nat} {mm : Nat} {msz : (Nat → Nat)} {rch : (Nat → Nat)} {full : Int32} : va_D (AM E) (wMe E cel kin mv st mm msz rch full) := by
  refine ⟨fun i j p q hp hq e => ?_, fun k q hq => ?_⟩
  · obtain ⟨h1, h2⟩ := wM_at hp
    obtain ⟨h3, h4⟩ := wM_at hq
    have := hA (11 + i) (11 + j) (by omega) (by omega) (by rw [← h2, ← h4, e])
    omega
  · obtain ⟨h1, h2⟩ := wM_at hq
    exact ⟨11 + k, by omega, by omega, h2⟩
def NW (U : State) : Prop := ∀ q ∈ nw_L, va_Nw (.fieldLinkNest "SliceHeap" q.1 q.2.1 q.2.2.1 q.2.2.2 "SliceHeap") U
def ZOk (Z : State → Prop) : Prop := (∀ (a : Array Value) (U : State) (g : JFrame) (mk : MethodId), Z U → Z (U.calling g mk a)) ∧ ∀ s U : State, s.WarmedH U.vm → Z s → Z U
def zX (E : KX) (U : State) : Prop := ApX E ∧ NW U
def zM (E : KX) (U : State) : Prop := ApX E
theorem zX_ok (E : KX) : ZOk (zX E) := ⟨fun a U g mk h => ⟨h.1, fun q hq => va_Nw.same rfl (u := U) (U := U.calling g mk a) rfl (h.2 q hq)⟩, fun s U hW h => ⟨h.1, fun q hq => va_Nw.warmF hW (h.2 q hq)⟩⟩
theorem zM_ok (E : KX) : ZOk (zM E) := ⟨fun a U g mk h => h, fun s U hW h => h⟩
/-- a contract over a world of one's own: nothing is made; an int or nothing comes back -/
abbrev Mi {σ : Type} (l : Launch) (D : va_G) (tys : List (ClassId × FieldType)) (w : σ → va_W) (Z : State → Prop) (A : Nat → Prop) (y : MethodName) (ws : List Cond) (rm : Room) (av : List Value) (x : σ) (post : Int32 → σ → Prop) : Prop :=
  Met l y ws rm (va_Pc av (fun U => va_P D classes (w x) U.heap ∧ va_K D classes tys U ∧ Z U)) (va_Qi post (fun x' t => va_P D classes (w x') t.heap) A) 0 0 A
abbrev Mv {σ : Type} (l : Launch) (D : va_G) (tys : List (ClassId × FieldType)) (w : σ → va_W) (Z : State → Prop) (A : Nat → Prop) (y : MethodName) (ws : List Cond) (rm : Room) (av : List Value) (x : σ) (post : σ → Prop) : Prop :=
  Met l y ws rm (va_Pc av (fun U => va_P D classes (w x) U.heap ∧ va_K D classes tys U ∧ Z U)) (va_Qv post (fun x' t => va_P D classes (w x') t.heap) A) 0 0 A
abbrev Xi (l : Launch) (E : KX) (y : MethodName) (ws : List Cond) (rm : Room) (av : List Value) (x : XS) (post : Int32 → XS → Prop) : Prop := Mi l E.D (tyl E) (wX E) (zX E) (AX E) y ws rm av x post
abbrev Xv (l : Launch) (E : KX) (y : MethodName) (ws : List Cond) (rm : Room) (av : List Value) (x : XS) (post : XS → Prop) : Prop := Mv l E.D (tyl E) (wX E) (zX E) (AX E) y ws rm av x post
abbrev Yi (l : Launch) (E : KX) (y : MethodName) (ws : List Cond) (rm : Room) (av : List Value) (x : MS) (post : Int32 → MS → Prop) : Prop := Mi l E.D (tyl E) (wM E) (zM E) (AM E) y ws rm av x post
abbrev Yv (l : Launch) (E : KX) (y : MethodName) (ws : List Cond) (rm : Room) (av : List Value) (x : MS) (post : MS → Prop) : Prop := Mv l E.D (tyl E) (wM E) (zM E) (AM E) y ws rm av x post
/-- a contract of a static method that looks at its arguments alone -/
abbrev Ms (l : Launch) (y : MethodName) (ws : List Cond) (rm : Room) (av : List Value) (r : Int32) : Prop := Met l y ws rm (fun v _ => v = av.toArray) (QcRead r) 0 0 (fun _ => False)
-- rooms and descriptors
abbrev rm_X_init : Room := { frames := 2, cells := 10, slots := 70539, locals := 43 }
theorem hd_X_init : y_X_init.cls ≠ "java/lang/invoke/MethodHandle" ∧ y_X_init.cls ≠ "java/lang/invoke/VarHandle" ∧ (parseMethodDescriptor y_X_init.desc).map (fun d => d.parameters.length) = some 1 := by decide +kernel
abbrev rm_R_init : Room := { frames := 1, cells := 2, slots := 120, locals := 20 }
theorem hd_R_init : y_R_init.cls ≠ "java/lang/invoke/MethodHandle" ∧ y_R_init.cls ≠ "java/lang/invoke/VarHandle" ∧ (parseMethodDescriptor y_R_init.desc).map (fun d => d.parameters.length) = some 0 := by decide +kernel
abbrev rm_H_init : Room := { frames := 1, cells := 6, slots := 70400, locals := 20 }
theorem hd_H_init : y_H_init.cls ≠ "java/lang/invoke/MethodHandle" ∧ y_H_init.cls ≠ "java/lang/invoke/VarHandle" ∧ (parseMethodDescriptor y_H_init.desc).map (fun d => d.parameters.length) = some 2 := by decide +kernel
abbrev rm_X_make : Room := { frames := 5, cells := 0, slots := 0, locals := 107 }
theorem hd_X_make : y_X_make.cls ≠ "java/lang/invoke/MethodHandle" ∧ y_X_make.cls ≠ "java/lang/invoke/VarHandle" ∧ (parseMethodDescriptor y_X_make.desc).map (fun d => d.parameters.length) = some 3 := by decide +kernel
abbrev rm_R_is : Room := { frames := 0, cells := 0, slots := 0, locals := 0 }
theorem hd_R_is : y_R_is.cls ≠ "java/lang/invoke/MethodHandle" ∧ y_R_is.cls ≠ "java/lang/invoke/VarHandle" ∧ (parseMethodDescriptor y_R_is.desc).map (fun d => d.parameters.length) = some 1 := by decide +kernel
abbrev rm_X_room : Room := { frames := 4, cells := 0, slots := 0, locals := 86 }
theorem hd_X_room : y_X_room.cls ≠ "java/lang/invoke/MethodHandle" ∧ y_X_room.cls ≠ "java/lang/invoke/VarHandle" ∧ (parseMethodDescriptor y_X_room.desc).map (fun d => d.parameters.length) = some 1 := by decide +kernel
abbrev rm_H_has : Room := { frames := 3, cells := 0, slots := 0, locals := 65 }
theorem hd_H_has : y_H_has.cls ≠ "java/lang/invoke/MethodHandle" ∧ y_H_has.cls ≠ "java/lang/invoke/VarHandle" ∧ (parseMethodDescriptor y_H_has.desc).map (fun d => d.parameters.length) = some 1 := by decide +kernel
abbrev rm_H_all : Room := { frames := 2, cells := 0, slots := 0, locals := 44 }
theorem hd_H_all : y_H_all.cls ≠ "java/lang/invoke/MethodHandle" ∧ y_H_all.cls ≠ "java/lang/invoke/VarHandle" ∧ (parseMethodDescriptor y_H_all.desc).map (fun d => d.parameters.length) = some 0 := by decide +kernel
abbrev rm_R_mark : Room := { frames := 1, cells := 0, slots := 0, locals := 22 }
theorem hd_R_mark : y_R_mark.cls ≠ "java/lang/invoke/MethodHandle" ∧ y_R_mark.cls ≠ "java/lang/invoke/VarHandle" ∧ (parseMethodDescriptor y_R_mark.desc).map (fun d => d.parameters.length) = some 1 := by decide +kernel
abbrev rm_H_mark : Room := { frames := 0, cells := 0, slots := 0, locals := 0 }
theorem hd_H_mark : y_H_mark.cls ≠ "java/lang/invoke/MethodHandle" ∧ y_H_mark.cls ≠ "java/lang/invoke/VarHandle" ∧ (parseMethodDescriptor y_H_mark.desc).map (fun d => d.parameters.length) = some 2 := by decide +kernel
abbrev rm_H_blacken : Room := { frames := 1, cells := 0, slots := 0, locals := 22 }
theorem hd_H_blacken : y_H_blacken.cls ≠ "java/lang/invoke/MethodHandle" ∧ y_H_blacken.cls ≠ "java/lang/invoke/VarHandle" ∧ (parseMethodDescriptor y_H_blacken.desc).map (fun d => d.parameters.length) = some 0 := by decide +kernel
abbrev rm_H_drop : Room := { frames := 0, cells := 0, slots := 0, locals := 0 }
theorem hd_H_drop : y_H_drop.cls ≠ "java/lang/invoke/MethodHandle" ∧ y_H_drop.cls ≠ "java/lang/invoke/VarHandle" ∧ (parseMethodDescriptor y_H_drop.desc).map (fun d => d.parameters.length) = some 1 := by decide +kernel
abbrev rm_H_make : Room := { frames := 0, cells := 0, slots := 0, locals := 0 }
theorem hd_H_make : y_H_make.cls ≠ "java/lang/invoke/MethodHandle" ∧ y_H_make.cls ≠ "java/lang/invoke/VarHandle" ∧ (parseMethodDescriptor y_H_make.desc).map (fun d => d.parameters.length) = some 1 := by decide +kernel
abbrev rm_X_lay : Room := { frames := 1, cells := 0, slots := 0, locals := 21 }
theorem hd_X_lay : y_X_lay.cls ≠ "java/lang/invoke/MethodHandle" ∧ y_X_lay.cls ≠ "java/lang/invoke/VarHandle" ∧ (parseMethodDescriptor y_X_lay.desc).map (fun d => d.parameters.length) = some 3 := by decide +kernel
abbrev rm_H_touched : Room := { frames := 0, cells := 0, slots := 0, locals := 0 }
theorem hd_H_touched : y_H_touched.cls ≠ "java/lang/invoke/MethodHandle" ∧ y_H_touched.cls ≠ "java/lang/invoke/VarHandle" ∧ (parseMethodDescriptor y_H_touched.desc).map (fun d => d.parameters.length) = some 1 := by decide +kernel
abbrev rm_R_set : Room := { frames := 0, cells := 0, slots := 0, locals := 0 }
theorem hd_R_set : y_R_set.cls ≠ "java/lang/invoke/MethodHandle" ∧ y_R_set.cls ≠ "java/lang/invoke/VarHandle" ∧ (parseMethodDescriptor y_R_set.desc).map (fun d => d.parameters.length) = some 3 := by decide +kernel
abbrev rm_H_slice : Room := { frames := 3, cells := 0, slots := 0, locals := 64 }
theorem hd_H_slice : y_H_slice.cls ≠ "java/lang/invoke/MethodHandle" ∧ y_H_slice.cls ≠ "java/lang/invoke/VarHandle" ∧ (parseMethodDescriptor y_H_slice.desc).map (fun d => d.parameters.length) = some 0 := by decide +kernel
abbrev rm_H_turn : Room := { frames := 2, cells := 0, slots := 0, locals := 44 }
theorem hd_H_turn : y_H_turn.cls ≠ "java/lang/invoke/MethodHandle" ∧ y_H_turn.cls ≠ "java/lang/invoke/VarHandle" ∧ (parseMethodDescriptor y_H_turn.desc).map (fun d => d.parameters.length) = some 0 := by decide +kernel
abbrev rm_H_sweep : Room := { frames := 1, cells := 0, slots := 0, locals := 21 }
theorem hd_H_sweep : y_H_sweep.cls ≠ "java/lang/invoke/MethodHandle" ∧ y_H_sweep.cls ≠ "java/lang/invoke/VarHandle" ∧ (parseMethodDescriptor y_H_sweep.desc).map (fun d => d.parameters.length) = some 0 := by decide +kernel
abbrev rm_X_grow : Room := { frames := 5, cells := 0, slots := 0, locals := 107 }
theorem hd_X_grow : y_X_grow.cls ≠ "java/lang/invoke/MethodHandle" ∧ y_X_grow.cls ≠ "java/lang/invoke/VarHandle" ∧ (parseMethodDescriptor y_X_grow.desc).map (fun d => d.parameters.length) = some 2 := by decide +kernel
abbrev rm_R_hasObject : Room := { frames := 1, cells := 0, slots := 0, locals := 20 }
theorem hd_R_hasObject : y_R_hasObject.cls ≠ "java/lang/invoke/MethodHandle" ∧ y_R_hasObject.cls ≠ "java/lang/invoke/VarHandle" ∧ (parseMethodDescriptor y_R_hasObject.desc).map (fun d => d.parameters.length) = some 1 := by decide +kernel
abbrev rm_X_shrink : Room := { frames := 2, cells := 0, slots := 0, locals := 41 }
theorem hd_X_shrink : y_X_shrink.cls ≠ "java/lang/invoke/MethodHandle" ∧ y_X_shrink.cls ≠ "java/lang/invoke/VarHandle" ∧ (parseMethodDescriptor y_X_shrink.desc).map (fun d => d.parameters.length) = some 1 := by decide +kernel
abbrev rm_X_number : Room := { frames := 1, cells := 0, slots := 0, locals := 23 }
theorem hd_X_number : y_X_number.cls ≠ "java/lang/invoke/MethodHandle" ∧ y_X_number.cls ≠ "java/lang/invoke/VarHandle" ∧ (parseMethodDescriptor y_X_number.desc).map (fun d => d.parameters.length) = some 2 := by decide +kernel
abbrev rm_X_copy : Room := { frames := 1, cells := 0, slots := 0, locals := 23 }
theorem hd_X_copy : y_X_copy.cls ≠ "java/lang/invoke/MethodHandle" ∧ y_X_copy.cls ≠ "java/lang/invoke/VarHandle" ∧ (parseMethodDescriptor y_X_copy.desc).map (fun d => d.parameters.length) = some 2 := by decide +kernel
abbrev rm_X_get : Room := { frames := 3, cells := 0, slots := 0, locals := 63 }
theorem hd_X_get : y_X_get.cls ≠ "java/lang/invoke/MethodHandle" ∧ y_X_get.cls ≠ "java/lang/invoke/VarHandle" ∧ (parseMethodDescriptor y_X_get.desc).map (fun d => d.parameters.length) = some 3 := by decide +kernel
abbrev rm_X_hasValue : Room := { frames := 2, cells := 0, slots := 0, locals := 41 }
theorem hd_X_hasValue : y_X_hasValue.cls ≠ "java/lang/invoke/MethodHandle" ∧ y_X_hasValue.cls ≠ "java/lang/invoke/VarHandle" ∧ (parseMethodDescriptor y_X_hasValue.desc).map (fun d => d.parameters.length) = some 2 := by decide +kernel
abbrev rm_X_set : Room := { frames := 3, cells := 0, slots := 0, locals := 63 }
theorem hd_X_set : y_X_set.cls ≠ "java/lang/invoke/MethodHandle" ∧ y_X_set.cls ≠ "java/lang/invoke/VarHandle" ∧ (parseMethodDescriptor y_X_set.desc).map (fun d => d.parameters.length) = some 3 := by decide +kernel
abbrev rm_X_push : Room := { frames := 1, cells := 0, slots := 0, locals := 23 }
theorem hd_X_push : y_X_push.cls ≠ "java/lang/invoke/MethodHandle" ∧ y_X_push.cls ≠ "java/lang/invoke/VarHandle" ∧ (parseMethodDescriptor y_X_push.desc).map (fun d => d.parameters.length) = some 1 := by decide +kernel
abbrev rm_X_pop : Room := { frames := 1, cells := 0, slots := 0, locals := 23 }
theorem hd_X_pop : y_X_pop.cls ≠ "java/lang/invoke/MethodHandle" ∧ y_X_pop.cls ≠ "java/lang/invoke/VarHandle" ∧ (parseMethodDescriptor y_X_pop.desc).map (fun d => d.parameters.length) = some 1 := by decide +kernel
abbrev rm_X_look : Room := { frames := 1, cells := 0, slots := 0, locals := 20 }
theorem hd_X_look : y_X_look.cls ≠ "java/lang/invoke/MethodHandle" ∧ y_X_look.cls ≠ "java/lang/invoke/VarHandle" ∧ (parseMethodDescriptor y_X_look.desc).map (fun d => d.parameters.length) = some 1 := by decide +kernel
abbrev rm_X_numberIn : Room := { frames := 1, cells := 0, slots := 0, locals := 20 }
theorem hd_X_numberIn : y_X_numberIn.cls ≠ "java/lang/invoke/MethodHandle" ∧ y_X_numberIn.cls ≠ "java/lang/invoke/VarHandle" ∧ (parseMethodDescriptor y_X_numberIn.desc).map (fun d => d.parameters.length) = some 1 := by decide +kernel
abbrev rm_X_same : Room := { frames := 1, cells := 0, slots := 0, locals := 20 }
theorem hd_X_same : y_X_same.cls ≠ "java/lang/invoke/MethodHandle" ∧ y_X_same.cls ≠ "java/lang/invoke/VarHandle" ∧ (parseMethodDescriptor y_X_same.desc).map (fun d => d.parameters.length) = some 2 := by decide +kernel
abbrev rm_X_count : Room := { frames := 3, cells := 0, slots := 0, locals := 65 }
theorem hd_X_count : y_X_count.cls ≠ "java/lang/invoke/MethodHandle" ∧ y_X_count.cls ≠ "java/lang/invoke/VarHandle" ∧ (parseMethodDescriptor y_X_count.desc).map (fun d => d.parameters.length) = some 1 := by decide +kernel
abbrev rm_L_cell : Room := { frames := 0, cells := 0, slots := 0, locals := 0 }
theorem hd_L_cell : y_L_cell.cls ≠ "java/lang/invoke/MethodHandle" ∧ y_L_cell.cls ≠ "java/lang/invoke/VarHandle" ∧ (parseMethodDescriptor y_L_cell.desc).map (fun d => d.parameters.length) = some 2 := by decide +kernel
abbrev rm_M_init : Room := { frames := 1, cells := 4, slots := 21960, locals := 20 }
theorem hd_M_init : y_M_init.cls ≠ "java/lang/invoke/MethodHandle" ∧ y_M_init.cls ≠ "java/lang/invoke/VarHandle" ∧ (parseMethodDescriptor y_M_init.desc).map (fun d => d.parameters.length) = some 1 := by decide +kernel
abbrev rm_M_make : Room := { frames := 4, cells := 0, slots := 0, locals := 88 }
theorem hd_M_make : y_M_make.cls ≠ "java/lang/invoke/MethodHandle" ∧ y_M_make.cls ≠ "java/lang/invoke/VarHandle" ∧ (parseMethodDescriptor y_M_make.desc).map (fun d => d.parameters.length) = some 3 := by decide +kernel
abbrev rm_M_isRegister : Room := { frames := 0, cells := 0, slots := 0, locals := 0 }
theorem hd_M_isRegister : y_M_isRegister.cls ≠ "java/lang/invoke/MethodHandle" ∧ y_M_isRegister.cls ≠ "java/lang/invoke/VarHandle" ∧ (parseMethodDescriptor y_M_isRegister.desc).map (fun d => d.parameters.length) = some 1 := by decide +kernel
abbrev rm_M_hasRoom : Room := { frames := 3, cells := 0, slots := 0, locals := 66 }
theorem hd_M_hasRoom : y_M_hasRoom.cls ≠ "java/lang/invoke/MethodHandle" ∧ y_M_hasRoom.cls ≠ "java/lang/invoke/VarHandle" ∧ (parseMethodDescriptor y_M_hasRoom.desc).map (fun d => d.parameters.length) = some 1 := by decide +kernel
abbrev rm_M_reachable : Room := { frames := 2, cells := 0, slots := 0, locals := 44 }
theorem hd_M_reachable : y_M_reachable.cls ≠ "java/lang/invoke/MethodHandle" ∧ y_M_reachable.cls ≠ "java/lang/invoke/VarHandle" ∧ (parseMethodDescriptor y_M_reachable.desc).map (fun d => d.parameters.length) = some 0 := by decide +kernel
abbrev rm_M_goOver : Room := { frames := 1, cells := 0, slots := 0, locals := 21 }
theorem hd_M_goOver : y_M_goOver.cls ≠ "java/lang/invoke/MethodHandle" ∧ y_M_goOver.cls ≠ "java/lang/invoke/VarHandle" ∧ (parseMethodDescriptor y_M_goOver.desc).map (fun d => d.parameters.length) = some 0 := by decide +kernel
abbrev rm_M_reach : Room := { frames := 0, cells := 0, slots := 0, locals := 0 }
theorem hd_M_reach : y_M_reach.cls ≠ "java/lang/invoke/MethodHandle" ∧ y_M_reach.cls ≠ "java/lang/invoke/VarHandle" ∧ (parseMethodDescriptor y_M_reach.desc).map (fun d => d.parameters.length) = some 1 := by decide +kernel
abbrev rm_M_placeOf : Room := { frames := 0, cells := 0, slots := 0, locals := 0 }
theorem hd_M_placeOf : y_M_placeOf.cls ≠ "java/lang/invoke/MethodHandle" ∧ y_M_placeOf.cls ≠ "java/lang/invoke/VarHandle" ∧ (parseMethodDescriptor y_M_placeOf.desc).map (fun d => d.parameters.length) = some 2 := by decide +kernel
abbrev rm_M_move : Room := { frames := 0, cells := 0, slots := 0, locals := 0 }
theorem hd_M_move : y_M_move.cls ≠ "java/lang/invoke/MethodHandle" ∧ y_M_move.cls ≠ "java/lang/invoke/VarHandle" ∧ (parseMethodDescriptor y_M_move.desc).map (fun d => d.parameters.length) = some 2 := by decide +kernel
abbrev rm_M_grow : Room := { frames := 4, cells := 0, slots := 0, locals := 88 }
theorem hd_M_grow : y_M_grow.cls ≠ "java/lang/invoke/MethodHandle" ∧ y_M_grow.cls ≠ "java/lang/invoke/VarHandle" ∧ (parseMethodDescriptor y_M_grow.desc).map (fun d => d.parameters.length) = some 2 := by decide +kernel
abbrev rm_M_hasObject : Room := { frames := 1, cells := 0, slots := 0, locals := 20 }
theorem hd_M_hasObject : y_M_hasObject.cls ≠ "java/lang/invoke/MethodHandle" ∧ y_M_hasObject.cls ≠ "java/lang/invoke/VarHandle" ∧ (parseMethodDescriptor y_M_hasObject.desc).map (fun d => d.parameters.length) = some 1 := by decide +kernel
abbrev rm_M_shrink : Room := { frames := 2, cells := 0, slots := 0, locals := 41 }
theorem hd_M_shrink : y_M_shrink.cls ≠ "java/lang/invoke/MethodHandle" ∧ y_M_shrink.cls ≠ "java/lang/invoke/VarHandle" ∧ (parseMethodDescriptor y_M_shrink.desc).map (fun d => d.parameters.length) = some 1 := by decide +kernel
abbrev rm_M_empty : Room := { frames := 0, cells := 0, slots := 0, locals := 0 }
theorem hd_M_empty : y_M_empty.cls ≠ "java/lang/invoke/MethodHandle" ∧ y_M_empty.cls ≠ "java/lang/invoke/VarHandle" ∧ (parseMethodDescriptor y_M_empty.desc).map (fun d => d.parameters.length) = some 1 := by decide +kernel
abbrev rm_M_number : Room := { frames := 1, cells := 0, slots := 0, locals := 20 }
theorem hd_M_number : y_M_number.cls ≠ "java/lang/invoke/MethodHandle" ∧ y_M_number.cls ≠ "java/lang/invoke/VarHandle" ∧ (parseMethodDescriptor y_M_number.desc).map (fun d => d.parameters.length) = some 2 := by decide +kernel
abbrev rm_M_copy : Room := { frames := 1, cells := 0, slots := 0, locals := 22 }
theorem hd_M_copy : y_M_copy.cls ≠ "java/lang/invoke/MethodHandle" ∧ y_M_copy.cls ≠ "java/lang/invoke/VarHandle" ∧ (parseMethodDescriptor y_M_copy.desc).map (fun d => d.parameters.length) = some 2 := by decide +kernel
abbrev rm_M_get : Room := { frames := 3, cells := 0, slots := 0, locals := 63 }
theorem hd_M_get : y_M_get.cls ≠ "java/lang/invoke/MethodHandle" ∧ y_M_get.cls ≠ "java/lang/invoke/VarHandle" ∧ (parseMethodDescriptor y_M_get.desc).map (fun d => d.parameters.length) = some 3 := by decide +kernel
abbrev rm_M_hasValue : Room := { frames := 2, cells := 0, slots := 0, locals := 41 }
theorem hd_M_hasValue : y_M_hasValue.cls ≠ "java/lang/invoke/MethodHandle" ∧ y_M_hasValue.cls ≠ "java/lang/invoke/VarHandle" ∧ (parseMethodDescriptor y_M_hasValue.desc).map (fun d => d.parameters.length) = some 2 := by decide +kernel
abbrev rm_M_set : Room := { frames := 3, cells := 0, slots := 0, locals := 63 }
theorem hd_M_set : y_M_set.cls ≠ "java/lang/invoke/MethodHandle" ∧ y_M_set.cls ≠ "java/lang/invoke/VarHandle" ∧ (parseMethodDescriptor y_M_set.desc).map (fun d => d.parameters.length) = some 3 := by decide +kernel
abbrev rm_M_push : Room := { frames := 1, cells := 0, slots := 0, locals := 22 }
theorem hd_M_push : y_M_push.cls ≠ "java/lang/invoke/MethodHandle" ∧ y_M_push.cls ≠ "java/lang/invoke/VarHandle" ∧ (parseMethodDescriptor y_M_push.desc).map (fun d => d.parameters.length) = some 1 := by decide +kernel
abbrev rm_M_pop : Room := { frames := 1, cells := 0, slots := 0, locals := 22 }
theorem hd_M_pop : y_M_pop.cls ≠ "java/lang/invoke/MethodHandle" ∧ y_M_pop.cls ≠ "java/lang/invoke/VarHandle" ∧ (parseMethodDescriptor y_M_pop.desc).map (fun d => d.parameters.length) = some 1 := by decide +kernel
abbrev rm_M_look : Room := { frames := 1, cells := 0, slots := 0, locals := 20 }
theorem hd_M_look : y_M_look.cls ≠ "java/lang/invoke/MethodHandle" ∧ y_M_look.cls ≠ "java/lang/invoke/VarHandle" ∧ (parseMethodDescriptor y_M_look.desc).map (fun d => d.parameters.length) = some 1 := by decide +kernel
abbrev rm_M_numberIn : Room := { frames := 1, cells := 0, slots := 0, locals := 20 }
theorem hd_M_numberIn : y_M_numberIn.cls ≠ "java/lang/invoke/MethodHandle" ∧ y_M_numberIn.cls ≠ "java/lang/invoke/VarHandle" ∧ (parseMethodDescriptor y_M_numberIn.desc).map (fun d => d.parameters.length) = some 1 := by decide +kernel
abbrev rm_M_same : Room := { frames := 1, cells := 0, slots := 0, locals := 20 }
theorem hd_M_same : y_M_same.cls ≠ "java/lang/invoke/MethodHandle" ∧ y_M_same.cls ≠ "java/lang/invoke/VarHandle" ∧ (parseMethodDescriptor y_M_same.desc).map (fun d => d.parameters.length) = some 2 := by decide +kernel
abbrev rm_M_count : Room := { frames := 3, cells := 0, slots := 0, locals := 66 }
theorem hd_M_count : y_M_count.cls ≠ "java/lang/invoke/MethodHandle" ∧ y_M_count.cls ≠ "java/lang/invoke/VarHandle" ∧ (parseMethodDescriptor y_M_count.desc).map (fun d => d.parameters.length) = some 1 := by decide +kernel
end
section
/-! rows of our own over the kit's: natural numbers under nI, worlds by name, calls in one row -/
theorem by8 {n : Nat} (h : n < 128) : (nI n).toInt8.toInt32 = nI n := by
  have : ∀ n, n < 128 → (nI n).toInt8.toInt32 = nI n := by decide +kernel
  exact this n h
theorem by8n {n : Nat} (h : n < 128) : vp_nar .byte (nI n) = nI n := by rw [vp_nar_byte]; exact by8 h
theorem bl8n {n : Nat} (h : n < 2) : vp_nar .boolean (nI n) = nI n := by
  have : ∀ n, n < 2 → vp_nar .boolean (nI n) = nI n := by decide +kernel
  exact this n h
theorem up_nI (g : Nat → Nat) (j v : Nat) : upd (fun k => nI (g k)) j (nI v) = fun k => nI (va_up g j v k) := by
  funext k
  unfold upd va_up
  split <;> rfl
theorem up_va (g : Nat → Int32) (j : Nat) (v : Int32) : upd (fun k => g k) j v = fun k => va_up g j v k := rfl
section RW
variable {p : Program} {l : Launch} {e : Env} {R : Room} {s : State} {m : MethodId} {args : Array Value} {below : List Frame} {meth : Method} {c : Code} {H : Heap} {locs : List Loc} {cells slots : Nat} {Q : State → Prop}
variable {cc : ByteArray} {pc : Nat} {ls : Array Slot} {rest : List Value} {D : va_G} {A : Nat → Prop} {a : Nat} {tys : List (ClassId × FieldType)} {ws ws' : va_W} {H0 : Heap}
theorem r_top {x y : Int32} (h : x = y) (k : W p l e R s m args below meth c H locs cells slots Q (F0 m pc ls (.int y :: rest))) : W p l e R s m args below meth c H locs cells slots Q (F0 m pc ls (.int x :: rest)) := by
  rw [h]; exact k
theorem r_add (hx : p.tables.exec = Jvm.exec) (hb : c.code = cc) {a b : Nat} (hdg : decode cc pc = .ok (.iadd, 1)) (k : W p l e R s m args below meth c H locs cells slots Q (F0 m (pc + 1) ls (.int (nI (a + b)) :: rest))) : W p l e R s m args below meth c H locs cells slots Q (F0 m pc ls (.int (nI b) :: .int (nI a) :: rest)) :=
  lv_iadd hx hb hdg (by rw [nI_add]; exact k)
theorem r_sub (hx : p.tables.exec = Jvm.exec) (hb : c.code = cc) {a b : Nat} (h : b ≤ a) (hdg : decode cc pc = .ok (.isub, 1)) (k : W p l e R s m args below meth c H locs cells slots Q (F0 m (pc + 1) ls (.int (nI (a - b)) :: rest))) : W p l e R s m args below meth c H locs cells slots Q (F0 m pc ls (.int (nI b) :: .int (nI a) :: rest)) :=
  lv_isub hx hb hdg (by rw [pk_sub h]; exact k)
theorem r_mul (hx : p.tables.exec = Jvm.exec) (hb : c.code = cc) {a b : Nat} (hdg : decode cc pc = .ok (.imul, 1)) (k : W p l e R s m args below meth c H locs cells slots Q (F0 m (pc + 1) ls (.int (nI (a * b)) :: rest))) : W p l e R s m args below meth c H locs cells slots Q (F0 m pc ls (.int (nI b) :: .int (nI a) :: rest)) :=
  lv_imul hx hb hdg (by rw [pk_mul]; exact k)
theorem r_i2b (hx : p.tables.exec = Jvm.exec) (hb : c.code = cc) {a : Nat} (h : a < 128) (hdg : decode cc pc = .ok (.i2b, 1)) (k : W p l e R s m args below meth c H locs cells slots Q (F0 m (pc + 1) ls (.int (nI a) :: rest))) : W p l e R s m args below meth c H locs cells slots Q (F0 m pc ls (.int (nI a) :: rest)) :=
  lv_i2b hx hb hdg (by8 h) k
theorem r_ge (hx : p.tables.exec = Jvm.exec) (hb : c.code = cc) {a b : Nat} {off : Int} {tgt : Nat} (hdg : decode cc pc = .ok (.if_icmp .ge off, 3)) (ht : (pc : Int) + off = (tgt : Int)) (h1 : a < 2 ^ 31) (h2 : b < 2 ^ 31)
    (kt : b ≤ a → W p l e R s m args below meth c H locs cells slots Q (F0 m tgt ls rest)) (kf : a < b → W p l e R s m args below meth c H locs cells slots Q (F0 m (pc + 3) ls rest)) : W p l e R s m args below meth c H locs cells slots Q (F0 m pc ls (.int (nI b) :: .int (nI a) :: rest)) :=
  lv_icmp_ge hx hb hdg ht (fun h => kt ((nI_leI h2 h1).mp h)) (fun h => kf (Nat.lt_of_not_le fun q => h ((nI_leI h2 h1).mpr q)))
theorem r_gt (hx : p.tables.exec = Jvm.exec) (hb : c.code = cc) {a b : Nat} {off : Int} {tgt : Nat} (hdg : decode cc pc = .ok (.if_icmp .gt off, 3)) (ht : (pc : Int) + off = (tgt : Int)) (h1 : a < 2 ^ 31) (h2 : b < 2 ^ 31)
    (kt : b < a → W p l e R s m args below meth c H locs cells slots Q (F0 m tgt ls rest)) (kf : a ≤ b → W p l e R s m args below meth c H locs cells slots Q (F0 m (pc + 3) ls rest)) : W p l e R s m args below meth c H locs cells slots Q (F0 m pc ls (.int (nI b) :: .int (nI a) :: rest)) :=
  lv_icmp_gt hx hb hdg ht (fun h => kt ((nI_ltI h2 h1).mp h)) (fun h => kf (Nat.le_of_not_lt fun q => h ((nI_ltI h2 h1).mpr q)))
theorem r_le (hx : p.tables.exec = Jvm.exec) (hb : c.code = cc) {a b : Nat} {off : Int} {tgt : Nat} (hdg : decode cc pc = .ok (.if_icmp .le off, 3)) (ht : (pc : Int) + off = (tgt : Int)) (h1 : a < 2 ^ 31) (h2 : b < 2 ^ 31)
    (kt : a ≤ b → W p l e R s m args below meth c H locs cells slots Q (F0 m tgt ls rest)) (kf : b < a → W p l e R s m args below meth c H locs cells slots Q (F0 m (pc + 3) ls rest)) : W p l e R s m args below meth c H locs cells slots Q (F0 m pc ls (.int (nI b) :: .int (nI a) :: rest)) :=
  lv_icmp_le hx hb hdg ht (fun h => kt ((nI_leI h1 h2).mp h)) (fun h => kf (Nat.lt_of_not_le fun q => h ((nI_leI h1 h2).mpr q)))
theorem r_lt (hx : p.tables.exec = Jvm.exec) (hb : c.code = cc) {a b : Nat} {off : Int} {tgt : Nat} (hdg : decode cc pc = .ok (.if_icmp .lt off, 3)) (ht : (pc : Int) + off = (tgt : Int)) (h1 : a < 2 ^ 31) (h2 : b < 2 ^ 31)
    (kt : a < b → W p l e R s m args below meth c H locs cells slots Q (F0 m tgt ls rest)) (kf : b ≤ a → W p l e R s m args below meth c H locs cells slots Q (F0 m (pc + 3) ls rest)) : W p l e R s m args below meth c H locs cells slots Q (F0 m pc ls (.int (nI b) :: .int (nI a) :: rest)) :=
  lv_icmp_lt hx hb hdg ht (fun h => kt ((nI_ltI h1 h2).mp h)) (fun h => kf (Nat.le_of_not_lt fun q => h ((nI_ltI h1 h2).mpr q)))
theorem r_eq (hx : p.tables.exec = Jvm.exec) (hb : c.code = cc) {a b : Nat} {off : Int} {tgt : Nat} (hdg : decode cc pc = .ok (.if_icmp .eq off, 3)) (ht : (pc : Int) + off = (tgt : Int)) (h1 : a < 2 ^ 31) (h2 : b < 2 ^ 31)
    (kt : a = b → W p l e R s m args below meth c H locs cells slots Q (F0 m tgt ls rest)) (kf : a ≠ b → W p l e R s m args below meth c H locs cells slots Q (F0 m (pc + 3) ls rest)) : W p l e R s m args below meth c H locs cells slots Q (F0 m pc ls (.int (nI b) :: .int (nI a) :: rest)) :=
  lv_icmp_eq hx hb hdg ht (fun h => kt ((nI_eq h1 h2).mp h)) (fun h => kf fun q => h ((nI_eq h1 h2).mpr q))
theorem r_ne (hx : p.tables.exec = Jvm.exec) (hb : c.code = cc) {a b : Nat} {off : Int} {tgt : Nat} (hdg : decode cc pc = .ok (.if_icmp .ne off, 3)) (ht : (pc : Int) + off = (tgt : Int)) (h1 : a < 2 ^ 31) (h2 : b < 2 ^ 31)
    (kt : a ≠ b → W p l e R s m args below meth c H locs cells slots Q (F0 m tgt ls rest)) (kf : a = b → W p l e R s m args below meth c H locs cells slots Q (F0 m (pc + 3) ls rest)) : W p l e R s m args below meth c H locs cells slots Q (F0 m pc ls (.int (nI b) :: .int (nI a) :: rest)) :=
  lv_icmp_ne hx hb hdg ht (fun h => kt fun q => h ((nI_eq h1 h2).mpr q)) (fun h => kf ((nI_eq h1 h2).mp h))
theorem r_ifeq (hx : p.tables.exec = Jvm.exec) (hb : c.code = cc) {a : Nat} {off : Int} {tgt : Nat} (hdg : decode cc pc = .ok (.ifCond .eq off, 3)) (ht : (pc : Int) + off = (tgt : Int)) (h1 : a < 2 ^ 31)
    (kt : a = 0 → W p l e R s m args below meth c H locs cells slots Q (F0 m tgt ls rest)) (kf : a ≠ 0 → W p l e R s m args below meth c H locs cells slots Q (F0 m (pc + 3) ls rest)) : W p l e R s m args below meth c H locs cells slots Q (F0 m pc ls (.int (nI a) :: rest)) :=
  lv_if_eq hx hb hdg ht (fun h => kt ((nI_eq h1 (by decide)).mp h)) (fun h => kf fun q => h ((nI_eq h1 (b := 0) (by decide)).mpr q))
theorem r_ifne (hx : p.tables.exec = Jvm.exec) (hb : c.code = cc) {a : Nat} {off : Int} {tgt : Nat} (hdg : decode cc pc = .ok (.ifCond .ne off, 3)) (ht : (pc : Int) + off = (tgt : Int)) (h1 : a < 2 ^ 31)
    (kt : a ≠ 0 → W p l e R s m args below meth c H locs cells slots Q (F0 m tgt ls rest)) (kf : a = 0 → W p l e R s m args below meth c H locs cells slots Q (F0 m (pc + 3) ls rest)) : W p l e R s m args below meth c H locs cells slots Q (F0 m pc ls (.int (nI a) :: rest)) :=
  lv_if_ne hx hb hdg ht (fun h => kt fun q => h ((nI_eq h1 (b := 0) (by decide)).mpr q)) (fun h => kf ((nI_eq h1 (by decide)).mp h))
theorem r_ifle (hx : p.tables.exec = Jvm.exec) (hb : c.code = cc) {a : Nat} {off : Int} {tgt : Nat} (hdg : decode cc pc = .ok (.ifCond .le off, 3)) (ht : (pc : Int) + off = (tgt : Int)) (h1 : a < 2 ^ 31)
    (kt : a = 0 → W p l e R s m args below meth c H locs cells slots Q (F0 m tgt ls rest)) (kf : 0 < a → W p l e R s m args below meth c H locs cells slots Q (F0 m (pc + 3) ls rest)) : W p l e R s m args below meth c H locs cells slots Q (F0 m pc ls (.int (nI a) :: rest)) :=
  lv_if_le hx hb hdg ht (fun h => kt (Nat.le_zero.mp ((nI_leI h1 (b := 0) (by decide)).mp h))) (fun h => kf (Nat.pos_of_ne_zero fun q => h (by rw [q]; exact Int32.le_refl _)))
theorem r_get {own C : String} {T : u_T} {N ci index : Nat} (hx : p.tables.exec = Jvm.exec) (hb : c.code = cc) (hts : ∀ w ∈ TBL, w.before args s = true) (hown : s.vm.findClass own = some m.cls) (hK : va_K D classes tys s) (hP : va_P D classes ws H) (q0 : Nat) {fs : List Value} (he : ws[q0]? = some (a, .inr (ci, fs))) (hc : classes[ci]? = some (C, T, N)) (hin : ∀ w ∈ u_ws C T N, w ∈ TBL) (k : Nat) (hk : k < N) (hl : Cond.fieldLink own index (T k).1 (T k).2.1 (T k).2.2.1 ∈ TBL) {v : Value} (hv : fs[k]? = some v) (hdg : decode cc pc = .ok (.getfield index, 3))
    (kk : W p l e R s m args below meth c H locs cells slots Q (F0 m (pc + 3) ls (v :: rest))) : W p l e R s m args below meth c H locs cells slots Q (F0 m pc ls (.ref a :: rest)) :=
  va_get hx hb hts hin hown hK hP q0 he hc k hk (hts _ hl) (fun _ h => h) hv hdg kk
theorem r_getN {C : String} {T : u_T} {N ci index : Nat} (hx : p.tables.exec = Jvm.exec) (hb : c.code = cc) (hts : ∀ w ∈ TBL, w.before args s = true) (hown : s.vm.findClass "SliceHeap" = some m.cls) (hN : NW s) (hK : va_K D classes tys s) (hP : va_P D classes ws H) (q0 : Nat) {fs : List Value} (he : ws[q0]? = some (a, .inr (ci, fs))) (hc : classes[ci]? = some (C, T, N)) (hin : ∀ w ∈ u_ws C T N, w ∈ TBL) (k : Nat) (hk : k < N) (i : Nat) (hl : nw_L[i]? = some (index, (T k).1, (T k).2.1, (T k).2.2.1)) {v : Value} (hv : fs[k]? = some v) (hdg : decode cc pc = .ok (.getfield index, 3))
    (kk : W p l e R s m args below meth c H locs cells slots Q (F0 m (pc + 3) ls (v :: rest))) : W p l e R s m args below meth c H locs cells slots Q (F0 m pc ls (.ref a :: rest)) :=
  va_getN hx hb hts hin hown hK hP q0 he hc k hk (va_Nw.use rfl (hN _ (List.mem_of_getElem? hl))) (fun _ h => h) hv hdg kk
theorem pfd_I : parseFieldDescriptor "I" = some .int := by decide +kernel
theorem r_put {own C : String} {T : u_T} {N ci index : Nat} (hx : p.tables.exec = Jvm.exec) (hb : c.code = cc) (hts : ∀ w ∈ TBL, w.before args s = true) (hown : s.vm.findClass own = some m.cls) (hK : va_K D classes tys s) (hP : va_P D classes ws H) (hD : va_D A ws) (hS : va_S A H0 H locs) (q0 : Nat) {fs : List Value} (he : ws[q0]? = some (a, .inr (ci, fs))) (hc : classes[ci]? = some (C, T, N)) (hin : ∀ w ∈ u_ws C T N, w ∈ TBL) (ty0 : Nat → FieldType) (hty : ∀ k, k < N → parseFieldDescriptor (T k).2.2.1 = some (ty0 k)) (hnm : ∀ a, a < N → ∀ b, b < N → a ≠ b → (T a).2.1 ≠ (T b).2.1)
    (k : Nat) (hk : k < N) (hl : Cond.fieldLink own index (T k).1 (T k).2.1 (T k).2.2.1 ∈ TBL) (hfin : (T k).2.2.2 = false) (hd : (T k).2.2.1 = "I") {v : Int32} (hlen : k < fs.length) (hw : ws.set q0 (a, .inr (ci, fs.set k (.int v))) = ws') (hdg : decode cc pc = .ok (.putfield index, 3))
    (kk : ∀ (H1 : Heap) (locs1 : List Loc), va_P D classes ws' H1 → va_S A H0 H1 locs1 → W p l e R s m args below meth c H1 locs1 cells slots Q (F0 m (pc + 3) ls rest)) : W p l e R s m args below meth c H locs cells slots Q (F0 m pc ls (.int v :: .ref a :: rest)) := by
  subst hw
  exact va_put hx hb hts hin ty0 hty hnm hown hK hP hD hS q0 he hc k hk (hts _ hl) (fun _ h => h) hfin (ty := .int) (v := .int v) (by rw [hd]; exact pfd_I) rfl rfl hlen hdg (fun H1 l1 h1 _ h3 => kk H1 l1 h1 h3)
theorem r_putN {C : String} {T : u_T} {N ci index : Nat} (hx : p.tables.exec = Jvm.exec) (hb : c.code = cc) (hts : ∀ w ∈ TBL, w.before args s = true) (hown : s.vm.findClass "SliceHeap" = some m.cls) (hN : NW s) (hK : va_K D classes tys s) (hP : va_P D classes ws H) (hD : va_D A ws) (hS : va_S A H0 H locs) (q0 : Nat) {fs : List Value} (he : ws[q0]? = some (a, .inr (ci, fs))) (hc : classes[ci]? = some (C, T, N)) (hin : ∀ w ∈ u_ws C T N, w ∈ TBL) (ty0 : Nat → FieldType) (hty : ∀ k, k < N → parseFieldDescriptor (T k).2.2.1 = some (ty0 k)) (hnm : ∀ a, a < N → ∀ b, b < N → a ≠ b → (T a).2.1 ≠ (T b).2.1)
    (k : Nat) (hk : k < N) (i : Nat) (hl : nw_L[i]? = some (index, (T k).1, (T k).2.1, (T k).2.2.1)) (hfin : (T k).2.2.2 = false) (hd : (T k).2.2.1 = "I") {v : Int32} (hlen : k < fs.length) (hw : ws.set q0 (a, .inr (ci, fs.set k (.int v))) = ws') (hdg : decode cc pc = .ok (.putfield index, 3))
    (kk : ∀ (H1 : Heap) (locs1 : List Loc), va_P D classes ws' H1 → va_S A H0 H1 locs1 → W p l e R s m args below meth c H1 locs1 cells slots Q (F0 m (pc + 3) ls rest)) : W p l e R s m args below meth c H locs cells slots Q (F0 m pc ls (.int v :: .ref a :: rest)) := by
  subst hw
  exact va_putN hx hb hts hin ty0 hty hnm hown hK hP hD hS q0 he hc k hk (va_Nw.use rfl (hN _ (List.mem_of_getElem? hl))) (fun _ h => h) hfin (ty := .int) (v := .int v) (by rw [hd]; exact pfd_I) rfl rfl hlen hdg (fun H1 l1 h1 _ h3 => kk H1 l1 h1 h3)
-- array reads and writes, by natural places
theorem r_bald (hx : p.tables.exec = Jvm.exec) (hb : c.code = cc) (hK : va_K D classes tys s) (hP : va_P D classes ws H) (q0 t0 : Nat) {cA : ClassId} {n : Nat} {g : Nat → Nat} (ha : ws[q0]? = some (a, .inl (cA, n, .inl (fun k => nI (g k))))) (ht : tys[t0]? = some (cA, .byte)) (hn : n < 2 ^ 31) {j : Nat} (hj : j < n) (hdg : decode cc pc = .ok (.baload, 1))
    (kk : W p l e R s m args below meth c H locs cells slots Q (F0 m (pc + 1) ls (.int (nI (g j)) :: rest))) : W p l e R s m args below meth c H locs cells slots Q (F0 m pc ls (.int (nI j) :: .ref a :: rest)) :=
  va_bald hx hb hK hP q0 t0 ha ht (vp_in_nI hj hn) hdg (by rw [nI_clamp (Nat.lt_trans hj hn)]; exact kk)
theorem r_zald (hx : p.tables.exec = Jvm.exec) (hb : c.code = cc) (hK : va_K D classes tys s) (hP : va_P D classes ws H) (q0 t0 : Nat) {cA : ClassId} {n : Nat} {g : Nat → Nat} (ha : ws[q0]? = some (a, .inl (cA, n, .inl (fun k => nI (g k))))) (ht : tys[t0]? = some (cA, .boolean)) (hn : n < 2 ^ 31) {j : Nat} (hj : j < n) (hdg : decode cc pc = .ok (.baload, 1))
    (kk : W p l e R s m args below meth c H locs cells slots Q (F0 m (pc + 1) ls (.int (nI (g j)) :: rest))) : W p l e R s m args below meth c H locs cells slots Q (F0 m pc ls (.int (nI j) :: .ref a :: rest)) :=
  va_zald hx hb hK hP q0 t0 ha ht (vp_in_nI hj hn) hdg (by rw [nI_clamp (Nat.lt_trans hj hn)]; exact kk)
theorem r_iald (hx : p.tables.exec = Jvm.exec) (hb : c.code = cc) (hK : va_K D classes tys s) (hP : va_P D classes ws H) (q0 t0 : Nat) {cA : ClassId} {n : Nat} {g : Nat → Int32} (ha : ws[q0]? = some (a, .inl (cA, n, .inl (fun k => g k)))) (ht : tys[t0]? = some (cA, .int)) (hn : n < 2 ^ 31) {j : Nat} (hj : j < n) (hdg : decode cc pc = .ok (.iaload, 1))
    (kk : W p l e R s m args below meth c H locs cells slots Q (F0 m (pc + 1) ls (.int (g j) :: rest))) : W p l e R s m args below meth c H locs cells slots Q (F0 m pc ls (.int (nI j) :: .ref a :: rest)) :=
  va_iald hx hb hK hP q0 t0 ha ht (vp_in_nI hj hn) hdg (by rw [nI_clamp (Nat.lt_trans hj hn)]; exact kk)
theorem r_bast (hx : p.tables.exec = Jvm.exec) (hb : c.code = cc) (hK : va_K D classes tys s) (hP : va_P D classes ws H) (hD : va_D A ws) (hS : va_S A H0 H locs) (q0 t0 : Nat) {cA : ClassId} {n : Nat} {g : Nat → Nat} (ha : ws[q0]? = some (a, .inl (cA, n, .inl (fun k => nI (g k))))) (ht : tys[t0]? = some (cA, .byte)) (hn : n < 2 ^ 31) {j v : Nat} (hj : j < n) (hv : v < 128) (hw : ws.set q0 (a, .inl (cA, n, .inl (fun k => nI (va_up g j v k)))) = ws') (hdg : decode cc pc = .ok (.bastore, 1))
    (kk : ∀ (H1 : Heap) (locs1 : List Loc), va_P D classes ws' H1 → va_S A H0 H1 locs1 → W p l e R s m args below meth c H1 locs1 cells slots Q (F0 m (pc + 1) ls rest)) : W p l e R s m args below meth c H locs cells slots Q (F0 m pc ls (.int (nI v) :: .int (nI j) :: .ref a :: rest)) := by
  subst hw
  refine va_bast hx hb hK hP hD hS q0 t0 ha ht (vp_in_nI hj hn) hdg (fun H1 l1 h1 _ h3 => kk H1 l1 ?_ h3)
  rw [nI_clamp (Nat.lt_trans hj hn), by8n hv, up_nI] at h1
  exact h1
theorem r_zast (hx : p.tables.exec = Jvm.exec) (hb : c.code = cc) (hK : va_K D classes tys s) (hP : va_P D classes ws H) (hD : va_D A ws) (hS : va_S A H0 H locs) (q0 t0 : Nat) {cA : ClassId} {n : Nat} {g : Nat → Nat} (ha : ws[q0]? = some (a, .inl (cA, n, .inl (fun k => nI (g k))))) (ht : tys[t0]? = some (cA, .boolean)) (hn : n < 2 ^ 31) {j v : Nat} (hj : j < n) (hv : v < 2) (hw : ws.set q0 (a, .inl (cA, n, .inl (fun k => nI (va_up g j v k)))) = ws') (hdg : decode cc pc = .ok (.bastore, 1))
    (kk : ∀ (H1 : Heap) (locs1 : List Loc), va_P D classes ws' H1 → va_S A H0 H1 locs1 → W p l e R s m args below meth c H1 locs1 cells slots Q (F0 m (pc + 1) ls rest)) : W p l e R s m args below meth c H locs cells slots Q (F0 m pc ls (.int (nI v) :: .int (nI j) :: .ref a :: rest)) := by
  subst hw
  refine va_zast hx hb hK hP hD hS q0 t0 ha ht (vp_in_nI hj hn) hdg (fun H1 l1 h1 _ h3 => kk H1 l1 ?_ h3)
  rw [nI_clamp (Nat.lt_trans hj hn), bl8n hv, up_nI] at h1
  exact h1
theorem r_iast (hx : p.tables.exec = Jvm.exec) (hb : c.code = cc) (hK : va_K D classes tys s) (hP : va_P D classes ws H) (hD : va_D A ws) (hS : va_S A H0 H locs) (q0 t0 : Nat) {cA : ClassId} {n : Nat} {g : Nat → Nat} (ha : ws[q0]? = some (a, .inl (cA, n, .inl (fun k => nI (g k))))) (ht : tys[t0]? = some (cA, .int)) (hn : n < 2 ^ 31) {j v : Nat} (hj : j < n) (hw : ws.set q0 (a, .inl (cA, n, .inl (fun k => nI (va_up g j v k)))) = ws') (hdg : decode cc pc = .ok (.iastore, 1))
    (kk : ∀ (H1 : Heap) (locs1 : List Loc), va_P D classes ws' H1 → va_S A H0 H1 locs1 → W p l e R s m args below meth c H1 locs1 cells slots Q (F0 m (pc + 1) ls rest)) : W p l e R s m args below meth c H locs cells slots Q (F0 m pc ls (.int (nI v) :: .int (nI j) :: .ref a :: rest)) := by
  subst hw
  refine va_iast hx hb hK hP hD hS q0 t0 ha ht (vp_in_nI hj hn) hdg (fun H1 l1 h1 _ h3 => kk H1 l1 ?_ h3)
  rw [nI_clamp (Nat.lt_trans hj hn), up_nI] at h1
  exact h1
theorem r_vast (hx : p.tables.exec = Jvm.exec) (hb : c.code = cc) (hK : va_K D classes tys s) (hP : va_P D classes ws H) (hD : va_D A ws) (hS : va_S A H0 H locs) (q0 t0 : Nat) {cA : ClassId} {n : Nat} {g : Nat → Int32} (ha : ws[q0]? = some (a, .inl (cA, n, .inl (fun k => g k)))) (ht : tys[t0]? = some (cA, .int)) (hn : n < 2 ^ 31) {j : Nat} {v : Int32} (hj : j < n) (hw : ws.set q0 (a, .inl (cA, n, .inl (fun k => va_up g j v k))) = ws') (hdg : decode cc pc = .ok (.iastore, 1))
    (kk : ∀ (H1 : Heap) (locs1 : List Loc), va_P D classes ws' H1 → va_S A H0 H1 locs1 → W p l e R s m args below meth c H1 locs1 cells slots Q (F0 m (pc + 1) ls rest)) : W p l e R s m args below meth c H locs cells slots Q (F0 m pc ls (.int v :: .int (nI j) :: .ref a :: rest)) := by
  subst hw
  refine va_iast hx hb hK hP hD hS q0 t0 ha ht (vp_in_nI hj hn) hdg (fun H1 l1 h1 _ h3 => kk H1 l1 ?_ h3)
  rw [nI_clamp (Nat.lt_trans hj hn), up_va] at h1
  exact h1
-- calls
variable {y : MethodName} {bytes : ByteArray} {maxL nL n index : Nat} {ret : Option FieldType} {rm : Room} {own C : String} {b : Addr} {As st0 : List Value}
theorem r_callB (S : CallFix p m c cc nL s args TBL own) (mc ms : Nat) (kc : Cond.code y bytes maxL ret ∈ TBL) (k0 : Cond.initialized y.cls ∈ TBL) (km : Cond.methodLink own index y ∈ TBL)
    (hd : y.cls ≠ "java/lang/invoke/MethodHandle" ∧ y.cls ≠ "java/lang/invoke/VarHandle" ∧ (parseMethodDescriptor y.desc).map (fun d => d.parameters.length) = some n) (hrm : rm.cells = mc ∧ rm.slots = ms) (hR : rm.frames + 1 ≤ R.frames ∧ 8 + (maxL + 11) + rm.locals ≤ R.locals) :
    CallB R s args own index y bytes maxL ret (Cond.code y bytes maxL ret :: TBL) rm mc ms n :=
  callB_of n S.2.2.2.2 (tb_good kc) rfl hrm.1 hrm.2 (S.2.2.2.2 _ k0) (S.2.2.2.2 _ km) hd hR
theorem r_pre {σ : Type} {w : σ → va_W} {Z : State → Prop} {x : σ} {av : List Value} (hZ : ZOk Z) (hz : Z s) (hK : va_K D classes tys s) (hP : va_P D classes (w x) H) : PreS s H (va_Pc av (fun U => va_P D classes (w x) U.heap ∧ va_K D classes tys U ∧ Z U)) av :=
  ⟨fun a U g mk q => ⟨q.1, q.2.1, va_K.moved (u := U) (U := U.calling g mk a) (Vm.Alike.refl U.vm) q.2.2.1, hZ.1 a U g mk q.2.2.2⟩, fun U hU hW => ⟨rfl, by rw [hU]; exact hP, va_K.moved hW.alike hK, hZ.2 s U hW hz⟩⟩
/-- a virtual call that gives an int back, the callee's world by name -/
theorem r_calli {σ : Type} {w : σ → va_W} {Z : State → Prop} {A0 : Nat → Prop} {x : σ} {post : Int32 → σ → Prop} {T : u_T} {N ci : Nat} {fs : List Value} (S : CallFix p m c cc nL s args TBL own) (hM : Mi l D tys w Z A y (Cond.code y bytes maxL ret :: TBL) rm (.ref b :: As) x post)
    (kc : Cond.code y bytes maxL ret ∈ TBL) (k0 : Cond.initialized y.cls ∈ TBL) (km : Cond.methodLink own index y ∈ TBL) (ki : Cond.instanceMethod y ∈ TBL) (ks : Cond.selects C y y ∈ TBL)
    (hd : y.cls ≠ "java/lang/invoke/MethodHandle" ∧ y.cls ≠ "java/lang/invoke/VarHandle" ∧ (parseMethodDescriptor y.desc).map (fun d => d.parameters.length) = some n) (hrm : rm.cells = 0 ∧ rm.slots = 0) (hR : rm.frames + 1 ≤ R.frames ∧ 8 + (maxL + 11) + rm.locals ≤ R.locals)
    (hZ : ZOk Z) (hz : Z s) (hK : va_K D classes tys s) (hP : va_P D classes (w x) H) (hS : va_S A0 H0 H locs) (hA : ∀ q, A q → A0 q) (q0 : Nat) (he : (w x)[q0]? = some (b, .inr (ci, fs))) (hc : classes[ci]? = some (C, T, N))
    (hn : As.length = n) (hsz : ls.size = nL) (hst : st0 = As.reverse ++ .ref b :: rest) (hroom : (rest.map fun v => v.category).sum ≤ 8) (hf : cells ≤ R.cells ∧ slots ≤ R.slots) (hdg : decode cc pc = .ok (.invokevirtual index, 3))
    (kk : ∀ (r : Int32) (x' : σ) (H1 : Heap) (locs1 : List Loc), post r x' → va_P D classes (w x') H1 → H.size ≤ H1.size → (∀ q : Nat, q < H.size → ¬ A q → H1[q]? = H[q]?) → va_S A0 H0 H1 locs1 → W p l e R s m args below meth c H1 locs1 cells slots Q (F0 m (pc + 3) ls (.int r :: rest))) :
    W p l e R s m args below meth c H locs cells slots Q (F0 m pc ls st0) := by
  have cb := r_callB (R := R) S 0 0 kc k0 km hd hrm hR
  have pr := r_pre (av := .ref b :: As) hZ hz hK hP
  refine va_calli (va_runV (As := As) (rest := rest) S hM ⟨cb, S.2.2.2.2 _ ki, S.2.2.2.2 _ ks⟩ ⟨pr.1, va_recv hK hP hc he, pr.2⟩ rfl hn hsz hst (lv_room hroom) hdg hf) hS (fun q _ h => hA q h) hA (fun r u t H1 l1 ht _ hw hB hz1 hk1 hS1 => ?_)
  rw [ht] at hB
  exact kk r u H1 l1 hw hB hz1 hk1 hS1
theorem r_callv {σ : Type} {w : σ → va_W} {Z : State → Prop} {A0 : Nat → Prop} {x : σ} {post : σ → Prop} {T : u_T} {N ci : Nat} {fs : List Value} (S : CallFix p m c cc nL s args TBL own) (hM : Mv l D tys w Z A y (Cond.code y bytes maxL ret :: TBL) rm (.ref b :: As) x post)
    (kc : Cond.code y bytes maxL ret ∈ TBL) (k0 : Cond.initialized y.cls ∈ TBL) (km : Cond.methodLink own index y ∈ TBL) (ki : Cond.instanceMethod y ∈ TBL) (ks : Cond.selects C y y ∈ TBL)
    (hd : y.cls ≠ "java/lang/invoke/MethodHandle" ∧ y.cls ≠ "java/lang/invoke/VarHandle" ∧ (parseMethodDescriptor y.desc).map (fun d => d.parameters.length) = some n) (hrm : rm.cells = 0 ∧ rm.slots = 0) (hR : rm.frames + 1 ≤ R.frames ∧ 8 + (maxL + 11) + rm.locals ≤ R.locals)
    (hZ : ZOk Z) (hz : Z s) (hK : va_K D classes tys s) (hP : va_P D classes (w x) H) (hS : va_S A0 H0 H locs) (hA : ∀ q, A q → A0 q) (q0 : Nat) (he : (w x)[q0]? = some (b, .inr (ci, fs))) (hc : classes[ci]? = some (C, T, N))
    (hn : As.length = n) (hsz : ls.size = nL) (hst : st0 = As.reverse ++ .ref b :: rest) (hroom : (rest.map fun v => v.category).sum ≤ 8) (hf : cells ≤ R.cells ∧ slots ≤ R.slots) (hdg : decode cc pc = .ok (.invokevirtual index, 3))
    (kk : ∀ (x' : σ) (H1 : Heap) (locs1 : List Loc), post x' → va_P D classes (w x') H1 → H.size ≤ H1.size → (∀ q : Nat, q < H.size → ¬ A q → H1[q]? = H[q]?) → va_S A0 H0 H1 locs1 → W p l e R s m args below meth c H1 locs1 cells slots Q (F0 m (pc + 3) ls rest)) :
    W p l e R s m args below meth c H locs cells slots Q (F0 m pc ls st0) := by
  have cb := r_callB (R := R) S 0 0 kc k0 km hd hrm hR
  have pr := r_pre (av := .ref b :: As) hZ hz hK hP
  refine va_callv (va_runV (As := As) (rest := rest) S hM ⟨cb, S.2.2.2.2 _ ki, S.2.2.2.2 _ ks⟩ ⟨pr.1, va_recv hK hP hc he, pr.2⟩ rfl hn hsz hst (lv_room hroom) hdg hf) hS (fun q _ h => hA q h) hA (fun u t H1 l1 ht _ hw hB hz1 hk1 hS1 => ?_)
  rw [ht] at hB
  exact kk u H1 l1 hw hB hz1 hk1 hS1
/-- a static call that looks at its arguments alone -/
theorem r_calls {r : Int32} (S : CallFix p m c cc nL s args TBL own) (hM : Ms l y (Cond.code y bytes maxL ret :: TBL) rm As r)
    (kc : Cond.code y bytes maxL ret ∈ TBL) (k0 : Cond.initialized y.cls ∈ TBL) (km : Cond.methodLink own index y ∈ TBL) (kt : Cond.static y ∈ TBL)
    (hd : y.cls ≠ "java/lang/invoke/MethodHandle" ∧ y.cls ≠ "java/lang/invoke/VarHandle" ∧ (parseMethodDescriptor y.desc).map (fun d => d.parameters.length) = some n) (hrm : rm.cells = 0 ∧ rm.slots = 0) (hR : rm.frames + 1 ≤ R.frames ∧ 8 + (maxL + 11) + rm.locals ≤ R.locals)
    (hn : As.length = n) (hsz : ls.size = nL) (hst : st0 = As.reverse ++ rest) (hroom : (rest.map fun v => v.category).sum ≤ 8) (hf : cells ≤ R.cells ∧ slots ≤ R.slots) (hdg : decode cc pc = .ok (.invokestatic index, 3))
    (kk : W p l e R s m args below meth c H locs cells slots Q (F0 m (pc + 3) ls (.int r :: rest))) :
    W p l e R s m args below meth c H locs cells slots Q (F0 m pc ls st0) := by
  have cb := r_callB (R := R) S 0 0 kc k0 km hd hrm hR
  exact W.callR (W.runS (As := As) (rest := rest) S hM ⟨cb, S.2.2.2.2 _ kt⟩ preEq rfl hn hsz hst (lv_room hroom) hdg hf) kk
end RW
/-- a method's walk begins: what is known at its entry -/
theorem r_met {σ : Type} {l : Launch} {y : MethodName} {cc : ByteArray} {maxL : Nat} {ret : Option FieldType} {rm : Room} {D : va_G} {tys : List (ClassId × FieldType)} {w : σ → va_W} {Z : State → Prop} {A : Nat → Prop} {x : σ} {av : List Value} {Qc : Array Value → State → Outcome → State → Prop} (hy : plainName y.cls = true) (hlen : (lg_sl av).length ≤ maxL)
    (body : ∀ (p : Program) (e : Env) (s : State) (m : MethodId) (below : List Frame) (meth : Method) (c : Code) (ls : Array Slot), p.tables.exec = Jvm.exec → c.code = cc → meth.sig.returnType = ret → meth.locks = false → CallFix p m c cc maxL s av.toArray TBL y.cls → va_K D classes tys s → Z s → lv_has ls maxL (lv_args 0 av) → va_P D classes (w x) s.heap → va_S A s.heap s.heap [] → W p l e rm s m av.toArray below meth c s.heap [] 0 0 (MQ below Qc av.toArray s 0 0 A) (F0 m 0 ls [])) :
    Met l y (Cond.code y cc maxL ret :: TBL) rm (va_Pc av (fun U => va_P D classes (w x) U.heap ∧ va_K D classes tys U ∧ Z U)) Qc 0 0 A := by
  refine Met.ofW (cc := cc) (maxL := maxL) (ret := ret) hy rfl ?_
  intro p e s m args below meth c s₁ B hml hv
  obtain ⟨rfl, hP, hK, hz⟩ := hv
  have hts := atoms_spec (ws := Cond.code y cc maxL ret :: TBL) B.pre
  have hl := lv_entry av (n := maxL) hlen
  rw [lg_entry_eq]
  exact body p e s m below meth c _ B.exec B.bytes B.returns B.notSynchronized ⟨B.exec, B.bytes, hml, findClass_of_methodNamed B.named, fun w hw => hts w (List.mem_cons_of_mem _ hw)⟩ hK hz hl hP va_S.rf
theorem r_mets {l : Launch} {y : MethodName} {cc : ByteArray} {maxL : Nat} {ret : Option FieldType} {rm : Room} {av : List Value} {r : Int32} (hy : plainName y.cls = true) (hlen : (lg_sl av).length ≤ maxL)
    (body : ∀ (p : Program) (e : Env) (s : State) (m : MethodId) (below : List Frame) (meth : Method) (c : Code) (ls : Array Slot), p.tables.exec = Jvm.exec → c.code = cc → meth.sig.returnType = ret → meth.locks = false → CallFix p m c cc maxL s av.toArray TBL y.cls → lv_has ls maxL (lv_args 0 av) → W p l e rm s m av.toArray below meth c s.heap [] 0 0 (MQ below (QcRead r) av.toArray s 0 0 (fun _ => False)) (F0 m 0 ls [])) :
    Ms l y (Cond.code y cc maxL ret :: TBL) rm av r := by
  refine Met.ofW (cc := cc) (maxL := maxL) (ret := ret) hy rfl ?_
  intro p e s m args below meth c s₁ B hml hv
  subst hv
  have hts := atoms_spec (ws := Cond.code y cc maxL ret :: TBL) B.pre
  have hl := lv_entry av (n := maxL) hlen
  rw [lg_entry_eq]
  exact body p e s m below meth c _ B.exec B.bytes B.returns B.notSynchronized ⟨B.exec, B.bytes, hml, findClass_of_methodNamed B.named, fun w hw => hts w (List.mem_cons_of_mem _ hw)⟩ hl
section RT
variable {p : Program} {l : Launch} {e : Env} {R : Room} {s : State} {m : MethodId} {args : Array Value} {below : List Frame} {meth : Method} {c : Code} {H : Heap} {locs : List Loc} {cells slots : Nat}
variable {cc : ByteArray} {pc : Nat} {ls : Array Slot} {D : va_G} {A : Nat → Prop}
/-- the ends: nothing, an int, a boolean -/
theorem r_vret {σ : Type} {w : σ → va_W} {post : σ → Prop} {x : σ} (hx : p.tables.exec = Jvm.exec) (hb : c.code = cc) (hr : meth.sig.returnType = none) (hlk : meth.locks = false) (hP : va_P D classes (w x) H) (hS : va_S A s.heap H locs) (hdg : decode cc pc = .ok (.return_, 1)) (hq : post x) :
    W p l e R s m args below meth c H locs cells slots (MQ below (va_Qv post (fun x' t => va_P D classes (w x') t.heap) A) args s cells slots A) (F0 m pc ls []) :=
  W.vret hx hb hr (fun t ht _ => ⟨⟨x, rfl, hq, (by rw [← ht] at hP; exact hP)⟩, hS.F ht⟩) hS.2.2 hdg hlk
theorem r_iret {σ : Type} {w : σ → va_W} {post : Int32 → σ → Prop} {x : σ} {v : Int32} (hx : p.tables.exec = Jvm.exec) (hb : c.code = cc) (hr : meth.sig.returnType = some .int) (hlk : meth.locks = false) (hP : va_P D classes (w x) H) (hS : va_S A s.heap H locs) (hdg : decode cc pc = .ok (.ireturn, 1)) (hq : post v x) :
    W p l e R s m args below meth c H locs cells slots (MQ below (va_Qi post (fun x' t => va_P D classes (w x') t.heap) A) args s cells slots A) (F0 m pc ls [.int v]) :=
  W.iret hx hb hr (fun t ht _ => ⟨⟨v, x, rfl, hq, (by rw [← ht] at hP; exact hP)⟩, hS.F ht⟩) hS.2.2 hdg hlk
theorem r_zret {σ : Type} {w : σ → va_W} {post : Int32 → σ → Prop} {x : σ} {v : Int32} (hx : p.tables.exec = Jvm.exec) (hb : c.code = cc) (hr : meth.sig.returnType = some .boolean) (hlk : meth.locks = false) (hn : narrow .boolean (.int v) = .int v) (hP : va_P D classes (w x) H) (hS : va_S A s.heap H locs) (hdg : decode cc pc = .ok (.ireturn, 1)) (hq : post v x) :
    W p l e R s m args below meth c H locs cells slots (MQ below (va_Qi post (fun x' t => va_P D classes (w x') t.heap) A) args s cells slots A) (F0 m pc ls [.int v]) :=
  W.zret hx hb hr hn (fun t ht _ => ⟨⟨v, x, rfl, hq, (by rw [← ht] at hP; exact hP)⟩, hS.F ht⟩) hS.2.2 hdg hlk
theorem r_sret {v : Int32} (hx : p.tables.exec = Jvm.exec) (hb : c.code = cc) (hr : meth.sig.returnType = some .int) (hlk : meth.locks = false) (hdg : decode cc pc = .ok (.ireturn, 1)) :
    W p l e R s m args below meth c s.heap [] cells slots (MQ below (QcRead v) args s cells slots (fun _ => False)) (F0 m pc ls [.int v]) :=
  W.iret hx hb hr (fun t ht _ => ⟨rfl, ht⟩) (fun _ h => by cases h) hdg hlk
theorem r_szret {v : Int32} (hx : p.tables.exec = Jvm.exec) (hb : c.code = cc) (hr : meth.sig.returnType = some .boolean) (hlk : meth.locks = false) (hn : narrow .boolean (.int v) = .int v) (hdg : decode cc pc = .ok (.ireturn, 1)) :
    W p l e R s m args below meth c s.heap [] cells slots (MQ below (QcRead v) args s cells slots (fun _ => False)) (F0 m pc ls [.int v]) :=
  W.zret hx hb hr hn (fun t ht _ => ⟨rfl, ht⟩) (fun _ h => by cases h) hdg hlk
end RT
end
section
/-! a method's walk begins, its end taken as a hypothesis; a counter goes up -/
theorem r_metv {σ : Type} {l : Launch} {y : MethodName} {cc : ByteArray} {maxL : Nat} {rm : Room} {D : va_G} {tys : List (ClassId × FieldType)} {w : σ → va_W} {Z : State → Prop} {A : Nat → Prop} {x : σ} {av : List Value} {post : σ → Prop} (hy : plainName y.cls = true) (hlen : (lg_sl av).length ≤ maxL)
    (body : ∀ (p : Program) (e : Env) (s : State) (m : MethodId) (args : Array Value) (below : List Frame) (meth : Method) (c : Code) (Q : State → Prop) (ls : Array Slot), p.tables.exec = Jvm.exec → c.code = cc → CallFix p m c cc maxL s args TBL y.cls → va_K D classes tys s → Z s →
      (∀ (H : Heap) (locs : List Loc) (x' : σ) (pc : Nat) (ls : Array Slot), va_P D classes (w x') H → va_S A s.heap H locs → decode cc pc = .ok (.return_, 1) → post x' → W p l e rm s m args below meth c H locs 0 0 Q (F0 m pc ls [])) →
      lv_has ls maxL (lv_args 0 av) → va_P D classes (w x) s.heap → va_S A s.heap s.heap [] → W p l e rm s m args below meth c s.heap [] 0 0 Q (F0 m 0 ls [])) :
    Mv l D tys w Z A y (Cond.code y cc maxL none :: TBL) rm av x post :=
  r_met hy hlen fun p e s m below meth c ls hx hb hr hlk S hK hz hl hP hS => body p e s m _ below meth c _ ls hx hb S hK hz (fun H locs x' pc ls hP hS hd hq => r_vret hx hb hr hlk hP hS hd hq) hl hP hS
theorem r_meti {σ : Type} {l : Launch} {y : MethodName} {cc : ByteArray} {maxL : Nat} {rm : Room} {D : va_G} {tys : List (ClassId × FieldType)} {w : σ → va_W} {Z : State → Prop} {A : Nat → Prop} {x : σ} {av : List Value} {post : Int32 → σ → Prop} (hy : plainName y.cls = true) (hlen : (lg_sl av).length ≤ maxL)
    (body : ∀ (p : Program) (e : Env) (s : State) (m : MethodId) (args : Array Value) (below : List Frame) (meth : Method) (c : Code) (Q : State → Prop) (ls : Array Slot), p.tables.exec = Jvm.exec → c.code = cc → CallFix p m c cc maxL s args TBL y.cls → va_K D classes tys s → Z s →
      (∀ (H : Heap) (locs : List Loc) (x' : σ) (pc : Nat) (ls : Array Slot) (v : Int32), va_P D classes (w x') H → va_S A s.heap H locs → decode cc pc = .ok (.ireturn, 1) → post v x' → W p l e rm s m args below meth c H locs 0 0 Q (F0 m pc ls [.int v])) →
      lv_has ls maxL (lv_args 0 av) → va_P D classes (w x) s.heap → va_S A s.heap s.heap [] → W p l e rm s m args below meth c s.heap [] 0 0 Q (F0 m 0 ls [])) :
    Mi l D tys w Z A y (Cond.code y cc maxL (some .int) :: TBL) rm av x post :=
  r_met hy hlen fun p e s m below meth c ls hx hb hr hlk S hK hz hl hP hS => body p e s m _ below meth c _ ls hx hb S hK hz (fun H locs x' pc ls v hP hS hd hq => r_iret hx hb hr hlk hP hS hd hq) hl hP hS
theorem r_metz {σ : Type} {l : Launch} {y : MethodName} {cc : ByteArray} {maxL : Nat} {rm : Room} {D : va_G} {tys : List (ClassId × FieldType)} {w : σ → va_W} {Z : State → Prop} {A : Nat → Prop} {x : σ} {av : List Value} {post : Int32 → σ → Prop} (hy : plainName y.cls = true) (hlen : (lg_sl av).length ≤ maxL)
    (body : ∀ (p : Program) (e : Env) (s : State) (m : MethodId) (args : Array Value) (below : List Frame) (meth : Method) (c : Code) (Q : State → Prop) (ls : Array Slot), p.tables.exec = Jvm.exec → c.code = cc → CallFix p m c cc maxL s args TBL y.cls → va_K D classes tys s → Z s →
      (∀ (H : Heap) (locs : List Loc) (x' : σ) (pc : Nat) (ls : Array Slot) (v : Nat), v < 2 → va_P D classes (w x') H → va_S A s.heap H locs → decode cc pc = .ok (.ireturn, 1) → post (nI v) x' → W p l e rm s m args below meth c H locs 0 0 Q (F0 m pc ls [.int (nI v)])) →
      lv_has ls maxL (lv_args 0 av) → va_P D classes (w x) s.heap → va_S A s.heap s.heap [] → W p l e rm s m args below meth c s.heap [] 0 0 Q (F0 m 0 ls [])) :
    Mi l D tys w Z A y (Cond.code y cc maxL (some .boolean) :: TBL) rm av x post :=
  r_met hy hlen fun p e s m below meth c ls hx hb hr hlk S hK hz hl hP hS => body p e s m _ below meth c _ ls hx hb S hK hz (fun H locs x' pc ls v hv hP hS hd hq => r_zret hx hb hr hlk (by
    match v, hv with
    | 0, _ => rfl
    | 1, _ => rfl) hP hS hd hq) hl hP hS
section RI
variable {p : Program} {l : Launch} {e : Env} {R : Room} {s : State} {m : MethodId} {args : Array Value} {below : List Frame} {meth : Method} {c : Code} {H : Heap} {locs : List Loc} {cells slots : Nat} {Q : State → Prop}
variable {cc : ByteArray} {pc : Nat} {ls : Array Slot} {rest : List Value}
theorem r_inc (hx : p.tables.exec = Jvm.exec) (hb : c.code = cc) {i nL a : Nat} {lv lv' : List (Nat × Value)} (hdg : decode cc pc = .ok (.iinc i 1, 3)) (h : lv_has ls nL lv) (k : Nat) (hk : lv[k]? = some (i, .int (nI a))) (hn : i < nL) (hl : (i, Value.int (nI (a + 1))) :: lv.filter (fun q => !(q.1 == i) && !(q.1 + 1 == i && q.2.category == 2)) = lv')
    (kk : ∀ ls' : Array Slot, lv_has ls' nL lv' → W p l e R s m args below meth c H locs cells slots Q (F0 m (pc + 3) ls' rest)) : W p l e R s m args below meth c H locs cells slots Q (F0 m pc ls rest) :=
  lv_iinc hx hb hdg h hk (nI_1 a) hn hl kk
end RI
/-- a register's number, or none -/
theorem rg_cases (r : Int32) : (∃ j : Nat, j < 10 ∧ r = nI j) ∨ (r < 0 ∨ nI 10 ≤ r) := by
  rcases pk_ix r (n := 10) (by decide) with h | h | h
  · exact Or.inr (Or.inl h)
  · exact Or.inr (Or.inr h)
  · exact Or.inl h
end
section
theorem XS.mk_rs (rs : (Nat → Nat)) (rv : (Nat → Int32)) (dp : Nat) (col : (Nat → Nat)) (siz : (Nat → Nat)) (srt : (Nat → Nat)) (val : (Nat → Int32)) (fre : (Nat → Nat)) (gry : (Nat → Nat)) (most : Nat) (fc : Nat) (gc : Nat) (us : Nat) (ob : Nat) (wh : Nat) (ph : Nat) (sw : Nat) (md : Int32) (made : Int32) (full : Int32) : (XS.mk rs rv dp col siz srt val fre gry most fc gc us ob wh ph sw md made full).rs = rs := rfl
theorem XS.mk_rv (rs : (Nat → Nat)) (rv : (Nat → Int32)) (dp : Nat) (col : (Nat → Nat)) (siz : (Nat → Nat)) (srt : (Nat → Nat)) (val : (Nat → Int32)) (fre : (Nat → Nat)) (gry : (Nat → Nat)) (most : Nat) (fc : Nat) (gc : Nat) (us : Nat) (ob : Nat) (wh : Nat) (ph : Nat) (sw : Nat) (md : Int32) (made : Int32) (full : Int32) : (XS.mk rs rv dp col siz srt val fre gry most fc gc us ob wh ph sw md made full).rv = rv := rfl
theorem XS.mk_dp (rs : (Nat → Nat)) (rv : (Nat → Int32)) (dp : Nat) (col : (Nat → Nat)) (siz : (Nat → Nat)) (srt : (Nat → Nat)) (val : (Nat → Int32)) (fre : (Nat → Nat)) (gry : (Nat → Nat)) (most : Nat) (fc : Nat) (gc : Nat) (us : Nat) (ob : Nat) (wh : Nat) (ph : Nat) (sw : Nat) (md : Int32) (made : Int32) (full : Int32) : (XS.mk rs rv dp col siz srt val fre gry most fc gc us ob wh ph sw md made full).dp = dp := rfl
theorem XS.mk_col (rs : (Nat → Nat)) (rv : (Nat → Int32)) (dp : Nat) (col : (Nat → Nat)) (siz : (Nat → Nat)) (srt : (Nat → Nat)) (val : (Nat → Int32)) (fre : (Nat → Nat)) (gry : (Nat → Nat)) (most : Nat) (fc : Nat) (gc : Nat) (us : Nat) (ob : Nat) (wh : Nat) (ph : Nat) (sw : Nat) (md : Int32) (made : Int32) (full : Int32) : (XS.mk rs rv dp col siz srt val fre gry most fc gc us ob wh ph sw md made full).col = col := rfl
theorem XS.mk_siz (rs : (Nat → Nat)) (rv : (Nat → Int32)) (dp : Nat) (col : (Nat → Nat)) (siz : (Nat → Nat)) (srt : (Nat → Nat)) (val : (Nat → Int32)) (fre : (Nat → Nat)) (gry : (Nat → Nat)) (most : Nat) (fc : Nat) (gc : Nat) (us : Nat) (ob : Nat) (wh : Nat) (ph : Nat) (sw : Nat) (md : Int32) (made : Int32) (full : Int32) : (XS.mk rs rv dp col siz srt val fre gry most fc gc us ob wh ph sw md made full).siz = siz := rfl
theorem XS.mk_srt (rs : (Nat → Nat)) (rv : (Nat → Int32)) (dp : Nat) (col : (Nat → Nat)) (siz : (Nat → Nat)) (srt : (Nat → Nat)) (val : (Nat → Int32)) (fre : (Nat → Nat)) (gry : (Nat → Nat)) (most : Nat) (fc : Nat) (gc : Nat) (us : Nat) (ob : Nat) (wh : Nat) (ph : Nat) (sw : Nat) (md : Int32) (made : Int32) (full : Int32) : (XS.mk rs rv dp col siz srt val fre gry most fc gc us ob wh ph sw md made full).srt = srt := rfl
theorem XS.mk_val (rs : (Nat → Nat)) (rv : (Nat → Int32)) (dp : Nat) (col : (Nat → Nat)) (siz : (Nat → Nat)) (srt : (Nat → Nat)) (val : (Nat → Int32)) (fre : (Nat → Nat)) (gry : (Nat → Nat)) (most : Nat) (fc : Nat) (gc : Nat) (us : Nat) (ob : Nat) (wh : Nat) (ph : Nat) (sw : Nat) (md : Int32) (made : Int32) (full : Int32) : (XS.mk rs rv dp col siz srt val fre gry most fc gc us ob wh ph sw md made full).val = val := rfl
theorem XS.mk_fre (rs : (Nat → Nat)) (rv : (Nat → Int32)) (dp : Nat) (col : (Nat → Nat)) (siz : (Nat → Nat)) (srt : (Nat → Nat)) (val : (Nat → Int32)) (fre : (Nat → Nat)) (gry : (Nat → Nat)) (most : Nat) (fc : Nat) (gc : Nat) (us : Nat) (ob : Nat) (wh : Nat) (ph : Nat) (sw : Nat) (md : Int32) (made : Int32) (full : Int32) : (XS.mk rs rv dp col siz srt val fre gry most fc gc us ob wh ph sw md made full).fre = fre := rfl
theorem XS.mk_gry (rs : (Nat → Nat)) (rv : (Nat → Int32)) (dp : Nat) (col : (Nat → Nat)) (siz : (Nat → Nat)) (srt : (Nat → Nat)) (val : (Nat → Int32)) (fre : (Nat → Nat)) (gry : (Nat → Nat)) (most : Nat) (fc : Nat) (gc : Nat) (us : Nat) (ob : Nat) (wh : Nat) (ph : Nat) (sw : Nat) (md : Int32) (made : Int32) (full : Int32) : (XS.mk rs rv dp col siz srt val fre gry most fc gc us ob wh ph sw md made full).gry = gry := rfl
theorem XS.mk_most (rs : (Nat → Nat)) (rv : (Nat → Int32)) (dp : Nat) (col : (Nat → Nat)) (siz : (Nat → Nat)) (srt : (Nat → Nat)) (val : (Nat → Int32)) (fre : (Nat → Nat)) (gry : (Nat → Nat)) (most : Nat) (fc : Nat) (gc : Nat) (us : Nat) (ob : Nat) (wh : Nat) (ph : Nat) (sw : Nat) (md : Int32) (made : Int32) (full : Int32) : (XS.mk rs rv dp col siz srt val fre gry most fc gc us ob wh ph sw md made full).most = most := rfl
theorem XS.mk_fc (rs : (Nat → Nat)) (rv : (Nat → Int32)) (dp : Nat) (col : (Nat → Nat)) (siz : (Nat → Nat)) (srt : (Nat → Nat)) (val : (Nat → Int32)) (fre : (Nat → Nat)) (gry : (Nat → Nat)) (most : Nat) (fc : Nat) (gc : Nat) (us : Nat) (ob : Nat) (wh : Nat) (ph : Nat) (sw : Nat) (md : Int32) (made : Int32) (full : Int32) : (XS.mk rs rv dp col siz srt val fre gry most fc gc us ob wh ph sw md made full).fc = fc := rfl
theorem XS.mk_gc (rs : (Nat → Nat)) (rv : (Nat → Int32)) (dp : Nat) (col : (Nat → Nat)) (siz : (Nat → Nat)) (srt : (Nat → Nat)) (val : (Nat → Int32)) (fre : (Nat → Nat)) (gry : (Nat → Nat)) (most : Nat) (fc : Nat) (gc : Nat) (us : Nat) (ob : Nat) (wh : Nat) (ph : Nat) (sw : Nat) (md : Int32) (made : Int32) (full : Int32) : (XS.mk rs rv dp col siz srt val fre gry most fc gc us ob wh ph sw md made full).gc = gc := rfl
theorem XS.mk_us (rs : (Nat → Nat)) (rv : (Nat → Int32)) (dp : Nat) (col : (Nat → Nat)) (siz : (Nat → Nat)) (srt : (Nat → Nat)) (val : (Nat → Int32)) (fre : (Nat → Nat)) (gry : (Nat → Nat)) (most : Nat) (fc : Nat) (gc : Nat) (us : Nat) (ob : Nat) (wh : Nat) (ph : Nat) (sw : Nat) (md : Int32) (made : Int32) (full : Int32) : (XS.mk rs rv dp col siz srt val fre gry most fc gc us ob wh ph sw md made full).us = us := rfl
theorem XS.mk_ob (rs : (Nat → Nat)) (rv : (Nat → Int32)) (dp : Nat) (col : (Nat → Nat)) (siz : (Nat → Nat)) (srt : (Nat → Nat)) (val : (Nat → Int32)) (fre : (Nat → Nat)) (gry : (Nat → Nat)) (most : Nat) (fc : Nat) (gc : Nat) (us : Nat) (ob : Nat) (wh : Nat) (ph : Nat) (sw : Nat) (md : Int32) (made : Int32) (full : Int32) : (XS.mk rs rv dp col siz srt val fre gry most fc gc us ob wh ph sw md made full).ob = ob := rfl
theorem XS.mk_wh (rs : (Nat → Nat)) (rv : (Nat → Int32)) (dp : Nat) (col : (Nat → Nat)) (siz : (Nat → Nat)) (srt : (Nat → Nat)) (val : (Nat → Int32)) (fre : (Nat → Nat)) (gry : (Nat → Nat)) (most : Nat) (fc : Nat) (gc : Nat) (us : Nat) (ob : Nat) (wh : Nat) (ph : Nat) (sw : Nat) (md : Int32) (made : Int32) (full : Int32) : (XS.mk rs rv dp col siz srt val fre gry most fc gc us ob wh ph sw md made full).wh = wh := rfl
theorem XS.mk_ph (rs : (Nat → Nat)) (rv : (Nat → Int32)) (dp : Nat) (col : (Nat → Nat)) (siz : (Nat → Nat)) (srt : (Nat → Nat)) (val : (Nat → Int32)) (fre : (Nat → Nat)) (gry : (Nat → Nat)) (most : Nat) (fc : Nat) (gc : Nat) (us : Nat) (ob : Nat) (wh : Nat) (ph : Nat) (sw : Nat) (md : Int32) (made : Int32) (full : Int32) : (XS.mk rs rv dp col siz srt val fre gry most fc gc us ob wh ph sw md made full).ph = ph := rfl
theorem XS.mk_sw (rs : (Nat → Nat)) (rv : (Nat → Int32)) (dp : Nat) (col : (Nat → Nat)) (siz : (Nat → Nat)) (srt : (Nat → Nat)) (val : (Nat → Int32)) (fre : (Nat → Nat)) (gry : (Nat → Nat)) (most : Nat) (fc : Nat) (gc : Nat) (us : Nat) (ob : Nat) (wh : Nat) (ph : Nat) (sw : Nat) (md : Int32) (made : Int32) (full : Int32) : (XS.mk rs rv dp col siz srt val fre gry most fc gc us ob wh ph sw md made full).sw = sw := rfl
theorem XS.mk_md (rs : (Nat → Nat)) (rv : (Nat → Int32)) (dp : Nat) (col : (Nat → Nat)) (siz : (Nat → Nat)) (srt : (Nat → Nat)) (val : (Nat → Int32)) (fre : (Nat → Nat)) (gry : (Nat → Nat)) (most : Nat) (fc : Nat) (gc : Nat) (us : Nat) (ob : Nat) (wh : Nat) (ph : Nat) (sw : Nat) (md : Int32) (made : Int32) (full : Int32) : (XS.mk rs rv dp col siz srt val fre gry most fc gc us ob wh ph sw md made full).md = md := rfl
theorem XS.mk_made (rs : (Nat → Nat)) (rv : (Nat → Int32)) (dp : Nat) (col : (Nat → Nat)) (siz : (Nat → Nat)) (srt : (Nat → Nat)) (val : (Nat → Int32)) (fre : (Nat → Nat)) (gry : (Nat → Nat)) (most : Nat) (fc : Nat) (gc : Nat) (us : Nat) (ob : Nat) (wh : Nat) (ph : Nat) (sw : Nat) (md : Int32) (made : Int32) (full : Int32) : (XS.mk rs rv dp col siz srt val fre gry most fc gc us ob wh ph sw md made full).made = made := rfl
theorem XS.mk_full (rs : (Nat → Nat)) (rv : (Nat → Int32)) (dp : Nat) (col : (Nat → Nat)) (siz : (Nat → Nat)) (srt : (Nat → Nat)) (val : (Nat → Int32)) (fre : (Nat → Nat)) (gry : (Nat → Nat)) (most : Nat) (fc : Nat) (gc : Nat) (us : Nat) (ob : Nat) (wh : Nat) (ph : Nat) (sw : Nat) (md : Int32) (made : Int32) (full : Int32) : (XS.mk rs rv dp col siz srt val fre gry most fc gc us ob wh ph sw md made full).full = full := rfl
theorem XS.eta (x : XS) : XS.mk x.rs x.rv x.dp x.col x.siz x.srt x.val x.fre x.gry x.most x.fc x.gc x.us x.ob x.wh x.ph x.sw x.md x.made x.full = x := rfl
theorem MS.mk_cel (cel : Nat) (kin : (Nat → Nat)) (mv : (Nat → Int32)) (st : Nat) (mm : Nat) (msz : (Nat → Nat)) (rch : (Nat → Nat)) (full : Int32) : (MS.mk cel kin mv st mm msz rch full).cel = cel := rfl
theorem MS.mk_kin (cel : Nat) (kin : (Nat → Nat)) (mv : (Nat → Int32)) (st : Nat) (mm : Nat) (msz : (Nat → Nat)) (rch : (Nat → Nat)) (full : Int32) : (MS.mk cel kin mv st mm msz rch full).kin = kin := rfl
theorem MS.mk_mv (cel : Nat) (kin : (Nat → Nat)) (mv : (Nat → Int32)) (st : Nat) (mm : Nat) (msz : (Nat → Nat)) (rch : (Nat → Nat)) (full : Int32) : (MS.mk cel kin mv st mm msz rch full).mv = mv := rfl
theorem MS.mk_st (cel : Nat) (kin : (Nat → Nat)) (mv : (Nat → Int32)) (st : Nat) (mm : Nat) (msz : (Nat → Nat)) (rch : (Nat → Nat)) (full : Int32) : (MS.mk cel kin mv st mm msz rch full).st = st := rfl
theorem MS.mk_mm (cel : Nat) (kin : (Nat → Nat)) (mv : (Nat → Int32)) (st : Nat) (mm : Nat) (msz : (Nat → Nat)) (rch : (Nat → Nat)) (full : Int32) : (MS.mk cel kin mv st mm msz rch full).mm = mm := rfl
theorem MS.mk_msz (cel : Nat) (kin : (Nat → Nat)) (mv : (Nat → Int32)) (st : Nat) (mm : Nat) (msz : (Nat → Nat)) (rch : (Nat → Nat)) (full : Int32) : (MS.mk cel kin mv st mm msz rch full).msz = msz := rfl
theorem MS.mk_rch (cel : Nat) (kin : (Nat → Nat)) (mv : (Nat → Int32)) (st : Nat) (mm : Nat) (msz : (Nat → Nat)) (rch : (Nat → Nat)) (full : Int32) : (MS.mk cel kin mv st mm msz rch full).rch = rch := rfl
theorem MS.mk_full (cel : Nat) (kin : (Nat → Nat)) (mv : (Nat → Int32)) (st : Nat) (mm : Nat) (msz : (Nat → Nat)) (rch : (Nat → Nat)) (full : Int32) : (MS.mk cel kin mv st mm msz rch full).full = full := rfl
theorem MS.eta (x : MS) : MS.mk x.cel x.kin x.mv x.st x.mm x.msz x.rch x.full = x := rfl
end
section
/-! static tests of a register's number; Roots' small methods; Heap.mark -/
theorem r_metsz {l : Launch} {y : MethodName} {cc : ByteArray} {maxL : Nat} {rm : Room} {av : List Value} {r : Nat} (hr2 : r < 2) (hy : plainName y.cls = true) (hlen : (lg_sl av).length ≤ maxL)
    (body : ∀ (p : Program) (e : Env) (s : State) (m : MethodId) (args : Array Value) (below : List Frame) (meth : Method) (c : Code) (Q : State → Prop) (ls : Array Slot), p.tables.exec = Jvm.exec → c.code = cc → CallFix p m c cc maxL s args TBL y.cls → (∀ (pc : Nat) (ls : Array Slot), decode cc pc = .ok (.ireturn, 1) → W p l e rm s m args below meth c s.heap [] 0 0 Q (F0 m pc ls [.int (nI r)])) → lv_has ls maxL (lv_args 0 av) → W p l e rm s m args below meth c s.heap [] 0 0 Q (F0 m 0 ls [])) :
    Ms l y (Cond.code y cc maxL (some .boolean) :: TBL) rm av (nI r) :=
  r_mets hy hlen fun p e s m below meth c ls hx hb hr hlk S hl => body p e s m _ below meth c _ ls hx hb S (fun pc ls hd => r_szret hx hb hr hlk (by
    match r, hr2 with
    | 0, _ => rfl
    | 1, _ => rfl) hd) hl
theorem r_metsi {l : Launch} {y : MethodName} {cc : ByteArray} {maxL : Nat} {rm : Room} {av : List Value} {r : Int32} (hy : plainName y.cls = true) (hlen : (lg_sl av).length ≤ maxL)
    (body : ∀ (p : Program) (e : Env) (s : State) (m : MethodId) (args : Array Value) (below : List Frame) (meth : Method) (c : Code) (Q : State → Prop) (ls : Array Slot), p.tables.exec = Jvm.exec → c.code = cc → CallFix p m c cc maxL s args TBL y.cls → (∀ (pc : Nat) (ls : Array Slot), decode cc pc = .ok (.ireturn, 1) → W p l e rm s m args below meth c s.heap [] 0 0 Q (F0 m pc ls [.int r])) → lv_has ls maxL (lv_args 0 av) → W p l e rm s m args below meth c s.heap [] 0 0 Q (F0 m 0 ls [])) :
    Ms l y (Cond.code y cc maxL (some .int) :: TBL) rm av r :=
  r_mets hy hlen fun p e s m below meth c ls hx hb hr hlk S hl => body p e s m _ below meth c _ ls hx hb S (fun pc ls hd => r_sret hx hb hr hlk hd) hl
set_option maxHeartbeats 4000000 in
set_option maxRecDepth 100000 in
theorem c_R_is1 (l : Launch) (j : Nat) (hj : j < 10) : Ms l y_R_is w_R_is rm_R_is [.int (nI j)] (nI 1) := by
  refine r_metsz (by decide) (by decide) (Nat.le_of_ble_eq_true rfl) ?_
  intro p e s m args below meth c Q ls hx hb S hend hl
  refine lv_iload_n hx hb d_R_is_0 rfl (lv_at hl 0 rfl) ?_
  refine lv_if_lt (tgt := 14) hx hb d_R_is_1 (by decide) (fun c_1 => absurd c_1 (nI_pos (by omega))) (fun c_1 => ?_)
  refine lv_iload_n hx hb d_R_is_4 rfl (lv_at hl 0 rfl) ?_
  refine lv_bipush (v := nI 10) hx hb d_R_is_5 (by decide) ?_
  refine r_ge (tgt := 14) hx hb d_R_is_7 (by decide) (by omega) (by omega) (fun c_7 => absurd c_7 (by omega)) (fun c_7 => ?_)
  refine lv_iconst (v := nI 1) hx hb d_R_is_10 (by decide) ?_
  refine lv_goto (tgt := 15) hx hb d_R_is_11 (by decide) ?_
  exact hend _ _ d_R_is_15
set_option maxHeartbeats 4000000 in
set_option maxRecDepth 100000 in
theorem c_R_is0 (l : Launch) (r : Int32) (h : r < 0 ∨ nI 10 ≤ r) : Ms l y_R_is w_R_is rm_R_is [.int r] (nI 0) := by
  refine r_metsz (by decide) (by decide) (Nat.le_of_ble_eq_true rfl) ?_
  intro p e s m args below meth c Q ls hx hb S hend hl
  refine lv_iload_n hx hb d_R_is_0 rfl (lv_at hl 0 rfl) ?_
  refine lv_if_lt (tgt := 14) hx hb d_R_is_1 (by decide) (fun c_1 => ?_) (fun c_1 => ?_)
  · refine lv_iconst (v := nI 0) hx hb d_R_is_14 (by decide) ?_
    exact hend _ _ d_R_is_15
  · refine lv_iload_n hx hb d_R_is_4 rfl (lv_at hl 0 rfl) ?_
    refine lv_bipush (v := nI 10) hx hb d_R_is_5 (by decide) ?_
    refine lv_icmp_ge (tgt := 14) hx hb d_R_is_7 (by decide) (fun c_7 => ?_) (fun c_7 => absurd c_7 (fun q => (h.elim c_1 q)))
    refine lv_iconst (v := nI 0) hx hb d_R_is_14 (by decide) ?_
    exact hend _ _ d_R_is_15
set_option maxHeartbeats 4000000 in
set_option maxRecDepth 100000 in
theorem c_M_isRegister1 (l : Launch) (j : Nat) (hj : j < 10) : Ms l y_M_isRegister w_M_isRegister rm_M_isRegister [.int (nI j)] (nI 1) := by
  refine r_metsz (by decide) (by decide) (Nat.le_of_ble_eq_true rfl) ?_
  intro p e s m args below meth c Q ls hx hb S hend hl
  refine lv_iload_n hx hb d_M_isRegister_0 rfl (lv_at hl 0 rfl) ?_
  refine lv_if_lt (tgt := 14) hx hb d_M_isRegister_1 (by decide) (fun c_1 => absurd c_1 (nI_pos (by omega))) (fun c_1 => ?_)
  refine lv_iload_n hx hb d_M_isRegister_4 rfl (lv_at hl 0 rfl) ?_
  refine lv_bipush (v := nI 10) hx hb d_M_isRegister_5 (by decide) ?_
  refine r_ge (tgt := 14) hx hb d_M_isRegister_7 (by decide) (by omega) (by omega) (fun c_7 => absurd c_7 (by omega)) (fun c_7 => ?_)
  refine lv_iconst (v := nI 1) hx hb d_M_isRegister_10 (by decide) ?_
  refine lv_goto (tgt := 15) hx hb d_M_isRegister_11 (by decide) ?_
  exact hend _ _ d_M_isRegister_15
set_option maxHeartbeats 4000000 in
set_option maxRecDepth 100000 in
theorem c_M_isRegister0 (l : Launch) (r : Int32) (h : r < 0 ∨ nI 10 ≤ r) : Ms l y_M_isRegister w_M_isRegister rm_M_isRegister [.int r] (nI 0) := by
  refine r_metsz (by decide) (by decide) (Nat.le_of_ble_eq_true rfl) ?_
  intro p e s m args below meth c Q ls hx hb S hend hl
  refine lv_iload_n hx hb d_M_isRegister_0 rfl (lv_at hl 0 rfl) ?_
  refine lv_if_lt (tgt := 14) hx hb d_M_isRegister_1 (by decide) (fun c_1 => ?_) (fun c_1 => ?_)
  · refine lv_iconst (v := nI 0) hx hb d_M_isRegister_14 (by decide) ?_
    exact hend _ _ d_M_isRegister_15
  · refine lv_iload_n hx hb d_M_isRegister_4 rfl (lv_at hl 0 rfl) ?_
    refine lv_bipush (v := nI 10) hx hb d_M_isRegister_5 (by decide) ?_
    refine lv_icmp_ge (tgt := 14) hx hb d_M_isRegister_7 (by decide) (fun c_7 => ?_) (fun c_7 => absurd c_7 (fun q => (h.elim c_1 q)))
    refine lv_iconst (v := nI 0) hx hb d_M_isRegister_14 (by decide) ?_
    exact hend _ _ d_M_isRegister_15
set_option maxHeartbeats 4000000 in
set_option maxRecDepth 100000 in
theorem c_R_set (l : Launch) (E : KX) (x : XS) (r t : Nat) (v : Int32) (hr : r < 60) (ht : t < 128) : Xv l E y_R_set w_R_set rm_R_set [.ref (E.ad 1), .int (nI r), .int (nI t), .int v] x (fun x' => x' = XS.mk (va_up x.rs r t) (va_up x.rv r v) x.dp x.col x.siz x.srt x.val x.fre x.gry x.most x.fc x.gc x.us x.ob x.wh x.ph x.sw x.md x.made x.full) := by
  refine r_metv (by decide) (Nat.le_of_ble_eq_true rfl) ?_
  intro p e s m args below meth c Q ls hx hb S hK hz hend hl hP hS
  have hts := S.2.2.2.2
  have hown := S.2.2.2.1
  refine lv_aload_n hx hb d_R_set_0 rfl (lv_at hl 0 rfl) ?_
  refine r_get hx hb hts hown hK hP 1 rfl rfl in_R 0 (by decide) kf_R_9 rfl d_R_set_1 ?_
  refine lv_iload_n hx hb d_R_set_4 rfl (lv_at hl 1 rfl) ?_
  refine lv_iload_n hx hb d_R_set_5 rfl (lv_at hl 2 rfl) ?_
  refine r_i2b hx hb (by omega) d_R_set_6 ?_
  refine r_bast (ws' := wXe E (va_up x.rs r t) x.rv x.dp x.col x.siz x.srt x.val x.fre x.gry x.most x.fc x.gc x.us x.ob x.wh x.ph x.sw x.md x.made x.full) hx hb hK hP (wX_D hz.1) hS 2 0 rfl rfl (by decide) (by omega) (by omega) rfl d_R_set_7 (fun H locs hP hS => ?_)
  refine lv_aload_n hx hb d_R_set_8 rfl (lv_at hl 0 rfl) ?_
  refine r_get hx hb hts hown hK hP 1 rfl rfl in_R 1 (by decide) kf_R_13 rfl d_R_set_9 ?_
  refine lv_iload_n hx hb d_R_set_12 rfl (lv_at hl 1 rfl) ?_
  refine lv_iload_n hx hb d_R_set_13 rfl (lv_at hl 3 rfl) ?_
  refine r_vast (ws' := wXe E (va_up x.rs r t) (va_up x.rv r v) x.dp x.col x.siz x.srt x.val x.fre x.gry x.most x.fc x.gc x.us x.ob x.wh x.ph x.sw x.md x.made x.full) hx hb hK hP (wX_D hz.1) hS 3 1 rfl rfl (by decide) (by omega) rfl d_R_set_14 (fun H locs hP hS => ?_)
  exact hend _ _ (XS.mk (va_up x.rs r t) (va_up x.rv r v) x.dp x.col x.siz x.srt x.val x.fre x.gry x.most x.fc x.gc x.us x.ob x.wh x.ph x.sw x.md x.made x.full) _ _ hP hS d_R_set_15 rfl
set_option maxHeartbeats 4000000 in
set_option maxRecDepth 100000 in
theorem c_R_hasObject1 (l : Launch) (E : KX) (x : XS) (j : Nat) (hj : j < 10) (ht : x.rs j ≤ 2) : Xi l E y_R_hasObject w_R_hasObject rm_R_hasObject [.ref (E.ad 1), .int (nI j)] x (fun r x' => r = nI (if x.rs j = 2 then 1 else 0) ∧ x' = x) := by
  refine r_metz (by decide) (Nat.le_of_ble_eq_true rfl) ?_
  intro p e s m args below meth c Q ls hx hb S hK hz hend hl hP hS
  have hts := S.2.2.2.2
  have hown := S.2.2.2.1
  refine lv_iload_n hx hb d_R_hasObject_0 rfl (lv_at hl 1 rfl) ?_
  refine r_calls S (c_R_is1 l j hj) kc_R_is k0_R km_R_27 kt_R_is hd_R_is ⟨rfl, rfl⟩ ⟨by decide, by decide⟩ rfl hl.1 rfl (Nat.le_of_ble_eq_true rfl) ⟨Nat.zero_le _, Nat.zero_le _⟩ d_R_hasObject_1 ?_
  refine r_ifeq (tgt := 21) hx hb d_R_hasObject_4 (by decide) (by omega) (fun c_4 => absurd c_4 (by omega)) (fun c_4 => ?_)
  refine lv_aload_n hx hb d_R_hasObject_7 rfl (lv_at hl 0 rfl) ?_
  refine r_get hx hb hts hown hK hP 1 rfl rfl in_R 0 (by decide) kf_R_9 rfl d_R_hasObject_8 ?_
  refine lv_iload_n hx hb d_R_hasObject_11 rfl (lv_at hl 1 rfl) ?_
  refine r_bald hx hb hK hP 2 0 rfl rfl (by decide) (by omega) d_R_hasObject_12 ?_
  refine lv_iconst (v := nI 2) hx hb d_R_hasObject_13 (by decide) ?_
  refine r_ne (tgt := 21) hx hb d_R_hasObject_14 (by decide) (by omega) (by omega) (fun c_14 => ?_) (fun c_14 => ?_)
  · refine lv_iconst (v := nI 0) hx hb d_R_hasObject_21 (by decide) ?_
    exact hend _ _ (XS.mk x.rs x.rv x.dp x.col x.siz x.srt x.val x.fre x.gry x.most x.fc x.gc x.us x.ob x.wh x.ph x.sw x.md x.made x.full) _ _ _ (by decide) hP hS d_R_hasObject_22 ⟨by first | rw [if_pos c_14] | rw [if_neg c_14], rfl⟩
  · refine lv_iconst (v := nI 1) hx hb d_R_hasObject_17 (by decide) ?_
    refine lv_goto (tgt := 22) hx hb d_R_hasObject_18 (by decide) ?_
    exact hend _ _ (XS.mk x.rs x.rv x.dp x.col x.siz x.srt x.val x.fre x.gry x.most x.fc x.gc x.us x.ob x.wh x.ph x.sw x.md x.made x.full) _ _ _ (by decide) hP hS d_R_hasObject_22 ⟨by first | rw [if_pos c_14] | rw [if_neg c_14], rfl⟩
set_option maxHeartbeats 4000000 in
set_option maxRecDepth 100000 in
theorem c_R_hasObject0 (l : Launch) (E : KX) (x : XS) (r : Int32) (h : r < 0 ∨ nI 10 ≤ r) : Xi l E y_R_hasObject w_R_hasObject rm_R_hasObject [.ref (E.ad 1), .int r] x (fun r x' => r = nI 0 ∧ x' = x) := by
  refine r_metz (by decide) (Nat.le_of_ble_eq_true rfl) ?_
  intro p e s m args below meth c Q ls hx hb S hK hz hend hl hP hS
  have hts := S.2.2.2.2
  have hown := S.2.2.2.1
  refine lv_iload_n hx hb d_R_hasObject_0 rfl (lv_at hl 1 rfl) ?_
  refine r_calls S (c_R_is0 l r h) kc_R_is k0_R km_R_27 kt_R_is hd_R_is ⟨rfl, rfl⟩ ⟨by decide, by decide⟩ rfl hl.1 rfl (Nat.le_of_ble_eq_true rfl) ⟨Nat.zero_le _, Nat.zero_le _⟩ d_R_hasObject_1 ?_
  refine r_ifeq (tgt := 21) hx hb d_R_hasObject_4 (by decide) (by omega) (fun c_4 => ?_) (fun c_4 => absurd c_4 (by omega))
  refine lv_iconst (v := nI 0) hx hb d_R_hasObject_21 (by decide) ?_
  exact hend _ _ (XS.mk x.rs x.rv x.dp x.col x.siz x.srt x.val x.fre x.gry x.most x.fc x.gc x.us x.ob x.wh x.ph x.sw x.md x.made x.full) _ _ _ (by decide) hP hS d_R_hasObject_22 ⟨rfl, rfl⟩
/-- the marking state: colours, the grey stack, its height -/
abbrev GT : Type := (Nat → Nat) × (Nat → Nat) × Nat
def mk1 (g : GT) (t v : Nat) : GT := if t = 2 ∧ (g.1 v = 1 ∨ g.1 v = 2) then (va_up g.1 v 3, va_up g.2.1 g.2.2 v, g.2.2 + 1) else g
def XS.G (x : XS) : GT := (x.col, x.gry, x.gc)
def XS.sG (x : XS) (g : GT) : XS := XS.mk x.rs x.rv x.dp g.1 x.siz x.srt x.val x.fre g.2.1 x.most x.fc g.2.2 x.us x.ob x.wh x.ph x.sw x.md x.made x.full
theorem XS.sG_G (x : XS) : x.sG x.G = x := rfl
set_option maxHeartbeats 4000000 in
set_option maxRecDepth 100000 in
theorem c_H_mark (l : Launch) (E : KX) (x : XS) (t : Nat) (u : Int32) (ht : t ≤ 2) (hv : t = 2 → ∃ v, v < 1600 ∧ u = nI v) (hc : ∀ i, x.col i ≤ 4) (hg : ∀ v, v < 1600 → (x.col v = 1 ∨ x.col v = 2) → x.gc < 1600) : Xv l E y_H_mark w_H_mark rm_H_mark [.ref (E.ad 4), .int (nI t), .int u] x (fun x' => x' = x.sG (mk1 x.G t u.toNatClampNeg)) := by
  refine r_metv (by decide) (Nat.le_of_ble_eq_true rfl) ?_
  intro p e s m args below meth c Q ls hx hb S hK hz hend hl hP hS
  have hts := S.2.2.2.2
  have hown := S.2.2.2.1
  refine lv_iload_n hx hb d_H_mark_0 rfl (lv_at hl 1 rfl) ?_
  refine lv_iconst (v := nI 2) hx hb d_H_mark_1 (by decide) ?_
  refine r_ne (tgt := 25) hx hb d_H_mark_2 (by decide) (by omega) (by omega) (fun c_2 => ?_) (fun c_2 => ?_)
  · exact hend _ _ (XS.mk x.rs x.rv x.dp x.col x.siz x.srt x.val x.fre x.gry x.most x.fc x.gc x.us x.ob x.wh x.ph x.sw x.md x.made x.full) _ _ hP hS d_H_mark_25 (by rw [mk1, if_neg (fun q => by first | exact absurd q.1 c_2 | (have q2 := q.2; rw [nI_clamp (by omega)] at q2; rcases q2 with q2 | q2; exact absurd q2 c_12; exact absurd q2 c_22))]; rfl)
  · obtain ⟨v, hv1, rfl⟩ := hv c_2
    have h4 := hc v
    refine lv_aload_n hx hb d_H_mark_5 rfl (lv_at hl 0 rfl) ?_
    refine r_get hx hb hts hown hK hP 4 rfl rfl in_H 0 (by decide) kf_H_9 rfl d_H_mark_6 ?_
    refine lv_iload_n hx hb d_H_mark_9 rfl (lv_at hl 2 rfl) ?_
    refine r_bald hx hb hK hP 5 0 rfl rfl (by decide) (by omega) d_H_mark_10 ?_
    refine lv_iconst (v := nI 1) hx hb d_H_mark_11 (by decide) ?_
    refine r_eq (tgt := 26) hx hb d_H_mark_12 (by decide) (by omega) (by omega) (fun c_12 => ?_) (fun c_12 => ?_)
    · have hgc := hg v hv1 (by omega)
      refine lv_aload_n hx hb d_H_mark_26 rfl (lv_at hl 0 rfl) ?_
      refine r_get hx hb hts hown hK hP 4 rfl rfl in_H 0 (by decide) kf_H_9 rfl d_H_mark_27 ?_
      refine lv_iload_n hx hb d_H_mark_30 rfl (lv_at hl 2 rfl) ?_
      refine lv_iconst (v := nI 3) hx hb d_H_mark_31 (by decide) ?_
      refine r_bast (ws' := wXe E x.rs x.rv x.dp (va_up x.col v 3) x.siz x.srt x.val x.fre x.gry x.most x.fc x.gc x.us x.ob x.wh x.ph x.sw x.md x.made x.full) hx hb hK hP (wX_D hz.1) hS 5 0 rfl rfl (by decide) (by omega) (by omega) rfl d_H_mark_32 (fun H locs hP hS => ?_)
      refine lv_aload_n hx hb d_H_mark_33 rfl (lv_at hl 0 rfl) ?_
      refine r_get hx hb hts hown hK hP 4 rfl rfl in_H 5 (by decide) kf_H_26 rfl d_H_mark_34 ?_
      refine lv_aload_n hx hb d_H_mark_37 rfl (lv_at hl 0 rfl) ?_
      refine r_get hx hb hts hown hK hP 4 rfl rfl in_H 9 (by decide) kf_H_55 rfl d_H_mark_38 ?_
      refine lv_iload_n hx hb d_H_mark_41 rfl (lv_at hl 2 rfl) ?_
      refine r_iast (ws' := wXe E x.rs x.rv x.dp (va_up x.col v 3) x.siz x.srt x.val x.fre (va_up x.gry x.gc v) x.most x.fc x.gc x.us x.ob x.wh x.ph x.sw x.md x.made x.full) hx hb hK hP (wX_D hz.1) hS 10 1 rfl rfl (by decide) (by omega) rfl d_H_mark_42 (fun H locs hP hS => ?_)
      refine lv_aload_n hx hb d_H_mark_43 rfl (lv_at hl 0 rfl) ?_
      refine lv_dup hx hb d_H_mark_44 rfl ?_
      refine r_get hx hb hts hown hK hP 4 rfl rfl in_H 9 (by decide) kf_H_55 rfl d_H_mark_45 ?_
      refine lv_iconst (v := nI 1) hx hb d_H_mark_48 (by decide) ?_
      refine r_add hx hb d_H_mark_49 ?_
      refine r_put (ws' := wXe E x.rs x.rv x.dp (va_up x.col v 3) x.siz x.srt x.val x.fre (va_up x.gry x.gc v) x.most x.fc (x.gc + 1) x.us x.ob x.wh x.ph x.sw x.md x.made x.full) hx hb hts hown hK hP (wX_D hz.1) hS 4 rfl rfl in_H t_H t_H_ok n_H 9 (by decide) kf_H_55 rfl rfl (Nat.le_of_ble_eq_true rfl) rfl d_H_mark_50 (fun H locs hP hS => ?_)
      exact hend _ _ (XS.mk x.rs x.rv x.dp (va_up x.col v 3) x.siz x.srt x.val x.fre (va_up x.gry x.gc v) x.most x.fc (x.gc + 1) x.us x.ob x.wh x.ph x.sw x.md x.made x.full) _ _ hP hS d_H_mark_53 (by rw [nI_clamp (by omega), mk1, if_pos ⟨c_2, by show x.col v = 1 ∨ x.col v = 2; omega⟩]; rfl)
    · refine lv_aload_n hx hb d_H_mark_15 rfl (lv_at hl 0 rfl) ?_
      refine r_get hx hb hts hown hK hP 4 rfl rfl in_H 0 (by decide) kf_H_9 rfl d_H_mark_16 ?_
      refine lv_iload_n hx hb d_H_mark_19 rfl (lv_at hl 2 rfl) ?_
      refine r_bald hx hb hK hP 5 0 rfl rfl (by decide) (by omega) d_H_mark_20 ?_
      refine lv_iconst (v := nI 2) hx hb d_H_mark_21 (by decide) ?_
      refine r_eq (tgt := 26) hx hb d_H_mark_22 (by decide) (by omega) (by omega) (fun c_22 => ?_) (fun c_22 => ?_)
      · have hgc := hg v hv1 (by omega)
        refine lv_aload_n hx hb d_H_mark_26 rfl (lv_at hl 0 rfl) ?_
        refine r_get hx hb hts hown hK hP 4 rfl rfl in_H 0 (by decide) kf_H_9 rfl d_H_mark_27 ?_
        refine lv_iload_n hx hb d_H_mark_30 rfl (lv_at hl 2 rfl) ?_
        refine lv_iconst (v := nI 3) hx hb d_H_mark_31 (by decide) ?_
        refine r_bast (ws' := wXe E x.rs x.rv x.dp (va_up x.col v 3) x.siz x.srt x.val x.fre x.gry x.most x.fc x.gc x.us x.ob x.wh x.ph x.sw x.md x.made x.full) hx hb hK hP (wX_D hz.1) hS 5 0 rfl rfl (by decide) (by omega) (by omega) rfl d_H_mark_32 (fun H locs hP hS => ?_)
        refine lv_aload_n hx hb d_H_mark_33 rfl (lv_at hl 0 rfl) ?_
        refine r_get hx hb hts hown hK hP 4 rfl rfl in_H 5 (by decide) kf_H_26 rfl d_H_mark_34 ?_
        refine lv_aload_n hx hb d_H_mark_37 rfl (lv_at hl 0 rfl) ?_
        refine r_get hx hb hts hown hK hP 4 rfl rfl in_H 9 (by decide) kf_H_55 rfl d_H_mark_38 ?_
        refine lv_iload_n hx hb d_H_mark_41 rfl (lv_at hl 2 rfl) ?_
        refine r_iast (ws' := wXe E x.rs x.rv x.dp (va_up x.col v 3) x.siz x.srt x.val x.fre (va_up x.gry x.gc v) x.most x.fc x.gc x.us x.ob x.wh x.ph x.sw x.md x.made x.full) hx hb hK hP (wX_D hz.1) hS 10 1 rfl rfl (by decide) (by omega) rfl d_H_mark_42 (fun H locs hP hS => ?_)
        refine lv_aload_n hx hb d_H_mark_43 rfl (lv_at hl 0 rfl) ?_
        refine lv_dup hx hb d_H_mark_44 rfl ?_
        refine r_get hx hb hts hown hK hP 4 rfl rfl in_H 9 (by decide) kf_H_55 rfl d_H_mark_45 ?_
        refine lv_iconst (v := nI 1) hx hb d_H_mark_48 (by decide) ?_
        refine r_add hx hb d_H_mark_49 ?_
        refine r_put (ws' := wXe E x.rs x.rv x.dp (va_up x.col v 3) x.siz x.srt x.val x.fre (va_up x.gry x.gc v) x.most x.fc (x.gc + 1) x.us x.ob x.wh x.ph x.sw x.md x.made x.full) hx hb hts hown hK hP (wX_D hz.1) hS 4 rfl rfl in_H t_H t_H_ok n_H 9 (by decide) kf_H_55 rfl rfl (Nat.le_of_ble_eq_true rfl) rfl d_H_mark_50 (fun H locs hP hS => ?_)
        exact hend _ _ (XS.mk x.rs x.rv x.dp (va_up x.col v 3) x.siz x.srt x.val x.fre (va_up x.gry x.gc v) x.most x.fc (x.gc + 1) x.us x.ob x.wh x.ph x.sw x.md x.made x.full) _ _ hP hS d_H_mark_53 (by rw [nI_clamp (by omega), mk1, if_pos ⟨c_2, by show x.col v = 1 ∨ x.col v = 2; omega⟩]; rfl)
      · exact hend _ _ (XS.mk x.rs x.rv x.dp x.col x.siz x.srt x.val x.fre x.gry x.most x.fc x.gc x.us x.ob x.wh x.ph x.sw x.md x.made x.full) _ _ hP hS d_H_mark_25 (by rw [mk1, if_neg (fun q => by first | exact absurd q.1 c_2 | (have q2 := q.2; rw [nI_clamp (by omega)] at q2; rcases q2 with q2 | q2; exact absurd q2 c_12; exact absurd q2 c_22))]; rfl)
end
section
/-! the pure law of marking: grey stack, weights, one mark, many marks, one blackening -/
theorem pigeon : ∀ (N n : Nat) (f : Nat → Nat), (∀ i, i < n → f i < N) → (∀ i j, i < n → j < n → f i = f j → i = j) → n ≤ N := by
  intro N
  induction N with
  | zero =>
    intro n f h _
    rcases Nat.eq_zero_or_pos n with h0 | h0
    · omega
    · exact absurd (h 0 h0) (by omega)
  | succ N ih =>
    intro n f h hi
    rcases Nat.eq_zero_or_pos n with h0 | h0
    · omega
    · obtain ⟨k, rfl⟩ : ∃ k, n = k + 1 := ⟨n - 1, by omega⟩
      by_cases hx : ∃ i, i < k + 1 ∧ f i = N
      · obtain ⟨i0, hi0, he⟩ := hx
        have hlt : ∀ j, j < k + 1 → j ≠ i0 → f j < N := by
          intro j hj hne
          have h1 := h j hj
          have h2 : f j ≠ N := fun q => hne (hi j i0 hj hi0 (by omega))
          omega
        have := ih k (fun j => if j = i0 then f k else f j) (by
          intro j hj
          try dsimp only
          by_cases hji : j = i0
          · rw [if_pos hji]; exact hlt k (by omega) (by omega)
          · rw [if_neg hji]; exact hlt j (by omega) hji) (by
          intro a b ha hb hab
          try dsimp only at hab
          by_cases h1 : a = i0
          · by_cases h2 : b = i0
            · omega
            · rw [if_pos h1, if_neg h2] at hab
              have := hi k b (by omega) (by omega) hab
              omega
          · by_cases h2 : b = i0
            · rw [if_neg h1, if_pos h2] at hab
              have := hi a k (by omega) (by omega) hab
              omega
            · rw [if_neg h1, if_neg h2] at hab
              exact hi a b (by omega) (by omega) hab)
        omega
      · have := ih (k + 1) f (fun i hi2 => by
          have h1 := h i hi2
          have h2 : f i ≠ N := fun q => hx ⟨i, hi2, q⟩
          omega) hi
        omega
def sumTo (f : Nat → Nat) : Nat → Nat
  | 0 => 0
  | n + 1 => sumTo f n + f n
theorem sumTo_le {f g : Nat → Nat} : ∀ {n : Nat}, (∀ i, i < n → f i ≤ g i) → sumTo f n ≤ sumTo g n := by
  intro n
  induction n with
  | zero => intro _; exact Nat.le_refl _
  | succ n ih =>
    intro h
    have h1 := ih (fun i hi => h i (by omega))
    have h2 := h n (by omega)
    simp only [sumTo]
    omega
theorem sumTo_congr {f g : Nat → Nat} : ∀ {n : Nat}, (∀ i, i < n → f i = g i) → sumTo f n = sumTo g n := by
  intro n
  induction n with
  | zero => intro _; rfl
  | succ n ih =>
    intro h
    simp only [sumTo]
    rw [ih (fun i hi => h i (by omega)), h n (by omega)]
/-- one place changes -/
theorem sumTo_at {f g : Nat → Nat} {s : Nat} : ∀ {n : Nat}, s < n → (∀ i, i < n → i ≠ s → f i = g i) → sumTo f n + g s = sumTo g n + f s := by
  intro n
  induction n with
  | zero => intro h; omega
  | succ n ih =>
    intro hs h
    simp only [sumTo]
    by_cases hn : s = n
    · subst hn
      have := sumTo_congr (n := s) (f := f) (g := g) (fun i hi => h i (by omega) (by omega))
      omega
    · have := ih (by omega) (fun i hi hne => h i (by omega) hne)
      have := h n (by omega) (fun q => hn q.symm)
      omega
theorem sumTo_lt {f g : Nat → Nat} {s n : Nat} (hs : s < n) (h : ∀ i, i < n → f i ≤ g i) (hlt : f s < g s) : sumTo f n < sumTo g n := by
  have h1 := sumTo_at (f := f) (g := fun i => if i = s then g s else f i) (s := s) (n := n) hs (fun i _ hne => by (try dsimp only); rw [if_neg hne])
  have h2 : sumTo (fun i => if i = s then g s else f i) n ≤ sumTo g n := sumTo_le (fun i hi => by
    try dsimp only
    split
    · rename_i q; rw [q]; exact Nat.le_refl _
    · exact h i hi)
  try dsimp only at h1
  rw [if_pos rfl] at h1
  omega
theorem sumTo_ge {f : Nat → Nat} {c : Nat} : ∀ {n : Nat}, (∀ i, i < n → c ≤ f i) → c * n ≤ sumTo f n := by
  intro n
  induction n with
  | zero => intro _; exact Nat.le_refl _
  | succ n ih =>
    intro h
    have h1 := ih (fun i hi => h i (by omega))
    have h2 := h n (by omega)
    simp only [sumTo, Nat.mul_succ]
    omega
theorem sumTo_le_mul {f : Nat → Nat} {c : Nat} : ∀ {n : Nat}, (∀ i, i < n → f i ≤ c) → sumTo f n ≤ c * n := by
  intro n
  induction n with
  | zero => intro _; exact Nat.le_refl _
  | succ n ih =>
    intro h
    have h1 := ih (fun i hi => h i (by omega))
    have h2 := h n (by omega)
    simp only [sumTo, Nat.mul_succ]
    omega
theorem sumTo_mem {f : Nat → Nat} {s : Nat} : ∀ {n : Nat}, s < n → f s ≤ sumTo f n := by
  intro n
  induction n with
  | zero => intro h; omega
  | succ n ih =>
    intro hs
    simp only [sumTo]
    by_cases hn : s = n
    · subst hn; omega
    · have := ih (by omega); omega
/-- the grey stack holds each grey slot once, and no other -/
def GS (g : GT) : Prop := (∀ i, i < g.2.2 → g.2.1 i < 1600 ∧ g.1 (g.2.1 i) = 3) ∧ (∀ i j, i < g.2.2 → j < g.2.2 → g.2.1 i = g.2.1 j → i = j) ∧ (∀ s, s < 1600 → g.1 s = 3 → ∃ i, i < g.2.2 ∧ g.2.1 i = s)
theorem GS.le {g : GT} (h : GS g) : g.2.2 ≤ 1600 := pigeon 1600 g.2.2 g.2.1 (fun i hi => (h.1 i hi).1) h.2.1
theorem GS.lt {g : GT} (h : GS g) {v : Nat} (hv : v < 1600) (hc : g.1 v ≠ 3) : g.2.2 < 1600 := by
  have := pigeon 1600 (g.2.2 + 1) (fun i => if i < g.2.2 then g.2.1 i else v) (fun i hi => by
    try dsimp only
    split
    · rename_i q; exact (h.1 i q).1
    · exact hv) (fun i j hi hj e => by
    try dsimp only at e
    by_cases h1 : i < g.2.2
    · by_cases h2 : j < g.2.2
      · rw [if_pos h1, if_pos h2] at e; exact h.2.1 i j h1 h2 e
      · rw [if_pos h1, if_neg h2] at e
        exact absurd (by rw [← e]; exact (h.1 i h1).2) hc
    · by_cases h2 : j < g.2.2
      · rw [if_neg h1, if_pos h2] at e
        exact absurd (by rw [e]; exact (h.1 j h2).2) hc
      · omega)
  omega
theorem GS.zero {g : GT} (h : GS g) (h0 : ∀ s, s < 1600 → g.1 s ≠ 3) : g.2.2 = 0 := by
  rcases Nat.eq_zero_or_pos g.2.2 with q | q
  · exact q
  · exact absurd (h.1 0 q).2 (h0 _ (h.1 0 q).1)
theorem GS.none {g : GT} (h : GS g) (h0 : g.2.2 = 0) {s : Nat} (hs : s < 1600) : g.1 s ≠ 3 := fun q => by
  obtain ⟨i, hi, -⟩ := h.2.2 s hs q
  omega
/-- a slot that isn't grey goes grey and onto the stack -/
theorem GS.push {g : GT} (h : GS g) {v : Nat} (hv : v < 1600) (hc : g.1 v ≠ 3) : GS (va_up g.1 v 3, va_up g.2.1 g.2.2 v, g.2.2 + 1) := by
  refine ⟨fun i hi => ?_, fun i j hi hj e => ?_, fun s hs e => ?_⟩
  · dsimp only at hi ⊢
    by_cases q : i = g.2.2
    · rw [q, va_up_self]; exact ⟨hv, va_up_self _ _ _⟩
    · rw [va_up_ne _ _ q]
      have h1 := h.1 i (by omega)
      refine ⟨h1.1, ?_⟩
      rw [va_up_ne _ _ (fun e => hc (by rw [← e]; exact h1.2))]
      exact h1.2
  · dsimp only at hi hj e
    by_cases q : i = g.2.2
    · by_cases q2 : j = g.2.2
      · omega
      · rw [q, va_up_self, va_up_ne _ _ q2] at e
        exact absurd (by rw [e]; exact (h.1 j (by omega)).2) hc
    · by_cases q2 : j = g.2.2
      · rw [q2, va_up_self, va_up_ne _ _ q] at e
        exact absurd (by rw [← e]; exact (h.1 i (by omega)).2) hc
      · rw [va_up_ne _ _ q, va_up_ne _ _ q2] at e
        exact h.2.1 i j (by omega) (by omega) e
  · dsimp only at e ⊢
    by_cases q : s = v
    · exact ⟨g.2.2, by omega, by rw [va_up_self, q]⟩
    · rw [va_up_ne _ _ q] at e
      obtain ⟨i, hi, he⟩ := h.2.2 s hs e
      exact ⟨i, by omega, by rw [va_up_ne _ _ (by omega)]; exact he⟩
/-- the last one of the stack goes black -/
theorem GS.pop {g : GT} (h : GS g) (h0 : 0 < g.2.2) : GS (va_up g.1 (g.2.1 (g.2.2 - 1)) 4, g.2.1, g.2.2 - 1) := by
  refine ⟨fun i hi => ?_, fun i j hi hj e => h.2.1 i j (by (try dsimp only at hi); omega) (by (try dsimp only at hj); omega) e, fun s hs e => ?_⟩
  · dsimp only at hi ⊢
    have h1 := h.1 i (by omega)
    refine ⟨h1.1, ?_⟩
    rw [va_up_ne _ _ (fun e => by have := h.2.1 i (g.2.2 - 1) (by omega) (by omega) e; omega)]
    exact h1.2
  · dsimp only at e ⊢
    by_cases q : s = g.2.1 (g.2.2 - 1)
    · rw [q, va_up_self] at e; exact absurd e (by decide)
    · rw [va_up_ne _ _ q] at e
      obtain ⟨i, hi, he⟩ := h.2.2 s hs e
      exact ⟨i, by
        have : i ≠ g.2.2 - 1 := fun z => q (by rw [← z]; exact he.symm)
        omega, he⟩
def mkN (g : GT) (t : Nat → Nat) (w : Nat → Int32) (o : Nat) : Nat → GT
  | 0 => g
  | n + 1 => mk1 (mkN g t w o n) (t (o + n)) (w (o + n)).toNatClampNeg
/-- colours go to grey or black only, and only for slots of P -/
def Gr (P : Nat → Prop) (g g' : GT) : Prop := ∀ s, g'.1 s = g.1 s ∨ (s < 1600 ∧ P s ∧ g.1 s ≠ 0 ∧ (g'.1 s = 3 ∨ g'.1 s = 4))
theorem Gr.rfl' {P : Nat → Prop} {g : GT} : Gr P g g := fun _ => Or.inl rfl
theorem Gr.trans {P : Nat → Prop} {a b c : GT} (h1 : Gr P a b) (h2 : Gr P b c) : Gr P a c := by
  intro s
  rcases h1 s with e1 | ⟨q1, q2, q3, q4⟩
  · rcases h2 s with e2 | ⟨r1, r2, r3, r4⟩
    · exact Or.inl (e2.trans e1)
    · exact Or.inr ⟨r1, r2, by rw [← e1]; exact r3, r4⟩
  · rcases h2 s with e2 | ⟨r1, r2, r3, r4⟩
    · exact Or.inr ⟨q1, q2, q3, by rw [e2]; exact q4⟩
    · exact Or.inr ⟨q1, q2, q3, r4⟩
theorem Gr.keep {P : Nat → Prop} {a b : GT} (h : Gr P a b) {s : Nat} (hs : a.1 s = 3 ∨ a.1 s = 4) : b.1 s = 3 ∨ b.1 s = 4 := by
  rcases h s with e | ⟨-, -, -, q⟩
  · rw [e]; exact hs
  · exact q
theorem Gr.zero {P : Nat → Prop} {a b : GT} (h : Gr P a b) {s : Nat} : b.1 s = 0 ↔ a.1 s = 0 := by
  rcases h s with e | ⟨-, -, q1, q2⟩
  · rw [e]
  · constructor
    · intro e; omega
    · intro e; exact absurd e q1
def wt (c : Nat) : Nat := if c = 1 ∨ c = 2 then 2 else if c = 3 then 1 else 0
theorem mk1_no {g : GT} {t v : Nat} (h : ¬ (t = 2 ∧ (g.1 v = 1 ∨ g.1 v = 2))) : mk1 g t v = g := if_neg h
theorem mk1_yes {g : GT} {t v : Nat} (h : t = 2 ∧ (g.1 v = 1 ∨ g.1 v = 2)) : mk1 g t v = (va_up g.1 v 3, va_up g.2.1 g.2.2 v, g.2.2 + 1) := if_pos h
theorem mk1_all {P : Nat → Prop} {g : GT} {t v : Nat} (hg : GS g) (hv : t = 2 → v < 1600 ∧ P v) : GS (mk1 g t v) ∧ Gr P g (mk1 g t v) ∧ (∀ s, wt ((mk1 g t v).1 s) ≤ wt (g.1 s)) ∧ (∀ s, (mk1 g t v).1 s = 4 ↔ g.1 s = 4) := by
  by_cases h : t = 2 ∧ (g.1 v = 1 ∨ g.1 v = 2)
  · rw [mk1_yes h]
    obtain ⟨h1, h2⟩ := hv h.1
    refine ⟨hg.push h1 (by omega), fun s => ?_, fun s => ?_, fun s => ?_⟩
    · by_cases q : s = v
      · refine Or.inr ⟨by omega, by rw [q]; exact h2, by rw [q]; omega, Or.inl ?_⟩
        show va_up g.1 v 3 s = 3
        rw [q, va_up_self]
      · exact Or.inl (va_up_ne _ _ q)
    · by_cases q : s = v
      · show wt (va_up g.1 v 3 s) ≤ _
        rw [q, va_up_self]
        have : wt (g.1 v) = 2 := if_pos h.2
        rw [this]
        decide
      · show wt (va_up g.1 v 3 s) ≤ _
        rw [va_up_ne _ _ q]
        exact Nat.le_refl _
    · show va_up g.1 v 3 s = 4 ↔ _
      by_cases q : s = v
      · rw [q, va_up_self]; omega
      · rw [va_up_ne _ _ q]
  · rw [mk1_no h]
    exact ⟨hg, Gr.rfl', fun s => Nat.le_refl _, fun s => Iff.rfl⟩
theorem mk1_hit {g : GT} {t v : Nat} (ht : t = 2) (h0 : g.1 v ≠ 0) (h4 : g.1 v ≤ 4) : (mk1 g t v).1 v = 3 ∨ (mk1 g t v).1 v = 4 := by
  by_cases h : t = 2 ∧ (g.1 v = 1 ∨ g.1 v = 2)
  · rw [mk1_yes h]
    exact Or.inl (va_up_self _ _ _)
  · rw [mk1_no h]
    have : ¬ (g.1 v = 1 ∨ g.1 v = 2) := fun q => h ⟨ht, q⟩
    omega
theorem mkN_all {P : Nat → Prop} {g : GT} {t : Nat → Nat} {w : Nat → Int32} {o : Nat} (hg : GS g) (h4 : ∀ i, g.1 i ≤ 4) (hP0 : ∀ s, P s → g.1 s ≠ 0) : ∀ (n : Nat), (∀ k, k < n → t (o + k) = 2 → ∃ v, v < 1600 ∧ w (o + k) = nI v ∧ P v) →
    GS (mkN g t w o n) ∧ Gr P g (mkN g t w o n) ∧ (∀ s, wt ((mkN g t w o n).1 s) ≤ wt (g.1 s)) ∧ (∀ s, (mkN g t w o n).1 s = 4 ↔ g.1 s = 4) ∧ (∀ i, (mkN g t w o n).1 i ≤ 4) ∧ (∀ k, k < n → t (o + k) = 2 → ∀ v, v < 1600 → w (o + k) = nI v → (mkN g t w o n).1 v = 3 ∨ (mkN g t w o n).1 v = 4) := by
  intro n
  induction n with
  | zero => intro _; exact ⟨hg, Gr.rfl', fun _ => Nat.le_refl _, fun _ => Iff.rfl, h4, fun k hk => absurd hk (by omega)⟩
  | succ n ih =>
    intro hv
    obtain ⟨a1, a2, a3, a4, a5, a6⟩ := ih (fun k hk => hv k (by omega))
    have hn : t (o + n) = 2 → (w (o + n)).toNatClampNeg < 1600 ∧ P (w (o + n)).toNatClampNeg := fun ht => by
      obtain ⟨v, h1, h2, h3⟩ := hv n (by omega) ht
      rw [h2, nI_clamp (by omega)]
      exact ⟨h1, h3⟩
    obtain ⟨b1, b2, b3, b4⟩ := mk1_all (P := P) a1 hn
    have b2' := a2.trans b2
    refine ⟨b1, b2', fun s => Nat.le_trans (b3 s) (a3 s), fun s => (b4 s).trans (a4 s), fun i => ?_, fun k hk ht v hv1 hv2 => ?_⟩
    · show (mk1 _ _ _).1 i ≤ 4
      rcases b2 i with e | ⟨-, -, -, q⟩
      · rw [e]; exact a5 i
      · omega
    · by_cases hkn : k = n
      · subst hkn
        obtain ⟨v', h1, h2, h3⟩ := hv k (by omega) ht
        have e : v' = v := (nI_eq (by omega) (by omega)).mp (h2.symm.trans hv2)
        subst e
        show (mk1 _ _ _).1 v' = 3 ∨ (mk1 _ _ _).1 v' = 4
        rw [hv2, nI_clamp (by omega)]
        exact mk1_hit ht (fun q => hP0 v' h3 ((a2.zero).mp q)) (a5 v')
      · exact b2.keep (a6 k (by omega) ht v hv1 hv2)
/-- what marking keeps: P holds all that is grey or black, is closed, and is in use; black things have no white children -/
def CP (siz srt : Nat → Nat) (val : Nat → Int32) (P : Nat → Prop) : Prop := ∀ s, P s → siz s ≤ 20 ∧ ∀ k, k < siz s → srt (20 * s + k) = 2 → ∃ v, v < 1600 ∧ val (20 * s + k) = nI v ∧ P v
def BK (siz srt : Nat → Nat) (val : Nat → Int32) (col : Nat → Nat) : Prop := ∀ s, s < 1600 → col s = 4 → ∀ k, k < siz s → srt (20 * s + k) = 2 → ∀ v, v < 1600 → val (20 * s + k) = nI v → col v = 3 ∨ col v = 4
def JP (siz srt : Nat → Nat) (val : Nat → Int32) (P : Nat → Prop) (g : GT) : Prop := GS g ∧ (∀ s, s < 1600 → g.1 s = 3 ∨ g.1 s = 4 → P s) ∧ (∀ i, g.1 i ≤ 4) ∧ (∀ s, P s → s < 1600 ∧ g.1 s ≠ 0) ∧ CP siz srt val P ∧ BK siz srt val g.1
/-- places that hold objects of P are marked: all of it stays -/
theorem JP.marks {siz srt : Nat → Nat} {val : Nat → Int32} {P : Nat → Prop} {g : GT} {t : Nat → Nat} {w : Nat → Int32} {o n : Nat} (h : JP siz srt val P g) (hv : ∀ k, k < n → t (o + k) = 2 → ∃ v, v < 1600 ∧ w (o + k) = nI v ∧ P v) : JP siz srt val P (mkN g t w o n) := by
  obtain ⟨h1, h2, h3, h4, h5, h6⟩ := h
  obtain ⟨a1, a2, a3, a4, a5, a6⟩ := mkN_all (P := P) (t := t) (w := w) (o := o) h1 h3 (fun s hs => (h4 s hs).2) n hv
  refine ⟨a1, fun s hs hc => ?_, a5, fun s hs => ⟨(h4 s hs).1, fun q => (h4 s hs).2 (a2.zero.mp q)⟩, h5, fun s hs hc k hk ht v hv1 hv2 => ?_⟩
  · rcases a2 s with e | ⟨-, q, -, -⟩
    · exact h2 s hs (by rw [e] at hc; exact hc)
    · exact q
  · exact a2.keep (h6 s hs ((a4 s).mp hc) k hk ht v hv1 hv2)
def mu (g : GT) : Nat := sumTo (fun s => wt (g.1 s)) 1600
def blk (siz srt : Nat → Nat) (val : Nat → Int32) (g : GT) : GT := mkN (va_up g.1 (g.2.1 (g.2.2 - 1)) 4, g.2.1, g.2.2 - 1) srt val (20 * g.2.1 (g.2.2 - 1)) (siz (g.2.1 (g.2.2 - 1)))
theorem JP.black {siz srt : Nat → Nat} {val : Nat → Int32} {P : Nat → Prop} {g : GT} (h : JP siz srt val P g) (h0 : 0 < g.2.2) : JP siz srt val P (blk siz srt val g) ∧ Gr P g (blk siz srt val g) ∧ mu (blk siz srt val g) < mu g := by
  obtain ⟨h1, h2, h3, h4, h5, h6⟩ := h
  obtain ⟨hs, hc⟩ := h1.1 (g.2.2 - 1) (by omega)
  have hp := h1.pop h0
  unfold blk
  generalize g.2.1 (g.2.2 - 1) = s at hs hc hp ⊢
  have hPs := h2 s hs (Or.inl hc)
  have g1 : Gr P g (va_up g.1 s 4, g.2.1, g.2.2 - 1) := fun z => by
    by_cases q : z = s
    · refine Or.inr ⟨by omega, by rw [q]; exact hPs, by rw [q]; omega, Or.inr ?_⟩
      show va_up g.1 s 4 z = 4
      rw [q, va_up_self]
    · exact Or.inl (va_up_ne _ _ q)
  obtain ⟨a1, a2, a3, a4, a5, a6⟩ := mkN_all (P := P) (t := srt) (w := val) (o := 20 * s) (g := (va_up g.1 s 4, g.2.1, g.2.2 - 1)) hp (fun i => by
    show va_up g.1 s 4 i ≤ 4
    by_cases q : i = s
    · rw [q, va_up_self]; exact Nat.le_refl _
    · rw [va_up_ne _ _ q]; exact h3 i) (fun z hz q => (h4 z hz).2 (g1.zero.mp q)) (siz s) (fun k hk ht => (h5 s hPs).2 k hk ht)
  have g2 := g1.trans a2
  refine ⟨⟨a1, fun z hz hc => ?_, a5, fun z hz => ⟨(h4 z hz).1, fun q => (h4 z hz).2 (g2.zero.mp q)⟩, h5, fun z hz hc k hk ht v hv1 hv2 => ?_⟩, g2, ?_⟩
  · rcases g2 z with e | ⟨-, q, -, -⟩
    · exact h2 z hz (by rw [e] at hc; exact hc)
    · exact q
  · by_cases q : z = s
    · subst q
      exact a6 k hk ht v hv1 hv2
    · have := (a4 z).mp hc
      rw [show (va_up g.1 s 4, g.2.1, g.2.2 - 1).1 z = g.1 z from va_up_ne _ _ q] at this
      exact g2.keep (h6 z hz this k hk ht v hv1 hv2)
  · refine sumTo_lt hs (fun i hi => ?_) ?_
    · refine Nat.le_trans (a3 i) ?_
      show wt (va_up g.1 s 4 i) ≤ _
      by_cases q : i = s
      · rw [q, va_up_self]; exact Nat.zero_le _
      · rw [va_up_ne _ _ q]; exact Nat.le_refl _
    · have h := a3 s
      rw [show (va_up g.1 s 4, g.2.1, g.2.2 - 1).1 s = 4 from va_up_self _ _ _] at h
      have e : wt (g.1 s) = 1 := by rw [hc]; rfl
      have e4 : wt 4 = 0 := rfl
      omega
end
section
/-! Heap's marking methods, making and dropping -/
theorem JP.black0 {siz srt : Nat → Nat} {val : Nat → Int32} {P : Nat → Prop} {g : GT} (h : JP siz srt val P g) (h0 : 0 < g.2.2) : g.2.1 (g.2.2 - 1) < 1600 ∧ P (g.2.1 (g.2.2 - 1)) ∧ GS (va_up g.1 (g.2.1 (g.2.2 - 1)) 4, g.2.1, g.2.2 - 1) ∧ (∀ i, va_up g.1 (g.2.1 (g.2.2 - 1)) 4 i ≤ 4) ∧ ∀ z, P z → va_up g.1 (g.2.1 (g.2.2 - 1)) 4 z ≠ 0 := by
  obtain ⟨h1, h2, h3, h4, h5, h6⟩ := h
  obtain ⟨hs, hc⟩ := h1.1 (g.2.2 - 1) (by omega)
  refine ⟨hs, h2 _ hs (Or.inl hc), h1.pop h0, fun i => ?_, fun z hz => ?_⟩
  · by_cases q : i = g.2.1 (g.2.2 - 1)
    · rw [q, va_up_self]; exact Nat.le_refl _
    · rw [va_up_ne _ _ q]; exact h3 i
  · by_cases q : z = g.2.1 (g.2.2 - 1)
    · rw [q, va_up_self]; decide
    · rw [va_up_ne _ _ q]; exact (h4 z hz).2
def tch (ph : Nat) (g : GT) (s : Nat) : GT := if ph = 1 ∧ g.1 s = 4 then (va_up g.1 s 3, va_up g.2.1 g.2.2 s, g.2.2 + 1) else g
set_option maxHeartbeats 4000000 in
set_option maxRecDepth 100000 in
theorem c_R_mark (l : Launch) (E : KX) (x : XS) (P : Nat → Prop) (hJ : JP x.siz x.srt x.val P x.G) (hrs : ∀ i, x.rs i ≤ 2) (hdp : x.dp ≤ 50) (hR : ∀ k, k < 10 + x.dp → x.rs k = 2 → ∃ v, v < 1600 ∧ x.rv k = nI v ∧ P v) : Xv l E y_R_mark w_R_mark rm_R_mark [.ref (E.ad 1), .ref (E.ad 4)] x (fun x' => x' = x.sG (mkN x.G x.rs x.rv 0 (10 + x.dp))) := by
  refine r_metv (by decide) (Nat.le_of_ble_eq_true rfl) ?_
  intro p e s m args below meth c Q ls hx hb S hK hz hend hl hP hS
  have hts := S.2.2.2.2
  have hown := S.2.2.2.1
  have loop : ∀ (n k : Nat), n + k = 10 + x.dp → ∀ (g : GT), g = mkN x.G x.rs x.rv 0 k → ∀ (H : Heap) (locs : List Loc) (ls : Array Slot), va_P E.D classes (wXe E x.rs x.rv x.dp g.1 x.siz x.srt x.val x.fre g.2.1 x.most x.fc g.2.2 x.us x.ob x.wh x.ph x.sw x.md x.made x.full) H → va_S (AX E) s.heap H locs → lv_has ls 3 [(0, .ref (E.ad 1)), (1, .ref (E.ad 4)), (2, .int (nI k))] → W p l e rm_R_mark s m args below meth c H locs 0 0 Q (F0 m 2 ls []) := by
    intro n
    induction n with
    | zero =>
      intro k hk g hg H locs ls hP hS hl
      refine lv_iload_n hx hb d_R_mark_2 rfl (lv_at hl 2 rfl) ?_
      refine lv_bipush (v := nI 10) hx hb d_R_mark_3 (by decide) ?_
      refine lv_aload_n hx hb d_R_mark_5 rfl (lv_at hl 0 rfl) ?_
      refine r_get hx hb hts hown hK hP 1 rfl rfl in_R 2 (by decide) kf_R_17 rfl d_R_mark_6 ?_
      refine r_add hx hb d_R_mark_9 ?_
      refine r_ge (tgt := 35) hx hb d_R_mark_10 (by decide) (by omega) (by omega) (fun c_10 => ?_) (fun c_10 => absurd c_10 (by omega))
      exact hend _ _ (XS.mk x.rs x.rv x.dp g.1 x.siz x.srt x.val x.fre g.2.1 x.most x.fc g.2.2 x.us x.ob x.wh x.ph x.sw x.md x.made x.full) _ _ hP hS d_R_mark_35 (by rw [hg, show k = 10 + x.dp by omega]; rfl)
    | succ n ih =>
      intro k hk g hg H locs ls hP hS hl
      obtain ⟨a1, a2, a3, a4, a5, a6⟩ := mkN_all (P := P) (t := x.rs) (w := x.rv) (o := 0) hJ.1 hJ.2.2.1 (fun s hs => (hJ.2.2.2.1 s hs).2) k (fun j hj ht => hR (0 + j) (by omega) ht)
      rw [← hg] at a1 a2 a3 a4 a5 a6
      have hk2 := hrs k
      refine lv_iload_n hx hb d_R_mark_2 rfl (lv_at hl 2 rfl) ?_
      refine lv_bipush (v := nI 10) hx hb d_R_mark_3 (by decide) ?_
      refine lv_aload_n hx hb d_R_mark_5 rfl (lv_at hl 0 rfl) ?_
      refine r_get hx hb hts hown hK hP 1 rfl rfl in_R 2 (by decide) kf_R_17 rfl d_R_mark_6 ?_
      refine r_add hx hb d_R_mark_9 ?_
      refine r_ge (tgt := 35) hx hb d_R_mark_10 (by decide) (by omega) (by omega) (fun c_10 => absurd c_10 (by omega)) (fun c_10 => ?_)
      refine lv_aload_n hx hb d_R_mark_13 rfl (lv_at hl 1 rfl) ?_
      refine lv_aload_n hx hb d_R_mark_14 rfl (lv_at hl 0 rfl) ?_
      refine r_get hx hb hts hown hK hP 1 rfl rfl in_R 0 (by decide) kf_R_9 rfl d_R_mark_15 ?_
      refine lv_iload_n hx hb d_R_mark_18 rfl (lv_at hl 2 rfl) ?_
      refine r_bald hx hb hK hP 2 0 rfl rfl (by decide) (by omega) d_R_mark_19 ?_
      refine lv_aload_n hx hb d_R_mark_20 rfl (lv_at hl 0 rfl) ?_
      refine r_get hx hb hts hown hK hP 1 rfl rfl in_R 1 (by decide) kf_R_13 rfl d_R_mark_21 ?_
      refine lv_iload_n hx hb d_R_mark_24 rfl (lv_at hl 2 rfl) ?_
      refine r_iald hx hb hK hP 3 1 rfl rfl (by decide) (by omega) d_R_mark_25 ?_
      refine r_callv S (c_H_mark l E (XS.mk x.rs x.rv x.dp g.1 x.siz x.srt x.val x.fre g.2.1 x.most x.fc g.2.2 x.us x.ob x.wh x.ph x.sw x.md x.made x.full) (x.rs k) (x.rv k) hk2 (fun h => by obtain ⟨v, h1, h2, -⟩ := hR k (by omega) h; exact ⟨v, h1, h2⟩) a5 (fun v hv hc => a1.lt hv (by have hc : g.1 v = 1 ∨ g.1 v = 2 := hc; omega))) kc_H_mark k0_H km_R_21 ki_H_mark ks_H_mark hd_H_mark ⟨rfl, rfl⟩ ⟨by decide, by decide⟩ (zX_ok E) hz hK hP hS (fun _ h => h) 4 rfl rfl rfl hl.1 rfl (Nat.le_of_ble_eq_true rfl) ⟨Nat.zero_le _, Nat.zero_le _⟩ d_R_mark_26 (fun x1 H locs hw hP _ _ hS => ?_)
      subst hw
      refine r_inc hx hb d_R_mark_29 hl 2 rfl (by decide) rfl (fun ls hl => ?_)
      refine lv_goto (tgt := 2) hx hb d_R_mark_32 (by decide) ?_
      exact ih (k + 1) (by omega) (mk1 g (x.rs k) (x.rv k).toNatClampNeg) (by rw [hg]; simp only [mkN, Nat.zero_add]) _ _ _ hP hS (lv_sub hl [1, 2, 0] rfl)
  refine lv_iconst (v := nI 0) hx hb d_R_mark_0 (by decide) ?_
  refine lv_istore_n hx hb d_R_mark_1 rfl hl (by decide) rfl (fun ls hl => ?_)
  exact loop (10 + x.dp) 0 (by omega) x.G rfl _ _ _ hP hS (lv_sub hl [1, 2, 0] rfl)
end
section
set_option maxHeartbeats 4000000 in
set_option maxRecDepth 100000 in
theorem c_H_blacken (l : Launch) (E : KX) (x : XS) (P : Nat → Prop) (hJ : JP x.siz x.srt x.val P x.G) (hsr : ∀ i, x.srt i ≤ 2) (h0 : 0 < x.gc) : Xv l E y_H_blacken w_H_blacken rm_H_blacken [.ref (E.ad 4)] x (fun x' => x' = x.sG (blk x.siz x.srt x.val x.G)) := by
  refine r_metv (by decide) (Nat.le_of_ble_eq_true rfl) ?_
  intro p e s m args below meth c Q ls hx hb S hK hz hend hl hP hS
  have hts := S.2.2.2.2
  have hown := S.2.2.2.1
  have hle : x.gc ≤ 1600 := hJ.1.le
  obtain ⟨b1, b2, b3, b4, b5⟩ := hJ.black0 h0
  have b6 := (hJ.2.2.2.2.1 _ b2)
  obtain ⟨sv, hsv⟩ : ∃ z, z = x.gry (x.gc - 1) := ⟨_, rfl⟩
  rw [show x.G.2.1 (x.G.2.2 - 1) = sv from hsv.symm] at b1 b2 b3 b4 b5 b6
  have b3 : GS (va_up x.col sv 4, x.gry, x.gc - 1) := b3
  have b4 : ∀ i, va_up x.col sv 4 i ≤ 4 := b4
  have hsz := b6.1
  have loop : ∀ (n k : Nat), n + k = x.siz sv → ∀ (g : GT), g = mkN (va_up x.col sv 4, x.gry, x.gc - 1) x.srt x.val (20 * sv) k → ∀ (H : Heap) (locs : List Loc) (ls : Array Slot), va_P E.D classes (wXe E x.rs x.rv x.dp g.1 x.siz x.srt x.val x.fre g.2.1 x.most x.fc g.2.2 x.us x.ob x.wh x.ph x.sw x.md x.made x.full) H → va_S (AX E) s.heap H locs → lv_has ls 3 [(0, .ref (E.ad 4)), (1, .int (nI sv)), (2, .int (nI k))] → W p l e rm_H_blacken s m args below meth c H locs 0 0 Q (F0 m 29 ls []) := by
    intro n
    induction n with
    | zero =>
      intro k hk g hg H locs ls hP hS hl
      refine lv_iload_n hx hb d_H_blacken_29 rfl (lv_at hl 2 rfl) ?_
      refine lv_aload_n hx hb d_H_blacken_30 rfl (lv_at hl 0 rfl) ?_
      refine r_get hx hb hts hown hK hP 4 rfl rfl in_H 1 (by decide) kf_H_13 rfl d_H_blacken_31 ?_
      refine lv_iload_n hx hb d_H_blacken_34 rfl (lv_at hl 1 rfl) ?_
      refine r_bald hx hb hK hP 6 0 rfl rfl (by decide) (by omega) d_H_blacken_35 ?_
      refine r_ge (tgt := 71) hx hb d_H_blacken_36 (by decide) (by omega) (by omega) (fun c_36 => ?_) (fun c_36 => absurd c_36 (by omega))
      exact hend _ _ (XS.mk x.rs x.rv x.dp g.1 x.siz x.srt x.val x.fre g.2.1 x.most x.fc g.2.2 x.us x.ob x.wh x.ph x.sw x.md x.made x.full) _ _ hP hS d_H_blacken_71 (by rw [hg, show k = x.siz sv by omega, hsv]; rfl)
    | succ n ih =>
      intro k hk g hg H locs ls hP hS hl
      obtain ⟨a1, a2, a3, a4, a5, a6⟩ := mkN_all (P := P) (t := x.srt) (w := x.val) (o := 20 * sv) b3 b4 b5 k (fun j hj ht => b6.2 j (by omega) ht)
      rw [← hg] at a1 a2 a3 a4 a5 a6
      have hk2 := hsr (20 * sv + k)
      refine lv_iload_n hx hb d_H_blacken_29 rfl (lv_at hl 2 rfl) ?_
      refine lv_aload_n hx hb d_H_blacken_30 rfl (lv_at hl 0 rfl) ?_
      refine r_get hx hb hts hown hK hP 4 rfl rfl in_H 1 (by decide) kf_H_13 rfl d_H_blacken_31 ?_
      refine lv_iload_n hx hb d_H_blacken_34 rfl (lv_at hl 1 rfl) ?_
      refine r_bald hx hb hK hP 6 0 rfl rfl (by decide) (by omega) d_H_blacken_35 ?_
      refine r_ge (tgt := 71) hx hb d_H_blacken_36 (by decide) (by omega) (by omega) (fun c_36 => absurd c_36 (by omega)) (fun c_36 => ?_)
      refine lv_aload_n hx hb d_H_blacken_39 rfl (lv_at hl 0 rfl) ?_
      refine lv_aload_n hx hb d_H_blacken_40 rfl (lv_at hl 0 rfl) ?_
      refine r_get hx hb hts hown hK hP 4 rfl rfl in_H 2 (by decide) kf_H_16 rfl d_H_blacken_41 ?_
      refine lv_bipush (v := nI 20) hx hb d_H_blacken_44 (by decide) ?_
      refine lv_iload_n hx hb d_H_blacken_46 rfl (lv_at hl 1 rfl) ?_
      refine r_mul hx hb d_H_blacken_47 ?_
      refine lv_iload_n hx hb d_H_blacken_48 rfl (lv_at hl 2 rfl) ?_
      refine r_add hx hb d_H_blacken_49 ?_
      refine r_bald hx hb hK hP 7 0 rfl rfl (by decide) (by omega) d_H_blacken_50 ?_
      refine lv_aload_n hx hb d_H_blacken_51 rfl (lv_at hl 0 rfl) ?_
      refine r_get hx hb hts hown hK hP 4 rfl rfl in_H 3 (by decide) kf_H_19 rfl d_H_blacken_52 ?_
      refine lv_bipush (v := nI 20) hx hb d_H_blacken_55 (by decide) ?_
      refine lv_iload_n hx hb d_H_blacken_57 rfl (lv_at hl 1 rfl) ?_
      refine r_mul hx hb d_H_blacken_58 ?_
      refine lv_iload_n hx hb d_H_blacken_59 rfl (lv_at hl 2 rfl) ?_
      refine r_add hx hb d_H_blacken_60 ?_
      refine r_iald hx hb hK hP 8 1 rfl rfl (by decide) (by omega) d_H_blacken_61 ?_
      refine r_callv S (c_H_mark l E (XS.mk x.rs x.rv x.dp g.1 x.siz x.srt x.val x.fre g.2.1 x.most x.fc g.2.2 x.us x.ob x.wh x.ph x.sw x.md x.made x.full) (x.srt (20 * sv + k)) (x.val (20 * sv + k)) hk2 (fun h => by obtain ⟨v, h1, h2, -⟩ := b6.2 k (by omega) h; exact ⟨v, h1, h2⟩) a5 (fun v hv hc => a1.lt hv (by have hc : g.1 v = 1 ∨ g.1 v = 2 := hc; omega))) kc_H_mark k0_H km_H_58 ki_H_mark ks_H_mark hd_H_mark ⟨rfl, rfl⟩ ⟨by decide, by decide⟩ (zX_ok E) hz hK hP hS (fun _ h => h) 4 rfl rfl rfl hl.1 rfl (Nat.le_of_ble_eq_true rfl) ⟨Nat.zero_le _, Nat.zero_le _⟩ d_H_blacken_62 (fun x1 H locs hw hP _ _ hS => ?_)
      subst hw
      refine r_inc hx hb d_H_blacken_65 hl 2 rfl (by decide) rfl (fun ls hl => ?_)
      refine lv_goto (tgt := 29) hx hb d_H_blacken_68 (by decide) ?_
      exact ih (k + 1) (by omega) (mk1 g (x.srt (20 * sv + k)) (x.val (20 * sv + k)).toNatClampNeg) (by rw [hg]; rfl) _ _ _ hP hS (lv_sub hl [1, 2, 0] rfl)
  refine lv_aload_n hx hb d_H_blacken_0 rfl (lv_at hl 0 rfl) ?_
  refine lv_dup hx hb d_H_blacken_1 rfl ?_
  refine r_get hx hb hts hown hK hP 4 rfl rfl in_H 9 (by decide) kf_H_55 rfl d_H_blacken_2 ?_
  refine lv_iconst (v := nI 1) hx hb d_H_blacken_5 (by decide) ?_
  refine r_sub hx hb (by omega) d_H_blacken_6 ?_
  refine r_put (ws' := wXe E x.rs x.rv x.dp x.col x.siz x.srt x.val x.fre x.gry x.most x.fc (x.gc - 1) x.us x.ob x.wh x.ph x.sw x.md x.made x.full) hx hb hts hown hK hP (wX_D hz.1) hS 4 rfl rfl in_H t_H t_H_ok n_H 9 (by decide) kf_H_55 rfl rfl (Nat.le_of_ble_eq_true rfl) rfl d_H_blacken_7 (fun H locs hP hS => ?_)
  refine lv_aload_n hx hb d_H_blacken_10 rfl (lv_at hl 0 rfl) ?_
  refine r_get hx hb hts hown hK hP 4 rfl rfl in_H 5 (by decide) kf_H_26 rfl d_H_blacken_11 ?_
  refine lv_aload_n hx hb d_H_blacken_14 rfl (lv_at hl 0 rfl) ?_
  refine r_get hx hb hts hown hK hP 4 rfl rfl in_H 9 (by decide) kf_H_55 rfl d_H_blacken_15 ?_
  refine r_iald hx hb hK hP 10 1 rfl rfl (by decide) (by omega) d_H_blacken_18 ?_
  refine r_top (show nI (x.gry (x.gc - 1)) = nI sv by rw [hsv]) ?_
  refine lv_istore_n hx hb d_H_blacken_19 rfl hl (by decide) rfl (fun ls hl => ?_)
  refine lv_aload_n hx hb d_H_blacken_20 rfl (lv_at hl 1 rfl) ?_
  refine r_get hx hb hts hown hK hP 4 rfl rfl in_H 0 (by decide) kf_H_9 rfl d_H_blacken_21 ?_
  refine lv_iload_n hx hb d_H_blacken_24 rfl (lv_at hl 0 rfl) ?_
  refine lv_iconst (v := nI 4) hx hb d_H_blacken_25 (by decide) ?_
  refine r_bast (ws' := wXe E x.rs x.rv x.dp (va_up x.col sv 4) x.siz x.srt x.val x.fre x.gry x.most x.fc (x.gc - 1) x.us x.ob x.wh x.ph x.sw x.md x.made x.full) hx hb hK hP (wX_D hz.1) hS 5 0 rfl rfl (by decide) (by omega) (by omega) rfl d_H_blacken_26 (fun H locs hP hS => ?_)
  refine lv_iconst (v := nI 0) hx hb d_H_blacken_27 (by decide) ?_
  refine lv_istore_n hx hb d_H_blacken_28 rfl hl (by decide) rfl (fun ls hl => ?_)
  exact loop (x.siz sv) 0 (by omega) (va_up x.col sv 4, x.gry, x.gc - 1) rfl _ _ _ hP hS (lv_sub hl [2, 1, 0] rfl)
end
section
set_option maxHeartbeats 4000000 in
set_option maxRecDepth 100000 in
theorem c_H_touched (l : Launch) (E : KX) (x : XS) (sv : Nat) (hs : sv < 1600) (hg : GS x.G) (hc : ∀ i, x.col i ≤ 4) (hph : x.ph ≤ 2) : Xv l E y_H_touched w_H_touched rm_H_touched [.ref (E.ad 4), .int (nI sv)] x (fun x' => x' = x.sG (tch x.ph x.G sv)) := by
  refine r_metv (by decide) (Nat.le_of_ble_eq_true rfl) ?_
  intro p e s m args below meth c Q ls hx hb S hK hz hend hl hP hS
  have hts := S.2.2.2.2
  have hown := S.2.2.2.1
  have h4 := hc sv
  refine lv_aload_n hx hb d_H_touched_0 rfl (lv_at hl 0 rfl) ?_
  refine r_get hx hb hts hown hK hP 4 rfl rfl in_H 13 (by decide) kf_H_49 rfl d_H_touched_1 ?_
  refine lv_iconst (v := nI 1) hx hb d_H_touched_4 (by decide) ?_
  refine r_ne (tgt := 18) hx hb d_H_touched_5 (by decide) (by omega) (by omega) (fun c_5 => ?_) (fun c_5 => ?_)
  · exact hend _ _ (XS.mk x.rs x.rv x.dp x.col x.siz x.srt x.val x.fre x.gry x.most x.fc x.gc x.us x.ob x.wh x.ph x.sw x.md x.made x.full) _ _ hP hS d_H_touched_18 (by rw [tch, if_neg (fun q => by first | exact absurd q.1 c_5 | exact absurd q.2 c_15)]; rfl)
  · refine lv_aload_n hx hb d_H_touched_8 rfl (lv_at hl 0 rfl) ?_
    refine r_get hx hb hts hown hK hP 4 rfl rfl in_H 0 (by decide) kf_H_9 rfl d_H_touched_9 ?_
    refine lv_iload_n hx hb d_H_touched_12 rfl (lv_at hl 1 rfl) ?_
    refine r_bald hx hb hK hP 5 0 rfl rfl (by decide) (by omega) d_H_touched_13 ?_
    refine lv_iconst (v := nI 4) hx hb d_H_touched_14 (by decide) ?_
    refine r_eq (tgt := 19) hx hb d_H_touched_15 (by decide) (by omega) (by omega) (fun c_15 => ?_) (fun c_15 => ?_)
    · have hgc : x.gc < 1600 := hg.lt hs (show x.col sv ≠ 3 by omega)
      refine lv_aload_n hx hb d_H_touched_19 rfl (lv_at hl 0 rfl) ?_
      refine r_get hx hb hts hown hK hP 4 rfl rfl in_H 0 (by decide) kf_H_9 rfl d_H_touched_20 ?_
      refine lv_iload_n hx hb d_H_touched_23 rfl (lv_at hl 1 rfl) ?_
      refine lv_iconst (v := nI 3) hx hb d_H_touched_24 (by decide) ?_
      refine r_bast (ws' := wXe E x.rs x.rv x.dp (va_up x.col sv 3) x.siz x.srt x.val x.fre x.gry x.most x.fc x.gc x.us x.ob x.wh x.ph x.sw x.md x.made x.full) hx hb hK hP (wX_D hz.1) hS 5 0 rfl rfl (by decide) (by omega) (by omega) rfl d_H_touched_25 (fun H locs hP hS => ?_)
      refine lv_aload_n hx hb d_H_touched_26 rfl (lv_at hl 0 rfl) ?_
      refine r_get hx hb hts hown hK hP 4 rfl rfl in_H 5 (by decide) kf_H_26 rfl d_H_touched_27 ?_
      refine lv_aload_n hx hb d_H_touched_30 rfl (lv_at hl 0 rfl) ?_
      refine r_get hx hb hts hown hK hP 4 rfl rfl in_H 9 (by decide) kf_H_55 rfl d_H_touched_31 ?_
      refine lv_iload_n hx hb d_H_touched_34 rfl (lv_at hl 1 rfl) ?_
      refine r_iast (ws' := wXe E x.rs x.rv x.dp (va_up x.col sv 3) x.siz x.srt x.val x.fre (va_up x.gry x.gc sv) x.most x.fc x.gc x.us x.ob x.wh x.ph x.sw x.md x.made x.full) hx hb hK hP (wX_D hz.1) hS 10 1 rfl rfl (by decide) (by omega) rfl d_H_touched_35 (fun H locs hP hS => ?_)
      refine lv_aload_n hx hb d_H_touched_36 rfl (lv_at hl 0 rfl) ?_
      refine lv_dup hx hb d_H_touched_37 rfl ?_
      refine r_get hx hb hts hown hK hP 4 rfl rfl in_H 9 (by decide) kf_H_55 rfl d_H_touched_38 ?_
      refine lv_iconst (v := nI 1) hx hb d_H_touched_41 (by decide) ?_
      refine r_add hx hb d_H_touched_42 ?_
      refine r_put (ws' := wXe E x.rs x.rv x.dp (va_up x.col sv 3) x.siz x.srt x.val x.fre (va_up x.gry x.gc sv) x.most x.fc (x.gc + 1) x.us x.ob x.wh x.ph x.sw x.md x.made x.full) hx hb hts hown hK hP (wX_D hz.1) hS 4 rfl rfl in_H t_H t_H_ok n_H 9 (by decide) kf_H_55 rfl rfl (Nat.le_of_ble_eq_true rfl) rfl d_H_touched_43 (fun H locs hP hS => ?_)
      exact hend _ _ (XS.mk x.rs x.rv x.dp (va_up x.col sv 3) x.siz x.srt x.val x.fre (va_up x.gry x.gc sv) x.most x.fc (x.gc + 1) x.us x.ob x.wh x.ph x.sw x.md x.made x.full) _ _ hP hS d_H_touched_46 (by rw [tch, if_pos ⟨c_5, c_15⟩]; rfl)
    · exact hend _ _ (XS.mk x.rs x.rv x.dp x.col x.siz x.srt x.val x.fre x.gry x.most x.fc x.gc x.us x.ob x.wh x.ph x.sw x.md x.made x.full) _ _ hP hS d_H_touched_18 (by rw [tch, if_neg (fun q => by first | exact absurd q.1 c_5 | exact absurd q.2 c_15)]; rfl)
end
section
set_option maxHeartbeats 4000000 in
set_option maxRecDepth 100000 in
theorem c_H_drop (l : Launch) (E : KX) (x : XS) (sv : Nat) (hs : sv < 1600) (hfc : x.fc < 1600) (hus : 2 + x.siz sv ≤ x.us) (hob : 1 ≤ x.ob) : Xv l E y_H_drop w_H_drop rm_H_drop [.ref (E.ad 4), .int (nI sv)] x (fun x' => x' = XS.mk x.rs x.rv x.dp (va_up x.col sv 0) x.siz x.srt x.val (va_up x.fre x.fc sv) x.gry x.most (x.fc + 1) x.gc (x.us - (2 + x.siz sv)) (x.ob - 1) x.wh x.ph x.sw x.md x.made x.full) := by
  refine r_metv (by decide) (Nat.le_of_ble_eq_true rfl) ?_
  intro p e s m args below meth c Q ls hx hb S hK hz hend hl hP hS
  have hts := S.2.2.2.2
  have hown := S.2.2.2.1
  refine lv_aload_n hx hb d_H_drop_0 rfl (lv_at hl 0 rfl) ?_
  refine r_get hx hb hts hown hK hP 4 rfl rfl in_H 0 (by decide) kf_H_9 rfl d_H_drop_1 ?_
  refine lv_iload_n hx hb d_H_drop_4 rfl (lv_at hl 1 rfl) ?_
  refine lv_iconst (v := nI 0) hx hb d_H_drop_5 (by decide) ?_
  refine r_bast (ws' := wXe E x.rs x.rv x.dp (va_up x.col sv 0) x.siz x.srt x.val x.fre x.gry x.most x.fc x.gc x.us x.ob x.wh x.ph x.sw x.md x.made x.full) hx hb hK hP (wX_D hz.1) hS 5 0 rfl rfl (by decide) (by omega) (by omega) rfl d_H_drop_6 (fun H locs hP hS => ?_)
  refine lv_aload_n hx hb d_H_drop_7 rfl (lv_at hl 0 rfl) ?_
  refine lv_dup hx hb d_H_drop_8 rfl ?_
  refine r_get hx hb hts hown hK hP 4 rfl rfl in_H 10 (by decide) kf_H_43 rfl d_H_drop_9 ?_
  refine lv_iconst (v := nI 2) hx hb d_H_drop_12 (by decide) ?_
  refine lv_aload_n hx hb d_H_drop_13 rfl (lv_at hl 0 rfl) ?_
  refine r_get hx hb hts hown hK hP 4 rfl rfl in_H 1 (by decide) kf_H_13 rfl d_H_drop_14 ?_
  refine lv_iload_n hx hb d_H_drop_17 rfl (lv_at hl 1 rfl) ?_
  refine r_bald hx hb hK hP 6 0 rfl rfl (by decide) (by omega) d_H_drop_18 ?_
  refine r_add hx hb d_H_drop_19 ?_
  refine r_sub hx hb (by omega) d_H_drop_20 ?_
  refine r_put (ws' := wXe E x.rs x.rv x.dp (va_up x.col sv 0) x.siz x.srt x.val x.fre x.gry x.most x.fc x.gc (x.us - (2 + x.siz sv)) x.ob x.wh x.ph x.sw x.md x.made x.full) hx hb hts hown hK hP (wX_D hz.1) hS 4 rfl rfl in_H t_H t_H_ok n_H 10 (by decide) kf_H_43 rfl rfl (Nat.le_of_ble_eq_true rfl) rfl d_H_drop_21 (fun H locs hP hS => ?_)
  refine lv_aload_n hx hb d_H_drop_24 rfl (lv_at hl 0 rfl) ?_
  refine lv_dup hx hb d_H_drop_25 rfl ?_
  refine r_get hx hb hts hown hK hP 4 rfl rfl in_H 11 (by decide) kf_H_52 rfl d_H_drop_26 ?_
  refine lv_iconst (v := nI 1) hx hb d_H_drop_29 (by decide) ?_
  refine r_sub hx hb (by omega) d_H_drop_30 ?_
  refine r_put (ws' := wXe E x.rs x.rv x.dp (va_up x.col sv 0) x.siz x.srt x.val x.fre x.gry x.most x.fc x.gc (x.us - (2 + x.siz sv)) (x.ob - 1) x.wh x.ph x.sw x.md x.made x.full) hx hb hts hown hK hP (wX_D hz.1) hS 4 rfl rfl in_H t_H t_H_ok n_H 11 (by decide) kf_H_52 rfl rfl (Nat.le_of_ble_eq_true rfl) rfl d_H_drop_31 (fun H locs hP hS => ?_)
  refine lv_aload_n hx hb d_H_drop_34 rfl (lv_at hl 0 rfl) ?_
  refine r_get hx hb hts hown hK hP 4 rfl rfl in_H 4 (by decide) kf_H_23 rfl d_H_drop_35 ?_
  refine lv_aload_n hx hb d_H_drop_38 rfl (lv_at hl 0 rfl) ?_
  refine r_get hx hb hts hown hK hP 4 rfl rfl in_H 8 (by decide) kf_H_40 rfl d_H_drop_39 ?_
  refine lv_iload_n hx hb d_H_drop_42 rfl (lv_at hl 1 rfl) ?_
  refine r_iast (ws' := wXe E x.rs x.rv x.dp (va_up x.col sv 0) x.siz x.srt x.val (va_up x.fre x.fc sv) x.gry x.most x.fc x.gc (x.us - (2 + x.siz sv)) (x.ob - 1) x.wh x.ph x.sw x.md x.made x.full) hx hb hK hP (wX_D hz.1) hS 9 1 rfl rfl (by decide) (by omega) rfl d_H_drop_43 (fun H locs hP hS => ?_)
  refine lv_aload_n hx hb d_H_drop_44 rfl (lv_at hl 0 rfl) ?_
  refine lv_dup hx hb d_H_drop_45 rfl ?_
  refine r_get hx hb hts hown hK hP 4 rfl rfl in_H 8 (by decide) kf_H_40 rfl d_H_drop_46 ?_
  refine lv_iconst (v := nI 1) hx hb d_H_drop_49 (by decide) ?_
  refine r_add hx hb d_H_drop_50 ?_
  refine r_put (ws' := wXe E x.rs x.rv x.dp (va_up x.col sv 0) x.siz x.srt x.val (va_up x.fre x.fc sv) x.gry x.most (x.fc + 1) x.gc (x.us - (2 + x.siz sv)) (x.ob - 1) x.wh x.ph x.sw x.md x.made x.full) hx hb hts hown hK hP (wX_D hz.1) hS 4 rfl rfl in_H t_H t_H_ok n_H 8 (by decide) kf_H_40 rfl rfl (Nat.le_of_ble_eq_true rfl) rfl d_H_drop_51 (fun H locs hP hS => ?_)
  exact hend _ _ (XS.mk x.rs x.rv x.dp (va_up x.col sv 0) x.siz x.srt x.val (va_up x.fre x.fc sv) x.gry x.most (x.fc + 1) x.gc (x.us - (2 + x.siz sv)) (x.ob - 1) x.wh x.ph x.sw x.md x.made x.full) _ _ hP hS d_H_drop_54 rfl
end
section
set_option maxHeartbeats 4000000 in
set_option maxRecDepth 100000 in
theorem c_H_make (l : Launch) (E : KX) (x : XS) (n : Nat) (hn : n ≤ 20) (h0 : 0 < x.fc) (hfc : x.fc ≤ 1600) (ho : x.fre (x.fc - 1) < 1600) (hwh : x.wh = 1 ∨ x.wh = 2) (hph : x.ph ≤ 2) : Xi l E y_H_make w_H_make rm_H_make [.ref (E.ad 4), .int (nI n)] x (fun r x' => r = nI (x.fre (x.fc - 1)) ∧ x' = XS.mk x.rs x.rv x.dp (va_up x.col (x.fre (x.fc - 1)) (if x.ph = 1 then 4 else x.wh)) (va_up x.siz (x.fre (x.fc - 1)) n) x.srt x.val x.fre x.gry x.most (x.fc - 1) x.gc (x.us + (2 + n)) (x.ob + 1) x.wh x.ph x.sw x.md x.made x.full) := by
  refine r_meti (by decide) (Nat.le_of_ble_eq_true rfl) ?_
  intro p e s m args below meth c Q ls hx hb S hK hz hend hl hP hS
  have hts := S.2.2.2.2
  have hown := S.2.2.2.1
  refine lv_aload_n hx hb d_H_make_0 rfl (lv_at hl 0 rfl) ?_
  refine lv_dup hx hb d_H_make_1 rfl ?_
  refine r_get hx hb hts hown hK hP 4 rfl rfl in_H 8 (by decide) kf_H_40 rfl d_H_make_2 ?_
  refine lv_iconst (v := nI 1) hx hb d_H_make_5 (by decide) ?_
  refine r_sub hx hb (by omega) d_H_make_6 ?_
  refine r_put (ws' := wXe E x.rs x.rv x.dp x.col x.siz x.srt x.val x.fre x.gry x.most (x.fc - 1) x.gc x.us x.ob x.wh x.ph x.sw x.md x.made x.full) hx hb hts hown hK hP (wX_D hz.1) hS 4 rfl rfl in_H t_H t_H_ok n_H 8 (by decide) kf_H_40 rfl rfl (Nat.le_of_ble_eq_true rfl) rfl d_H_make_7 (fun H locs hP hS => ?_)
  refine lv_aload_n hx hb d_H_make_10 rfl (lv_at hl 0 rfl) ?_
  refine r_get hx hb hts hown hK hP 4 rfl rfl in_H 4 (by decide) kf_H_23 rfl d_H_make_11 ?_
  refine lv_aload_n hx hb d_H_make_14 rfl (lv_at hl 0 rfl) ?_
  refine r_get hx hb hts hown hK hP 4 rfl rfl in_H 8 (by decide) kf_H_40 rfl d_H_make_15 ?_
  refine r_iald hx hb hK hP 9 1 rfl rfl (by decide) (by omega) d_H_make_18 ?_
  refine lv_istore_n hx hb d_H_make_19 rfl hl (by decide) rfl (fun ls hl => ?_)
  refine lv_aload_n hx hb d_H_make_20 rfl (lv_at hl 1 rfl) ?_
  refine r_get hx hb hts hown hK hP 4 rfl rfl in_H 1 (by decide) kf_H_13 rfl d_H_make_21 ?_
  refine lv_iload_n hx hb d_H_make_24 rfl (lv_at hl 0 rfl) ?_
  refine lv_iload_n hx hb d_H_make_25 rfl (lv_at hl 2 rfl) ?_
  refine r_i2b hx hb (by omega) d_H_make_26 ?_
  refine r_bast (ws' := wXe E x.rs x.rv x.dp x.col (va_up x.siz (x.fre (x.fc - 1)) n) x.srt x.val x.fre x.gry x.most (x.fc - 1) x.gc x.us x.ob x.wh x.ph x.sw x.md x.made x.full) hx hb hK hP (wX_D hz.1) hS 6 0 rfl rfl (by decide) (by omega) (by omega) rfl d_H_make_27 (fun H locs hP hS => ?_)
  refine lv_aload_n hx hb d_H_make_28 rfl (lv_at hl 1 rfl) ?_
  refine r_get hx hb hts hown hK hP 4 rfl rfl in_H 0 (by decide) kf_H_9 rfl d_H_make_29 ?_
  refine lv_iload_n hx hb d_H_make_32 rfl (lv_at hl 0 rfl) ?_
  refine lv_aload_n hx hb d_H_make_33 rfl (lv_at hl 1 rfl) ?_
  refine r_get hx hb hts hown hK hP 4 rfl rfl in_H 13 (by decide) kf_H_49 rfl d_H_make_34 ?_
  refine lv_iconst (v := nI 1) hx hb d_H_make_37 (by decide) ?_
  refine r_ne (tgt := 45) hx hb d_H_make_38 (by decide) (by omega) (by omega) (fun c_38 => ?_) (fun c_38 => ?_)
  · refine lv_aload_n hx hb d_H_make_45 rfl (lv_at hl 1 rfl) ?_
    refine r_get hx hb hts hown hK hP 4 rfl rfl in_H 12 (by decide) kf_H_29 rfl d_H_make_46 ?_
    refine r_top (show nI x.wh = nI (if x.ph = 1 then 4 else x.wh) by rw [if_neg c_38]) ?_
    have hv8 : (if x.ph = 1 then 4 else x.wh) < 128 := by split <;> omega
    refine r_i2b hx hb hv8 d_H_make_49 ?_
    refine r_bast (ws' := wXe E x.rs x.rv x.dp (va_up x.col (x.fre (x.fc - 1)) (if x.ph = 1 then 4 else x.wh)) (va_up x.siz (x.fre (x.fc - 1)) n) x.srt x.val x.fre x.gry x.most (x.fc - 1) x.gc x.us x.ob x.wh x.ph x.sw x.md x.made x.full) hx hb hK hP (wX_D hz.1) hS 5 0 rfl rfl (by decide) (by omega) hv8 rfl d_H_make_50 (fun H locs hP hS => ?_)
    refine lv_aload_n hx hb d_H_make_51 rfl (lv_at hl 1 rfl) ?_
    refine lv_dup hx hb d_H_make_52 rfl ?_
    refine r_get hx hb hts hown hK hP 4 rfl rfl in_H 10 (by decide) kf_H_43 rfl d_H_make_53 ?_
    refine lv_iconst (v := nI 2) hx hb d_H_make_56 (by decide) ?_
    refine lv_iload_n hx hb d_H_make_57 rfl (lv_at hl 2 rfl) ?_
    refine r_add hx hb d_H_make_58 ?_
    refine r_add hx hb d_H_make_59 ?_
    refine r_put (ws' := wXe E x.rs x.rv x.dp (va_up x.col (x.fre (x.fc - 1)) (if x.ph = 1 then 4 else x.wh)) (va_up x.siz (x.fre (x.fc - 1)) n) x.srt x.val x.fre x.gry x.most (x.fc - 1) x.gc (x.us + (2 + n)) x.ob x.wh x.ph x.sw x.md x.made x.full) hx hb hts hown hK hP (wX_D hz.1) hS 4 rfl rfl in_H t_H t_H_ok n_H 10 (by decide) kf_H_43 rfl rfl (Nat.le_of_ble_eq_true rfl) rfl d_H_make_60 (fun H locs hP hS => ?_)
    refine lv_aload_n hx hb d_H_make_63 rfl (lv_at hl 1 rfl) ?_
    refine lv_dup hx hb d_H_make_64 rfl ?_
    refine r_get hx hb hts hown hK hP 4 rfl rfl in_H 11 (by decide) kf_H_52 rfl d_H_make_65 ?_
    refine lv_iconst (v := nI 1) hx hb d_H_make_68 (by decide) ?_
    refine r_add hx hb d_H_make_69 ?_
    refine r_put (ws' := wXe E x.rs x.rv x.dp (va_up x.col (x.fre (x.fc - 1)) (if x.ph = 1 then 4 else x.wh)) (va_up x.siz (x.fre (x.fc - 1)) n) x.srt x.val x.fre x.gry x.most (x.fc - 1) x.gc (x.us + (2 + n)) (x.ob + 1) x.wh x.ph x.sw x.md x.made x.full) hx hb hts hown hK hP (wX_D hz.1) hS 4 rfl rfl in_H t_H t_H_ok n_H 11 (by decide) kf_H_52 rfl rfl (Nat.le_of_ble_eq_true rfl) rfl d_H_make_70 (fun H locs hP hS => ?_)
    refine lv_iload_n hx hb d_H_make_73 rfl (lv_at hl 0 rfl) ?_
    exact hend _ _ (XS.mk x.rs x.rv x.dp (va_up x.col (x.fre (x.fc - 1)) (if x.ph = 1 then 4 else x.wh)) (va_up x.siz (x.fre (x.fc - 1)) n) x.srt x.val x.fre x.gry x.most (x.fc - 1) x.gc (x.us + (2 + n)) (x.ob + 1) x.wh x.ph x.sw x.md x.made x.full) _ _ _ hP hS d_H_make_74 ⟨rfl, rfl⟩
  · refine lv_iconst (v := nI 4) hx hb d_H_make_41 (by decide) ?_
    refine r_top (show nI 4 = nI (if x.ph = 1 then 4 else x.wh) by rw [if_pos c_38]) ?_
    refine lv_goto (tgt := 49) hx hb d_H_make_42 (by decide) ?_
    have hv8 : (if x.ph = 1 then 4 else x.wh) < 128 := by split <;> omega
    refine r_i2b hx hb hv8 d_H_make_49 ?_
    refine r_bast (ws' := wXe E x.rs x.rv x.dp (va_up x.col (x.fre (x.fc - 1)) (if x.ph = 1 then 4 else x.wh)) (va_up x.siz (x.fre (x.fc - 1)) n) x.srt x.val x.fre x.gry x.most (x.fc - 1) x.gc x.us x.ob x.wh x.ph x.sw x.md x.made x.full) hx hb hK hP (wX_D hz.1) hS 5 0 rfl rfl (by decide) (by omega) hv8 rfl d_H_make_50 (fun H locs hP hS => ?_)
    refine lv_aload_n hx hb d_H_make_51 rfl (lv_at hl 1 rfl) ?_
    refine lv_dup hx hb d_H_make_52 rfl ?_
    refine r_get hx hb hts hown hK hP 4 rfl rfl in_H 10 (by decide) kf_H_43 rfl d_H_make_53 ?_
    refine lv_iconst (v := nI 2) hx hb d_H_make_56 (by decide) ?_
    refine lv_iload_n hx hb d_H_make_57 rfl (lv_at hl 2 rfl) ?_
    refine r_add hx hb d_H_make_58 ?_
    refine r_add hx hb d_H_make_59 ?_
    refine r_put (ws' := wXe E x.rs x.rv x.dp (va_up x.col (x.fre (x.fc - 1)) (if x.ph = 1 then 4 else x.wh)) (va_up x.siz (x.fre (x.fc - 1)) n) x.srt x.val x.fre x.gry x.most (x.fc - 1) x.gc (x.us + (2 + n)) x.ob x.wh x.ph x.sw x.md x.made x.full) hx hb hts hown hK hP (wX_D hz.1) hS 4 rfl rfl in_H t_H t_H_ok n_H 10 (by decide) kf_H_43 rfl rfl (Nat.le_of_ble_eq_true rfl) rfl d_H_make_60 (fun H locs hP hS => ?_)
    refine lv_aload_n hx hb d_H_make_63 rfl (lv_at hl 1 rfl) ?_
    refine lv_dup hx hb d_H_make_64 rfl ?_
    refine r_get hx hb hts hown hK hP 4 rfl rfl in_H 11 (by decide) kf_H_52 rfl d_H_make_65 ?_
    refine lv_iconst (v := nI 1) hx hb d_H_make_68 (by decide) ?_
    refine r_add hx hb d_H_make_69 ?_
    refine r_put (ws' := wXe E x.rs x.rv x.dp (va_up x.col (x.fre (x.fc - 1)) (if x.ph = 1 then 4 else x.wh)) (va_up x.siz (x.fre (x.fc - 1)) n) x.srt x.val x.fre x.gry x.most (x.fc - 1) x.gc (x.us + (2 + n)) (x.ob + 1) x.wh x.ph x.sw x.md x.made x.full) hx hb hts hown hK hP (wX_D hz.1) hS 4 rfl rfl in_H t_H t_H_ok n_H 11 (by decide) kf_H_52 rfl rfl (Nat.le_of_ble_eq_true rfl) rfl d_H_make_70 (fun H locs hP hS => ?_)
    refine lv_iload_n hx hb d_H_make_73 rfl (lv_at hl 0 rfl) ?_
    exact hend _ _ (XS.mk x.rs x.rv x.dp (va_up x.col (x.fre (x.fc - 1)) (if x.ph = 1 then 4 else x.wh)) (va_up x.siz (x.fre (x.fc - 1)) n) x.srt x.val x.fre x.gry x.most (x.fc - 1) x.gc (x.us + (2 + n)) (x.ob + 1) x.wh x.ph x.sw x.md x.made x.full) _ _ _ hP hS d_H_make_74 ⟨rfl, rfl⟩
def swp (x : XS) : XS := if x.col x.sw = 4 then XS.mk x.rs x.rv x.dp (va_up x.col x.sw x.wh) x.siz x.srt x.val x.fre x.gry x.most x.fc x.gc x.us x.ob x.wh x.ph (x.sw + 1) x.md x.made x.full else if x.col x.sw ≠ 0 ∧ x.col x.sw ≠ x.wh then XS.mk x.rs x.rv x.dp (va_up x.col x.sw 0) x.siz x.srt x.val (va_up x.fre x.fc x.sw) x.gry x.most (x.fc + 1) x.gc (x.us - (2 + x.siz x.sw)) (x.ob - 1) x.wh x.ph (x.sw + 1) x.md x.made x.full else XS.mk x.rs x.rv x.dp x.col x.siz x.srt x.val x.fre x.gry x.most x.fc x.gc x.us x.ob x.wh x.ph (x.sw + 1) x.md x.made x.full
theorem swp_4 {x : XS} (h : x.col x.sw = 4) : swp x = XS.mk x.rs x.rv x.dp (va_up x.col x.sw x.wh) x.siz x.srt x.val x.fre x.gry x.most x.fc x.gc x.us x.ob x.wh x.ph (x.sw + 1) x.md x.made x.full := if_pos h
theorem swp_d {x : XS} (h : x.col x.sw ≠ 4) (h0 : x.col x.sw ≠ 0) (h1 : x.col x.sw ≠ x.wh) : swp x = XS.mk x.rs x.rv x.dp (va_up x.col x.sw 0) x.siz x.srt x.val (va_up x.fre x.fc x.sw) x.gry x.most (x.fc + 1) x.gc (x.us - (2 + x.siz x.sw)) (x.ob - 1) x.wh x.ph (x.sw + 1) x.md x.made x.full := (if_neg h).trans (if_pos ⟨h0, h1⟩)
theorem swp_n {x : XS} (h : x.col x.sw ≠ 4) (h0 : x.col x.sw = 0 ∨ x.col x.sw = x.wh) : swp x = XS.mk x.rs x.rv x.dp x.col x.siz x.srt x.val x.fre x.gry x.most x.fc x.gc x.us x.ob x.wh x.ph (x.sw + 1) x.md x.made x.full := (if_neg h).trans (if_neg (fun q => h0.elim q.1 q.2))
end
section
set_option maxHeartbeats 4000000 in
set_option maxRecDepth 100000 in
theorem c_H_sweep (l : Launch) (E : KX) (x : XS) (hs : x.sw < 1600) (hc : ∀ i, x.col i ≤ 4) (hwh : x.wh = 1 ∨ x.wh = 2) (hd : x.col x.sw ≠ 0 → x.fc < 1600 ∧ 2 + x.siz x.sw ≤ x.us ∧ 1 ≤ x.ob) : Xv l E y_H_sweep w_H_sweep rm_H_sweep [.ref (E.ad 4)] x (fun x' => x' = swp x) := by
  refine r_metv (by decide) (Nat.le_of_ble_eq_true rfl) ?_
  intro p e s m args below meth c Q ls hx hb S hK hz hend hl hP hS
  have hts := S.2.2.2.2
  have hown := S.2.2.2.1
  have h4 := hc x.sw
  refine lv_aload_n hx hb d_H_sweep_0 rfl (lv_at hl 0 rfl) ?_
  refine r_get hx hb hts hown hK hP 4 rfl rfl in_H 0 (by decide) kf_H_9 rfl d_H_sweep_1 ?_
  refine lv_aload_n hx hb d_H_sweep_4 rfl (lv_at hl 0 rfl) ?_
  refine r_get hx hb hts hown hK hP 4 rfl rfl in_H 14 (by decide) kf_H_76 rfl d_H_sweep_5 ?_
  refine r_bald hx hb hK hP 5 0 rfl rfl (by decide) (by omega) d_H_sweep_8 ?_
  refine lv_istore_n hx hb d_H_sweep_9 rfl hl (by decide) rfl (fun ls hl => ?_)
  refine lv_iload_n hx hb d_H_sweep_10 rfl (lv_at hl 0 rfl) ?_
  refine lv_iconst (v := nI 4) hx hb d_H_sweep_11 (by decide) ?_
  refine r_ne (tgt := 32) hx hb d_H_sweep_12 (by decide) (by omega) (by omega) (fun c_12 => ?_) (fun c_12 => ?_)
  · refine lv_iload_n hx hb d_H_sweep_32 rfl (lv_at hl 0 rfl) ?_
    refine r_ifeq (tgt := 52) hx hb d_H_sweep_33 (by decide) (by omega) (fun c_33 => ?_) (fun c_33 => ?_)
    · refine lv_aload_n hx hb d_H_sweep_52 rfl (lv_at hl 1 rfl) ?_
      refine lv_dup hx hb d_H_sweep_53 rfl ?_
      refine r_get hx hb hts hown hK hP 4 rfl rfl in_H 14 (by decide) kf_H_76 rfl d_H_sweep_54 ?_
      refine lv_iconst (v := nI 1) hx hb d_H_sweep_57 (by decide) ?_
      refine r_add hx hb d_H_sweep_58 ?_
      refine r_put (ws' := wXe E x.rs x.rv x.dp x.col x.siz x.srt x.val x.fre x.gry x.most x.fc x.gc x.us x.ob x.wh x.ph (x.sw + 1) x.md x.made x.full) hx hb hts hown hK hP (wX_D hz.1) hS 4 rfl rfl in_H t_H t_H_ok n_H 14 (by decide) kf_H_76 rfl rfl (Nat.le_of_ble_eq_true rfl) rfl d_H_sweep_59 (fun H locs hP hS => ?_)
      exact hend _ _ (XS.mk x.rs x.rv x.dp x.col x.siz x.srt x.val x.fre x.gry x.most x.fc x.gc x.us x.ob x.wh x.ph (x.sw + 1) x.md x.made x.full) _ _ hP hS d_H_sweep_62 (swp_n c_12 (Or.inl c_33)).symm
    · refine lv_iload_n hx hb d_H_sweep_36 rfl (lv_at hl 0 rfl) ?_
      refine lv_aload_n hx hb d_H_sweep_37 rfl (lv_at hl 1 rfl) ?_
      refine r_get hx hb hts hown hK hP 4 rfl rfl in_H 12 (by decide) kf_H_29 rfl d_H_sweep_38 ?_
      refine r_eq (tgt := 52) hx hb d_H_sweep_41 (by decide) (by omega) (by omega) (fun c_41 => ?_) (fun c_41 => ?_)
      · refine lv_aload_n hx hb d_H_sweep_52 rfl (lv_at hl 1 rfl) ?_
        refine lv_dup hx hb d_H_sweep_53 rfl ?_
        refine r_get hx hb hts hown hK hP 4 rfl rfl in_H 14 (by decide) kf_H_76 rfl d_H_sweep_54 ?_
        refine lv_iconst (v := nI 1) hx hb d_H_sweep_57 (by decide) ?_
        refine r_add hx hb d_H_sweep_58 ?_
        refine r_put (ws' := wXe E x.rs x.rv x.dp x.col x.siz x.srt x.val x.fre x.gry x.most x.fc x.gc x.us x.ob x.wh x.ph (x.sw + 1) x.md x.made x.full) hx hb hts hown hK hP (wX_D hz.1) hS 4 rfl rfl in_H t_H t_H_ok n_H 14 (by decide) kf_H_76 rfl rfl (Nat.le_of_ble_eq_true rfl) rfl d_H_sweep_59 (fun H locs hP hS => ?_)
        exact hend _ _ (XS.mk x.rs x.rv x.dp x.col x.siz x.srt x.val x.fre x.gry x.most x.fc x.gc x.us x.ob x.wh x.ph (x.sw + 1) x.md x.made x.full) _ _ hP hS d_H_sweep_62 (swp_n c_12 (Or.inr c_41)).symm
      · refine lv_aload_n hx hb d_H_sweep_44 rfl (lv_at hl 1 rfl) ?_
        refine lv_aload_n hx hb d_H_sweep_45 rfl (lv_at hl 1 rfl) ?_
        refine r_get hx hb hts hown hK hP 4 rfl rfl in_H 14 (by decide) kf_H_76 rfl d_H_sweep_46 ?_
        obtain ⟨e1, e2, e3⟩ := hd c_33
        refine r_callv S (c_H_drop l E (XS.mk x.rs x.rv x.dp x.col x.siz x.srt x.val x.fre x.gry x.most x.fc x.gc x.us x.ob x.wh x.ph x.sw x.md x.made x.full) x.sw hs e1 e2 e3) kc_H_drop k0_H km_H_82 ki_H_drop ks_H_drop hd_H_drop ⟨rfl, rfl⟩ ⟨by decide, by decide⟩ (zX_ok E) hz hK hP hS (fun _ h => h) 4 rfl rfl rfl hl.1 rfl (Nat.le_of_ble_eq_true rfl) ⟨Nat.zero_le _, Nat.zero_le _⟩ d_H_sweep_49 (fun x1 H locs hw hP _ _ hS => ?_)
        simp only [XS.mk_rs, XS.mk_rv, XS.mk_dp, XS.mk_col, XS.mk_siz, XS.mk_srt, XS.mk_val, XS.mk_fre, XS.mk_gry, XS.mk_most, XS.mk_fc, XS.mk_gc, XS.mk_us, XS.mk_ob, XS.mk_wh, XS.mk_ph, XS.mk_sw, XS.mk_md, XS.mk_made, XS.mk_full] at hw
        subst hw
        refine lv_aload_n hx hb d_H_sweep_52 rfl (lv_at hl 1 rfl) ?_
        refine lv_dup hx hb d_H_sweep_53 rfl ?_
        refine r_get hx hb hts hown hK hP 4 rfl rfl in_H 14 (by decide) kf_H_76 rfl d_H_sweep_54 ?_
        refine lv_iconst (v := nI 1) hx hb d_H_sweep_57 (by decide) ?_
        refine r_add hx hb d_H_sweep_58 ?_
        refine r_put (ws' := wXe E x.rs x.rv x.dp (va_up x.col x.sw 0) x.siz x.srt x.val (va_up x.fre x.fc x.sw) x.gry x.most (x.fc + 1) x.gc (x.us - (2 + x.siz x.sw)) (x.ob - 1) x.wh x.ph (x.sw + 1) x.md x.made x.full) hx hb hts hown hK hP (wX_D hz.1) hS 4 rfl rfl in_H t_H t_H_ok n_H 14 (by decide) kf_H_76 rfl rfl (Nat.le_of_ble_eq_true rfl) rfl d_H_sweep_59 (fun H locs hP hS => ?_)
        exact hend _ _ (XS.mk x.rs x.rv x.dp (va_up x.col x.sw 0) x.siz x.srt x.val (va_up x.fre x.fc x.sw) x.gry x.most (x.fc + 1) x.gc (x.us - (2 + x.siz x.sw)) (x.ob - 1) x.wh x.ph (x.sw + 1) x.md x.made x.full) _ _ hP hS d_H_sweep_62 (swp_d c_12 c_33 c_41).symm
  · refine lv_aload_n hx hb d_H_sweep_15 rfl (lv_at hl 1 rfl) ?_
    refine r_get hx hb hts hown hK hP 4 rfl rfl in_H 0 (by decide) kf_H_9 rfl d_H_sweep_16 ?_
    refine lv_aload_n hx hb d_H_sweep_19 rfl (lv_at hl 1 rfl) ?_
    refine r_get hx hb hts hown hK hP 4 rfl rfl in_H 14 (by decide) kf_H_76 rfl d_H_sweep_20 ?_
    refine lv_aload_n hx hb d_H_sweep_23 rfl (lv_at hl 1 rfl) ?_
    refine r_get hx hb hts hown hK hP 4 rfl rfl in_H 12 (by decide) kf_H_29 rfl d_H_sweep_24 ?_
    refine r_i2b hx hb (by omega) d_H_sweep_27 ?_
    refine r_bast (ws' := wXe E x.rs x.rv x.dp (va_up x.col x.sw x.wh) x.siz x.srt x.val x.fre x.gry x.most x.fc x.gc x.us x.ob x.wh x.ph x.sw x.md x.made x.full) hx hb hK hP (wX_D hz.1) hS 5 0 rfl rfl (by decide) (by omega) (by omega) rfl d_H_sweep_28 (fun H locs hP hS => ?_)
    refine lv_goto (tgt := 52) hx hb d_H_sweep_29 (by decide) ?_
    refine lv_aload_n hx hb d_H_sweep_52 rfl (lv_at hl 1 rfl) ?_
    refine lv_dup hx hb d_H_sweep_53 rfl ?_
    refine r_get hx hb hts hown hK hP 4 rfl rfl in_H 14 (by decide) kf_H_76 rfl d_H_sweep_54 ?_
    refine lv_iconst (v := nI 1) hx hb d_H_sweep_57 (by decide) ?_
    refine r_add hx hb d_H_sweep_58 ?_
    refine r_put (ws' := wXe E x.rs x.rv x.dp (va_up x.col x.sw x.wh) x.siz x.srt x.val x.fre x.gry x.most x.fc x.gc x.us x.ob x.wh x.ph (x.sw + 1) x.md x.made x.full) hx hb hts hown hK hP (wX_D hz.1) hS 4 rfl rfl in_H t_H t_H_ok n_H 14 (by decide) kf_H_76 rfl rfl (Nat.le_of_ble_eq_true rfl) rfl d_H_sweep_59 (fun H locs hP hS => ?_)
    exact hend _ _ (XS.mk x.rs x.rv x.dp (va_up x.col x.sw x.wh) x.siz x.srt x.val x.fre x.gry x.most x.fc x.gc x.us x.ob x.wh x.ph (x.sw + 1) x.md x.made x.full) _ _ hP hS d_H_sweep_62 (swp_4 c_12).symm
end
section
/-! the heap's invariant, and what each step keeps of it -/
def FL (col fre : Nat → Nat) (fc : Nat) : Prop := (∀ i, i < fc → fre i < 1600 ∧ col (fre i) = 0) ∧ (∀ i j, i < fc → j < fc → fre i = fre j → i = j) ∧ (∀ s, s < 1600 → col s = 0 → ∃ i, i < fc ∧ fre i = s)
def US (col siz : Nat → Nat) (us : Nat) : Prop := us = sumTo (fun s => if col s = 0 then 0 else 2 + siz s) 1600
def OB (col : Nat → Nat) (ob : Nat) : Prop := ob = sumTo (fun s => if col s = 0 then 0 else 1) 1600
def Lv (col : Nat → Nat) (wh s : Nat) : Prop := s < 1600 ∧ col s ≠ 0 ∧ col s ≠ 3 - wh
def CL (siz srt : Nat → Nat) (val : Nat → Int32) (L : Nat → Prop) : Prop := ∀ s, L s → ∀ k, k < siz s → srt (20 * s + k) = 2 → ∃ v, v < 1600 ∧ val (20 * s + k) = nI v ∧ L v
def RL (rs : Nat → Nat) (rv : Nat → Int32) (dp : Nat) (L : Nat → Prop) : Prop := ∀ k, k < 10 + dp → rs k = 2 → ∃ v, v < 1600 ∧ rv k = nI v ∧ L v
def PHS (siz srt : Nat → Nat) (val : Nat → Int32) (col : Nat → Nat) (wh ph sw : Nat) : Prop := (ph = 0 ∧ ∀ s, s < 1600 → col s = 0 ∨ col s = wh) ∨ (ph = 1 ∧ (∀ s, s < 1600 → col s ≠ 3 - wh) ∧ BK siz srt val col) ∨ (ph = 2 ∧ sw ≤ 1600 ∧ (∀ s, s < 1600 → col s ≠ 3) ∧ ∀ s, s < sw → col s = 0 ∨ col s = wh)
def TY (x : XS) : Prop := (∀ i, x.col i ≤ 4) ∧ (∀ i, x.siz i ≤ 20) ∧ (∀ i, x.srt i ≤ 2) ∧ (∀ i, x.rs i ≤ 2) ∧ x.dp ≤ 50 ∧ x.most ≤ 3000 ∧ (x.wh = 1 ∨ x.wh = 2)
def Inv (x : XS) : Prop := TY x ∧ GS x.G ∧ FL x.col x.fre x.fc ∧ US x.col x.siz x.us ∧ OB x.col x.ob ∧ CL x.siz x.srt x.val (Lv x.col x.wh) ∧ RL x.rs x.rv x.dp (Lv x.col x.wh) ∧ PHS x.siz x.srt x.val x.col x.wh x.ph x.sw
/-- only what nobody reaches goes -/
def Shr (x x' : XS) : Prop := x'.rs = x.rs ∧ x'.rv = x.rv ∧ x'.dp = x.dp ∧ x'.siz = x.siz ∧ x'.srt = x.srt ∧ x'.val = x.val ∧ x'.most = x.most ∧ x'.made = x.made ∧ x'.full = x.full ∧ ∀ s, Lv x'.col x'.wh s → Lv x.col x.wh s
theorem Shr.rfl' {x : XS} : Shr x x := ⟨rfl, rfl, rfl, rfl, rfl, rfl, rfl, rfl, rfl, fun _ h => h⟩
theorem Shr.trans {x y z : XS} (h1 : Shr x y) (h2 : Shr y z) : Shr x z := by
  obtain ⟨a1, a2, a3, a4, a5, a6, a7, a8, a9, a10⟩ := h1
  obtain ⟨b1, b2, b3, b4, b5, b6, b7, b8, b9, b10⟩ := h2
  exact ⟨b1.trans a1, b2.trans a2, b3.trans a3, b4.trans a4, b5.trans a5, b6.trans a6, b7.trans a7, b8.trans a8, b9.trans a9, fun s h => a10 s (b10 s h)⟩
theorem FL.congr {col col' fre : Nat → Nat} {fc : Nat} (h : FL col fre fc) (e : ∀ s, s < 1600 → (col' s = 0 ↔ col s = 0)) : FL col' fre fc :=
  ⟨fun i hi => ⟨(h.1 i hi).1, (e _ (h.1 i hi).1).mpr (h.1 i hi).2⟩, h.2.1, fun s hs hc => h.2.2 s hs ((e s hs).mp hc)⟩
theorem US.congr {col col' siz : Nat → Nat} {us : Nat} (h : US col siz us) (e : ∀ s, s < 1600 → (col' s = 0 ↔ col s = 0)) : US col' siz us := by
  unfold US at h ⊢
  rw [h]
  refine sumTo_congr (fun i hi => ?_)
  by_cases q : col i = 0
  · rw [if_pos q, if_pos ((e i hi).mpr q)]
  · rw [if_neg q, if_neg (fun z => q ((e i hi).mp z))]
theorem OB.congr {col col' : Nat → Nat} {ob : Nat} (h : OB col ob) (e : ∀ s, s < 1600 → (col' s = 0 ↔ col s = 0)) : OB col' ob := by
  unfold OB at h ⊢
  rw [h]
  refine sumTo_congr (fun i hi => ?_)
  by_cases q : col i = 0
  · rw [if_pos q, if_pos ((e i hi).mpr q)]
  · rw [if_neg q, if_neg (fun z => q ((e i hi).mp z))]
theorem US.le {col siz : Nat → Nat} {us : Nat} (h : US col siz us) (hs : ∀ i, siz i ≤ 20) : us ≤ 35200 := by
  unfold US at h
  rw [h]
  exact sumTo_le_mul (c := 22) (fun i _ => by
    have := hs i
    split <;> omega)
theorem FL.le {col fre : Nat → Nat} {fc : Nat} (h : FL col fre fc) : fc ≤ 1600 := pigeon 1600 fc fre (fun i hi => (h.1 i hi).1) h.2.1
theorem FL.drop {col fre : Nat → Nat} {fc s : Nat} (h : FL col fre fc) (hs : s < 1600) (hc : col s ≠ 0) : fc < 1600 ∧ FL (va_up col s 0) (va_up fre fc s) (fc + 1) := by
  have hlt : fc < 1600 := by
    have := pigeon 1600 (fc + 1) (fun i => if i < fc then fre i else s) (fun i hi => by
      split
      · rename_i q; exact (h.1 i q).1
      · exact hs) (fun i j hi hj e => by
      by_cases h1 : i < fc
      · by_cases h2 : j < fc
        · simp only [if_pos h1, if_pos h2] at e; exact h.2.1 i j h1 h2 e
        · simp only [if_pos h1, if_neg h2] at e
          exact absurd (by rw [← e]; exact (h.1 i h1).2) hc
      · by_cases h2 : j < fc
        · simp only [if_neg h1, if_pos h2] at e
          exact absurd (by rw [e]; exact (h.1 j h2).2) hc
        · omega)
    omega
  refine ⟨hlt, fun i hi => ?_, fun i j hi hj e => ?_, fun z hz hcz => ?_⟩
  · by_cases q : i = fc
    · rw [q, va_up_self]; exact ⟨hs, va_up_self _ _ _⟩
    · rw [va_up_ne _ _ q]
      have h1 := h.1 i (by omega)
      refine ⟨h1.1, ?_⟩
      rw [va_up_ne _ _ (fun e => hc (by rw [← e]; exact h1.2))]
      exact h1.2
  · by_cases q : i = fc
    · by_cases q2 : j = fc
      · omega
      · rw [q, va_up_self, va_up_ne _ _ q2] at e
        exact absurd (by rw [e]; exact (h.1 j (by omega)).2) hc
    · by_cases q2 : j = fc
      · rw [q2, va_up_self, va_up_ne _ _ q] at e
        exact absurd (by rw [← e]; exact (h.1 i (by omega)).2) hc
      · rw [va_up_ne _ _ q, va_up_ne _ _ q2] at e
        exact h.2.1 i j (by omega) (by omega) e
  · by_cases q : z = s
    · exact ⟨fc, by omega, by rw [va_up_self, q]⟩
    · rw [va_up_ne _ _ q] at hcz
      obtain ⟨i, hi, he⟩ := h.2.2 z hz hcz
      exact ⟨i, by omega, by rw [va_up_ne _ _ (by omega)]; exact he⟩
theorem FL.make {col fre : Nat → Nat} {fc c : Nat} (h : FL col fre fc) (h0 : 0 < fc) (hc : c ≠ 0) : FL (va_up col (fre (fc - 1)) c) fre (fc - 1) := by
  refine ⟨fun i hi => ?_, fun i j hi hj e => h.2.1 i j (by omega) (by omega) e, fun s hs e => ?_⟩
  · have h1 := h.1 i (by omega)
    refine ⟨h1.1, ?_⟩
    rw [va_up_ne _ _ (fun e => by have := h.2.1 i (fc - 1) (by omega) (by omega) e; omega)]
    exact h1.2
  · by_cases q : s = fre (fc - 1)
    · rw [q, va_up_self] at e; exact absurd e hc
    · rw [va_up_ne _ _ q] at e
      obtain ⟨i, hi, he⟩ := h.2.2 s hs e
      exact ⟨i, by
        have : i ≠ fc - 1 := fun z => q (by rw [← z]; exact he.symm)
        omega, he⟩
/-- a slot's colour and size change: the sum goes with it -/
theorem sumTo_up {f g : Nat → Nat} {s n : Nat} (hs : s < n) (h : ∀ i, i < n → i ≠ s → g i = f i) : sumTo g n + f s = sumTo f n + g s := sumTo_at hs (fun i hi hne => h i hi hne)
theorem US.drop {col siz : Nat → Nat} {us s : Nat} (h : US col siz us) (hs : s < 1600) (hc : col s ≠ 0) : 2 + siz s ≤ us ∧ US (va_up col s 0) siz (us - (2 + siz s)) := by
  unfold US at h ⊢
  have h1 := sumTo_up (f := fun i => if col i = 0 then 0 else 2 + siz i) (g := fun i => if va_up col s 0 i = 0 then 0 else 2 + siz i) hs (fun i _ hne => by simp only [va_up_ne _ _ hne])
  simp only [va_up_self, if_neg hc, if_pos] at h1
  have h2 : 2 + siz s ≤ sumTo (fun i => if col i = 0 then 0 else 2 + siz i) 1600 := by
    have := sumTo_mem (f := fun i => if col i = 0 then 0 else 2 + siz i) hs
    simp only [if_neg hc] at this
    exact this
  constructor
  · omega
  · omega
theorem OB.drop {col : Nat → Nat} {ob s : Nat} (h : OB col ob) (hs : s < 1600) (hc : col s ≠ 0) : 1 ≤ ob ∧ OB (va_up col s 0) (ob - 1) := by
  unfold OB at h ⊢
  have h1 := sumTo_up (f := fun i => if col i = 0 then 0 else 1) (g := fun i => if va_up col s 0 i = 0 then 0 else 1) hs (fun i _ hne => by simp only [va_up_ne _ _ hne])
  simp only [va_up_self, if_neg hc, if_pos] at h1
  have h2 : 1 ≤ sumTo (fun i => if col i = 0 then 0 else 1) 1600 := by
    have := sumTo_mem (f := fun i => if col i = 0 then 0 else 1) hs
    simp only [if_neg hc] at this
    exact this
  constructor
  · omega
  · omega
theorem US.make {col siz : Nat → Nat} {us s c n : Nat} (h : US col siz us) (hs : s < 1600) (h0 : col s = 0) (hc : c ≠ 0) : US (va_up col s c) (va_up siz s n) (us + (2 + n)) := by
  unfold US at h ⊢
  have h1 := sumTo_up (f := fun i => if col i = 0 then 0 else 2 + siz i) (g := fun i => if va_up col s c i = 0 then 0 else 2 + va_up siz s n i) hs (fun i _ hne => by simp only [va_up_ne _ _ hne])
  simp only [va_up_self, if_neg hc, if_pos h0] at h1
  omega
theorem OB.make {col : Nat → Nat} {ob s c : Nat} (h : OB col ob) (hs : s < 1600) (h0 : col s = 0) (hc : c ≠ 0) : OB (va_up col s c) (ob + 1) := by
  unfold OB at h ⊢
  have h1 := sumTo_up (f := fun i => if col i = 0 then 0 else 1) (g := fun i => if va_up col s c i = 0 then 0 else 1) hs (fun i _ hne => by simp only [va_up_ne _ _ hne])
  simp only [va_up_self, if_neg hc, if_pos h0] at h1
  omega
theorem US.size {col siz : Nat → Nat} {us s n : Nat} (h : US col siz us) (hs : s < 1600) (hc : col s ≠ 0) : siz s + 2 ≤ us ∧ US col (va_up siz s n) (us - siz s + n) := by
  unfold US at h ⊢
  have h1 := sumTo_up (f := fun i => if col i = 0 then 0 else 2 + siz i) (g := fun i => if col i = 0 then 0 else 2 + va_up siz s n i) hs (fun i _ hne => by simp only [va_up_ne _ _ hne])
  simp only [va_up_self, if_neg hc] at h1
  have h2 : 2 + siz s ≤ sumTo (fun i => if col i = 0 then 0 else 2 + siz i) 1600 := by
    have := sumTo_mem (f := fun i => if col i = 0 then 0 else 2 + siz i) hs
    simp only [if_neg hc] at this
    exact this
  constructor
  · omega
  · omega
theorem Inv.ph2 {x : XS} (h : Inv x) : x.ph ≤ 2 := by
  rcases h.2.2.2.2.2.2.2 with q | q | q
  · omega
  · omega
  · omega
/-- at rest and while marking: all that is in use lives -/
theorem Inv.lv {x : XS} (h : Inv x) (hp : x.ph = 0 ∨ x.ph = 1) {s : Nat} (hs : s < 1600) : x.col s ≠ 3 - x.wh := by
  have hw := h.1.2.2.2.2.2.2
  rcases h.2.2.2.2.2.2.2 with ⟨q1, q2⟩ | ⟨q1, q2, -⟩ | ⟨q1, -⟩
  · have := q2 s hs; omega
  · exact q2 s hs
  · omega
theorem Inv.jp {x : XS} (h : Inv x) (hp : x.ph = 0 ∨ x.ph = 1) : JP x.siz x.srt x.val (Lv x.col x.wh) x.G := by
  obtain ⟨⟨t1, t2, t3, t4, t5, t6, t7⟩, h1, h2, h3, h4, h5, h6, h7⟩ := id h
  refine ⟨h1, fun s hs hc => ⟨hs, ?_, ?_⟩, t1, fun s hs => ⟨hs.1, hs.2.1⟩, fun s hs => ⟨t2 s, h5 s hs⟩, ?_⟩
  · rcases hc with q | q
    · have q : x.col s = 3 := q; omega
    · have q : x.col s = 4 := q; omega
  · exact h.lv hp hs
  · rcases h7 with ⟨q1, q2⟩ | ⟨q1, q2, q3⟩ | ⟨q1, -⟩
    · intro s hs hc
      have hc : x.col s = 4 := hc
      have := q2 s hs
      omega
    · exact q3
    · omega
theorem Lv.mark {x : XS} (h : Inv x) (hp : x.ph = 0 ∨ x.ph = 1) {g : GT} (hr : Gr (Lv x.col x.wh) x.G g) (s : Nat) : Lv g.1 x.wh s ↔ Lv x.col x.wh s := by
  have hw := h.1.2.2.2.2.2.2
  rcases hr s with e | ⟨q1, q2, q3, q4⟩
  · have e : g.1 s = x.col s := e
    unfold Lv
    rw [e]
  · constructor
    · intro _; exact q2
    · intro _; exact ⟨q1, by omega, by omega⟩
theorem CL.iff {siz srt : Nat → Nat} {val : Nat → Int32} {L L' : Nat → Prop} (h : CL siz srt val L) (e : ∀ s, L' s ↔ L s) : CL siz srt val L' := fun s hs k hk ht => by
  obtain ⟨v, h1, h2, h3⟩ := h s ((e s).mp hs) k hk ht
  exact ⟨v, h1, h2, (e v).mpr h3⟩
theorem RL.iff {rs : Nat → Nat} {rv : Nat → Int32} {dp : Nat} {L L' : Nat → Prop} (h : RL rs rv dp L) (e : ∀ s, L' s ↔ L s) : RL rs rv dp L' := fun k hk ht => by
  obtain ⟨v, h1, h2, h3⟩ := h k hk ht
  exact ⟨v, h1, h2, (e v).mpr h3⟩
/-- marking goes on -/
theorem Inv.mark {x : XS} (h : Inv x) (hp : x.ph = 0 ∨ x.ph = 1) {g : GT} (hj : JP x.siz x.srt x.val (Lv x.col x.wh) g) (hr : Gr (Lv x.col x.wh) x.G g) (md : Int32) : Inv (XS.mk x.rs x.rv x.dp g.1 x.siz x.srt x.val x.fre g.2.1 x.most x.fc g.2.2 x.us x.ob x.wh 1 x.sw md x.made x.full) ∧ Shr x (XS.mk x.rs x.rv x.dp g.1 x.siz x.srt x.val x.fre g.2.1 x.most x.fc g.2.2 x.us x.ob x.wh 1 x.sw md x.made x.full) := by
  obtain ⟨⟨t1, t2, t3, t4, t5, t6, t7⟩, h1, h2, h3, h4, h5, h6, h7⟩ := id h
  have e0 : ∀ s, s < 1600 → (g.1 s = 0 ↔ x.col s = 0) := fun s _ => hr.zero
  have el := Lv.mark h hp hr
  refine ⟨⟨⟨hj.2.2.1, t2, t3, t4, t5, t6, t7⟩, hj.1, h2.congr e0, h3.congr e0, h4.congr e0, h5.iff el, h6.iff el, Or.inr (Or.inl ⟨rfl, fun s hs => ?_, hj.2.2.2.2.2⟩)⟩, rfl, rfl, rfl, rfl, rfl, rfl, rfl, rfl, rfl, fun s hs => (el s).mp hs⟩
  show g.1 s ≠ 3 - x.wh
  rcases hr s with e | ⟨-, -, -, q⟩
  · rw [e]; exact h.lv hp hs
  · omega
/-- the turn: all reached is black -/
theorem Inv.turn {x : XS} (h : Inv x) (hp : x.ph = 1) {g : GT} (hj : JP x.siz x.srt x.val (Lv x.col x.wh) g) (hr : Gr (Lv x.col x.wh) x.G g) (h0 : g.2.2 = 0) (hb : ∀ k, k < 10 + x.dp → x.rs k = 2 → ∀ v, v < 1600 → x.rv k = nI v → g.1 v = 3 ∨ g.1 v = 4) : Inv (XS.mk x.rs x.rv x.dp g.1 x.siz x.srt x.val x.fre g.2.1 x.most x.fc g.2.2 x.us x.ob (3 - x.wh) 2 0 x.md x.made x.full) ∧ Shr x (XS.mk x.rs x.rv x.dp g.1 x.siz x.srt x.val x.fre g.2.1 x.most x.fc g.2.2 x.us x.ob (3 - x.wh) 2 0 x.md x.made x.full) := by
  obtain ⟨⟨t1, t2, t3, t4, t5, t6, t7⟩, h1, h2, h3, h4, h5, h6, h7⟩ := id h
  have e0 : ∀ s, s < 1600 → (g.1 s = 0 ↔ x.col s = 0) := fun s _ => hr.zero
  have el := Lv.mark h (Or.inr hp) hr
  have n3 : ∀ s, s < 1600 → g.1 s ≠ 3 := fun s hs => hj.1.none h0 hs
  have lb : ∀ s, Lv g.1 (3 - x.wh) s → g.1 s = 4 := fun s hs => by
    have a1 := n3 s hs.1
    have a2 := hs.2.2
    have a3 := hs.2.1
    have a4 := hj.2.2.1 s
    have a5 : g.1 s ≠ 3 - x.wh := by
      rcases hr s with e | ⟨-, -, -, q⟩
      · rw [e]; exact h.lv (Or.inr hp) hs.1
      · omega
    omega
  have bl : ∀ s, s < 1600 → g.1 s = 4 → Lv g.1 (3 - x.wh) s := fun s hs e => ⟨hs, by omega, by omega⟩
  refine ⟨⟨⟨hj.2.2.1, t2, t3, t4, t5, t6, show 3 - x.wh = 1 ∨ 3 - x.wh = 2 by omega⟩, hj.1, h2.congr e0, h3.congr e0, h4.congr e0, fun s hs k hk ht => ?_, fun k hk ht => ?_, Or.inr (Or.inr ⟨rfl, Nat.zero_le _, n3, fun s hs => absurd hs (Nat.not_lt_zero s)⟩)⟩, rfl, rfl, rfl, rfl, rfl, rfl, rfl, rfl, rfl, fun s hs => (el s).mp ?_⟩
  · have hs : Lv g.1 (3 - x.wh) s := hs
    have e4 := lb s hs
    obtain ⟨v, q1, q2, q3⟩ := h5 s ((el s).mp ⟨hs.1, by omega, by omega⟩) k hk ht
    have := hj.2.2.2.2.2 s hs.1 e4 k hk ht v q1 q2
    exact ⟨v, q1, q2, bl v q1 (by have := n3 v q1; omega)⟩
  · obtain ⟨v, q1, q2, q3⟩ := h6 k hk ht
    have := hb k hk ht v q1 q2
    exact ⟨v, q1, q2, bl v q1 (by have := n3 v q1; omega)⟩
  · have hs : Lv g.1 (3 - x.wh) s := hs
    have e4 := lb s hs
    exact ⟨hs.1, by omega, by omega⟩
theorem Inv.any {x : XS} (h : Inv x) (md : Int32) : Inv (XS.mk x.rs x.rv x.dp x.col x.siz x.srt x.val x.fre x.gry x.most x.fc x.gc x.us x.ob x.wh x.ph x.sw md x.made x.full) ∧ Shr x (XS.mk x.rs x.rv x.dp x.col x.siz x.srt x.val x.fre x.gry x.most x.fc x.gc x.us x.ob x.wh x.ph x.sw md x.made x.full) := ⟨h, Shr.rfl'⟩
theorem Inv.dropok {x : XS} (h : Inv x) {s : Nat} (hs : s < 1600) (hc : x.col s ≠ 0) : x.fc < 1600 ∧ 2 + x.siz s ≤ x.us ∧ 1 ≤ x.ob := ⟨(h.2.2.1.drop hs hc).1, (h.2.2.2.1.drop hs hc).1, (h.2.2.2.2.1.drop hs hc).1⟩
theorem Inv.sweep {x : XS} (h : Inv x) (hp : x.ph = 2) (hs : x.sw < 1600) : Inv (swp x) ∧ Shr x (swp x) ∧ (swp x).ph = 2 ∧ (swp x).sw = x.sw + 1 := by
  obtain ⟨⟨t1, t2, t3, t4, t5, t6, t7⟩, h1, h2, h3, h4, h5, h6, h7⟩ := id h
  obtain ⟨p1, p2, p3⟩ : x.sw ≤ 1600 ∧ (∀ s, s < 1600 → x.col s ≠ 3) ∧ ∀ s, s < x.sw → x.col s = 0 ∨ x.col s = x.wh := by
    rcases h7 with ⟨q, -⟩ | ⟨q, -⟩ | ⟨-, q⟩
    · omega
    · omega
    · exact q
  by_cases c4 : x.col x.sw = 4
  · rw [swp_4 c4]
    have e0 : ∀ s, s < 1600 → (va_up x.col x.sw x.wh s = 0 ↔ x.col s = 0) := fun s _ => by
      by_cases q : s = x.sw
      · rw [q, va_up_self]; omega
      · rw [va_up_ne _ _ q]
    have el : ∀ s, Lv (va_up x.col x.sw x.wh) x.wh s ↔ Lv x.col x.wh s := fun s => by
      unfold Lv
      by_cases q : s = x.sw
      · rw [q, va_up_self]; omega
      · rw [va_up_ne _ _ q]
    refine ⟨⟨⟨fun i => ?_, t2, t3, t4, t5, t6, t7⟩, ⟨fun i hi => ?_, h1.2.1, fun s hs2 e => ?_⟩, h2.congr e0, h3.congr e0, h4.congr e0, h5.iff el, h6.iff el, Or.inr (Or.inr ⟨hp, show x.sw + 1 ≤ 1600 by omega, fun s hs2 => ?_, fun s hs2 => ?_⟩)⟩, ⟨rfl, rfl, rfl, rfl, rfl, rfl, rfl, rfl, rfl, fun s hs2 => (el s).mp hs2⟩, hp, rfl⟩
    · show va_up x.col x.sw x.wh i ≤ 4
      by_cases q : i = x.sw
      · rw [q, va_up_self]; omega
      · rw [va_up_ne _ _ q]; exact t1 i
    · exact absurd (h1.1 i hi).2 (p2 _ (h1.1 i hi).1)
    · exfalso
      have e : va_up x.col x.sw x.wh s = 3 := e
      by_cases q : s = x.sw
      · rw [q, va_up_self] at e; omega
      · rw [va_up_ne _ _ q] at e; exact p2 s hs2 e
    · show va_up x.col x.sw x.wh s ≠ 3
      by_cases q : s = x.sw
      · rw [q, va_up_self]; omega
      · rw [va_up_ne _ _ q]; exact p2 s hs2
    · show va_up x.col x.sw x.wh s = 0 ∨ va_up x.col x.sw x.wh s = x.wh
      have hs2 : s < x.sw + 1 := hs2
      by_cases q : s = x.sw
      · rw [q, va_up_self]; exact Or.inr rfl
      · rw [va_up_ne _ _ q]; exact p3 s (by omega)
  · by_cases cd : x.col x.sw ≠ 0 ∧ x.col x.sw ≠ x.wh
    · rw [swp_d c4 cd.1 cd.2]
      have hd : x.col x.sw = 3 - x.wh := by
        have := t1 x.sw
        have := p2 x.sw hs
        omega
      have el : ∀ s, Lv (va_up x.col x.sw 0) x.wh s ↔ Lv x.col x.wh s := fun s => by
        unfold Lv
        by_cases q : s = x.sw
        · rw [q, va_up_self]; omega
        · rw [va_up_ne _ _ q]
      refine ⟨⟨⟨fun i => ?_, t2, t3, t4, t5, t6, t7⟩, ⟨fun i hi => ?_, h1.2.1, fun s hs2 e => ?_⟩, (h2.drop hs cd.1).2, (h3.drop hs cd.1).2, (h4.drop hs cd.1).2, h5.iff el, h6.iff el, Or.inr (Or.inr ⟨hp, show x.sw + 1 ≤ 1600 by omega, fun s hs2 => ?_, fun s hs2 => ?_⟩)⟩, ⟨rfl, rfl, rfl, rfl, rfl, rfl, rfl, rfl, rfl, fun s hs2 => (el s).mp hs2⟩, hp, rfl⟩
      · show va_up x.col x.sw 0 i ≤ 4
        by_cases q : i = x.sw
        · rw [q, va_up_self]; omega
        · rw [va_up_ne _ _ q]; exact t1 i
      · exact absurd (h1.1 i hi).2 (p2 _ (h1.1 i hi).1)
      · exfalso
        have e : va_up x.col x.sw 0 s = 3 := e
        by_cases q : s = x.sw
        · rw [q, va_up_self] at e; omega
        · rw [va_up_ne _ _ q] at e; exact p2 s hs2 e
      · show va_up x.col x.sw 0 s ≠ 3
        by_cases q : s = x.sw
        · rw [q, va_up_self]; omega
        · rw [va_up_ne _ _ q]; exact p2 s hs2
      · show va_up x.col x.sw 0 s = 0 ∨ va_up x.col x.sw 0 s = x.wh
        have hs2 : s < x.sw + 1 := hs2
        by_cases q : s = x.sw
        · rw [q, va_up_self]; exact Or.inl rfl
        · rw [va_up_ne _ _ q]; exact p3 s (by omega)
    · have cn : x.col x.sw = 0 ∨ x.col x.sw = x.wh := by omega
      rw [swp_n c4 cn]
      refine ⟨⟨⟨t1, t2, t3, t4, t5, t6, t7⟩, h1, h2, h3, h4, h5, h6, Or.inr (Or.inr ⟨hp, show x.sw + 1 ≤ 1600 by omega, p2, fun s hs2 => ?_⟩)⟩, ⟨rfl, rfl, rfl, rfl, rfl, rfl, rfl, rfl, rfl, fun s hs2 => hs2⟩, hp, rfl⟩
      have hs2 : s < x.sw + 1 := hs2
      show x.col s = 0 ∨ x.col s = x.wh
      by_cases q : s = x.sw
      · rw [q]; exact cn
      · exact p3 s (by omega)
theorem Inv.rest {x : XS} (h : Inv x) (hp : x.ph = 2) (ph : Nat) (e : ph = if x.sw = 1600 then 0 else 2) : Inv (XS.mk x.rs x.rv x.dp x.col x.siz x.srt x.val x.fre x.gry x.most x.fc x.gc x.us x.ob x.wh ph x.sw x.md x.made x.full) ∧ Shr x (XS.mk x.rs x.rv x.dp x.col x.siz x.srt x.val x.fre x.gry x.most x.fc x.gc x.us x.ob x.wh ph x.sw x.md x.made x.full) := by
  obtain ⟨⟨t1, t2, t3, t4, t5, t6, t7⟩, h1, h2, h3, h4, h5, h6, h7⟩ := id h
  obtain ⟨p1, p2, p3⟩ : x.sw ≤ 1600 ∧ (∀ s, s < 1600 → x.col s ≠ 3) ∧ ∀ s, s < x.sw → x.col s = 0 ∨ x.col s = x.wh := by
    rcases h7 with ⟨q, -⟩ | ⟨q, -⟩ | ⟨-, q⟩
    · omega
    · omega
    · exact q
  refine ⟨⟨⟨t1, t2, t3, t4, t5, t6, t7⟩, h1, h2, h3, h4, h5, h6, ?_⟩, rfl, rfl, rfl, rfl, rfl, rfl, rfl, rfl, rfl, fun s hs => hs⟩
  by_cases q : x.sw = 1600
  · rw [if_pos q] at e
    exact Or.inl ⟨e, fun s hs => p3 s (by omega)⟩
  · rw [if_neg q] at e
    exact Or.inr (Or.inr ⟨e, p1, p2, p3⟩)
end
section
/-! all(): what is reached stays, all else goes -/
theorem JP.roots {x : XS} {P : Nat → Prop} (hJ : JP x.siz x.srt x.val P x.G) (hR : RL x.rs x.rv x.dp P) : JP x.siz x.srt x.val P (mkN x.G x.rs x.rv 0 (10 + x.dp)) ∧ Gr P x.G (mkN x.G x.rs x.rv 0 (10 + x.dp)) ∧ ∀ k, k < 10 + x.dp → x.rs k = 2 → ∀ v, v < 1600 → x.rv k = nI v → (mkN x.G x.rs x.rv 0 (10 + x.dp)).1 v = 3 ∨ (mkN x.G x.rs x.rv 0 (10 + x.dp)).1 v = 4 := by
  have hv : ∀ k, k < 10 + x.dp → x.rs (0 + k) = 2 → ∃ v, v < 1600 ∧ x.rv (0 + k) = nI v ∧ P v := fun k hk ht => by
    rw [Nat.zero_add] at ht ⊢
    exact hR k hk ht
  obtain ⟨a1, a2, a3, a4, a5, a6⟩ := mkN_all (P := P) (t := x.rs) (w := x.rv) (o := 0) hJ.1 hJ.2.2.1 (fun s hs => (hJ.2.2.2.1 s hs).2) (10 + x.dp) hv
  refine ⟨hJ.marks hv, a2, fun k hk ht v hv1 hv2 => a6 k hk (by rw [Nat.zero_add]; exact ht) v hv1 (by rw [Nat.zero_add]; exact hv2)⟩
theorem Inv.markG {x : XS} (h : Inv x) (hp : x.ph = 1) {g : GT} (hj : JP x.siz x.srt x.val (Lv x.col x.wh) g) (hr : Gr (Lv x.col x.wh) x.G g) : Inv (x.sG g) ∧ Shr x (x.sG g) ∧ (x.sG g).ph = 1 := by
  have h1 := h.mark (Or.inr hp) hj hr x.md
  rw [← hp] at h1
  exact ⟨h1.1, h1.2, hp⟩
/-- reached from registers and stack -/
def RX (x : XS) (s : Nat) : Prop := ∀ Q : Nat → Prop, (∀ k v, k < 10 + x.dp → x.rs k = 2 → v < 1600 → x.rv k = nI v → Q v) → (∀ a k v, Q a → k < x.siz a → x.srt (20 * a + k) = 2 → v < 1600 → x.val (20 * a + k) = nI v → Q v) → Q s
theorem RX.root {x : XS} {k v : Nat} (hk : k < 10 + x.dp) (ht : x.rs k = 2) (hv : v < 1600) (he : x.rv k = nI v) : RX x v := fun _ h1 _ => h1 k v hk ht hv he
theorem RX.step {x : XS} {a k v : Nat} (h : RX x a) (hk : k < x.siz a) (ht : x.srt (20 * a + k) = 2) (hv : v < 1600) (he : x.val (20 * a + k) = nI v) : RX x v := fun Q h1 h2 => h2 a k v (h Q h1 h2) hk ht hv he
theorem Inv.rx {x : XS} (h : Inv x) {s : Nat} (hr : RX x s) : Lv x.col x.wh s := by
  refine hr (Lv x.col x.wh) (fun k v hk ht hv he => ?_) (fun a k v ha hk ht hv he => ?_)
  · obtain ⟨v', q1, q2, q3⟩ := h.2.2.2.2.2.2.1 k hk ht
    rw [(nI_eq (by omega) (by omega)).mp (he.symm.trans q2)]
    exact q3
  · obtain ⟨v', q1, q2, q3⟩ := h.2.2.2.2.2.1 a ha k hk ht
    rw [(nI_eq (by omega) (by omega)).mp (he.symm.trans q2)]
    exact q3
theorem Inv.rl {x : XS} (h : Inv x) : RL x.rs x.rv x.dp (RX x) := fun k hk ht => by
  obtain ⟨v, q1, q2, q3⟩ := h.2.2.2.2.2.2.1 k hk ht
  exact ⟨v, q1, q2, RX.root hk ht q1 q2⟩
theorem Inv.rcl {x : XS} (h : Inv x) : CL x.siz x.srt x.val (RX x) := fun s hs k hk ht => by
  obtain ⟨v, q1, q2, q3⟩ := h.2.2.2.2.2.1 s (h.rx hs) k hk ht
  exact ⟨v, q1, q2, hs.step hk ht q1 q2⟩
def cw (x : XS) (k : Nat) : Nat → Nat := fun s => if s < k ∧ x.col s ≠ 0 then x.wh else x.col s
theorem cw_0 (x : XS) : cw x 0 = x.col := by
  funext s
  unfold cw
  rw [if_neg (fun q => absurd q.1 (Nat.not_lt_zero s))]
theorem cw_at (x : XS) (k : Nat) : cw x k k = x.col k := by
  unfold cw
  rw [if_neg (fun q => absurd q.1 (Nat.lt_irrefl k))]
theorem cw_s1 {x : XS} {k : Nat} (h : x.col k ≠ 0) : va_up (cw x k) k x.wh = cw x (k + 1) := by
  funext s
  by_cases q : s = k
  · rw [q, va_up_self]
    unfold cw
    rw [if_pos ⟨by omega, h⟩]
  · rw [va_up_ne _ _ q]
    unfold cw
    by_cases q2 : s < k ∧ x.col s ≠ 0
    · rw [if_pos q2, if_pos ⟨by omega, q2.2⟩]
    · rw [if_neg q2, if_neg (fun z => q2 ⟨by omega, z.2⟩)]
theorem cw_s0 {x : XS} {k : Nat} (h : x.col k = 0) : cw x k = cw x (k + 1) := by
  funext s
  unfold cw
  by_cases q2 : s < k ∧ x.col s ≠ 0
  · rw [if_pos q2, if_pos ⟨by omega, q2.2⟩]
  · rw [if_neg q2, if_neg (fun z => q2 ⟨by
      have : s ≠ k := fun e => z.2 (by rw [e]; exact h)
      omega, z.2⟩)]
theorem cw_in {x : XS} (h : Inv x) {s : Nat} (hs : s < 1600) : (x.col s = 0 ∧ cw x 1600 s = 0) ∨ (x.col s ≠ 0 ∧ cw x 1600 s = x.wh) := by
  unfold cw
  by_cases q : x.col s = 0
  · exact Or.inl ⟨q, by rw [if_neg (fun z => z.2 q)]; exact q⟩
  · exact Or.inr ⟨q, by rw [if_pos ⟨hs, q⟩]⟩
theorem cw_4 {x : XS} (h : Inv x) (k i : Nat) : cw x k i ≤ 4 := by
  have h1 := h.1.1 i
  have h2 := h.1.2.2.2.2.2.2
  unfold cw
  split <;> omega
theorem Inv.jp0 {x : XS} (h : Inv x) : JP x.siz x.srt x.val (RX x) (cw x 1600, x.gry, 0) := by
  have hw := h.1.2.2.2.2.2.2
  have n3 : ∀ s, s < 1600 → cw x 1600 s ≠ 3 ∧ cw x 1600 s ≠ 4 := fun s hs => by
    have := cw_in h hs
    omega
  refine ⟨⟨fun i hi => absurd hi (Nat.not_lt_zero i), fun i j hi => absurd hi (Nat.not_lt_zero i), fun s hs e => absurd e (n3 s hs).1⟩, fun s hs e => ?_, cw_4 h 1600, fun s hs => ?_, fun s hs => ⟨h.1.2.1 s, h.rcl s hs⟩, fun s hs e => absurd e (n3 s hs).2⟩
  · exfalso
    have := n3 s hs
    rcases e with e | e
    · exact this.1 e
    · exact this.2 e
  · have hl := h.rx hs
    refine ⟨hl.1, ?_⟩
    show cw x 1600 s ≠ 0
    have := cw_in h hl.1
    have := hl.2.1
    omega
/-- what is black behind it is what is reached -/
theorem Inv.black {x : XS} (h : Inv x) {g : GT} (hj : JP x.siz x.srt x.val (RX x) g) (hr : Gr (RX x) (cw x 1600, x.gry, 0) g) (h0 : g.2.2 = 0) (hb : ∀ k, k < 10 + x.dp → x.rs k = 2 → ∀ v, v < 1600 → x.rv k = nI v → g.1 v = 3 ∨ g.1 v = 4) : ∀ s, s < 1600 → (g.1 s = 4 ↔ RX x s) ∧ (g.1 s = 0 ∨ g.1 s = x.wh ∨ g.1 s = 4) ∧ (g.1 s = 0 ↔ x.col s = 0) := by
  have hw := h.1.2.2.2.2.2.2
  have n3 : ∀ s, s < 1600 → g.1 s ≠ 3 := fun s hs => hj.1.none h0 hs
  intro s hs
  refine ⟨⟨fun e => hj.2.1 s hs (Or.inr e), fun hx => ?_⟩, ?_, ?_⟩
  · have := hx (fun s => s < 1600 ∧ g.1 s = 4) (fun k v hk ht hv he => ⟨hv, by
      have a := hb k hk ht v hv he
      have b := n3 v hv
      omega⟩) (fun a k v ha hk ht hv he => ⟨hv, by
      have a := hj.2.2.2.2.2 a ha.1 ha.2 k hk ht v hv he
      have b := n3 v hv
      omega⟩)
    exact this.2
  · rcases hr s with e | ⟨-, -, -, q⟩
    · have e : g.1 s = cw x 1600 s := e
      have := cw_in h hs
      omega
    · have := n3 s hs
      omega
  · rw [hr.zero]
    show cw x 1600 s = 0 ↔ _
    have := cw_in h hs
    omega
def LA (x : XS) (g : GT) (k : Nat) (y : XS) : Prop := y.rs = x.rs ∧ y.rv = x.rv ∧ y.dp = x.dp ∧ y.siz = x.siz ∧ y.srt = x.srt ∧ y.val = x.val ∧ y.most = x.most ∧ y.made = x.made ∧ y.full = x.full ∧ y.wh = x.wh ∧ y.gc = 0 ∧ FL y.col y.fre y.fc ∧ US y.col y.siz y.us ∧ OB y.col y.ob ∧ (∀ i, y.col i ≤ 4) ∧ (∀ s, s < 1600 → y.col s = if s < k then (if g.1 s = 4 then x.wh else 0) else g.1 s)
theorem LA.start {x : XS} (h : Inv x) {g : GT} (h4 : ∀ i, g.1 i ≤ 4) (hg : ∀ s, s < 1600 → (g.1 s = 0 ↔ x.col s = 0)) (h0 : g.2.2 = 0) : LA x g 0 (x.sG g) :=
  ⟨rfl, rfl, rfl, rfl, rfl, rfl, rfl, rfl, rfl, rfl, h0, h.2.2.1.congr hg, h.2.2.2.1.congr hg, h.2.2.2.2.1.congr hg, h4, fun s _ => by rw [if_neg (Nat.not_lt_zero s)]; rfl⟩
theorem LA.at {x : XS} {g : GT} {k : Nat} {y : XS} (h : LA x g k y) (hk : k < 1600) : y.col k = g.1 k := by
  have := h.2.2.2.2.2.2.2.2.2.2.2.2.2.2.2 k hk
  rw [if_neg (Nat.lt_irrefl k)] at this
  exact this
theorem LA.next {x : XS} {g : GT} {k : Nat} {y : XS} (h : LA x g k y) {col : Nat → Nat} (hne : ∀ s, s ≠ k → col s = y.col s) (hk : col k = if g.1 k = 4 then x.wh else 0) : ∀ s, s < 1600 → col s = if s < k + 1 then (if g.1 s = 4 then x.wh else 0) else g.1 s := by
  intro s hs
  by_cases q : s = k
  · rw [q, if_pos (by omega)]; exact hk
  · rw [hne s q, h.2.2.2.2.2.2.2.2.2.2.2.2.2.2.2 s hs]
    by_cases q2 : s < k
    · rw [if_pos q2, if_pos (show s < k + 1 by omega)]
    · rw [if_neg q2, if_neg (by omega)]
theorem LA.drop {x : XS} {g : GT} {k : Nat} {y : XS} (h : LA x g k y) (hk : k < 1600) (hw : x.wh = 1 ∨ x.wh = 2) (hc : y.col k = y.wh) : (y.fc < 1600 ∧ 2 + y.siz k ≤ y.us ∧ 1 ≤ y.ob) ∧ LA x g (k + 1) (XS.mk y.rs y.rv y.dp (va_up y.col k 0) y.siz y.srt y.val (va_up y.fre y.fc k) y.gry y.most (y.fc + 1) y.gc (y.us - (2 + y.siz k)) (y.ob - 1) y.wh y.ph y.sw y.md y.made y.full) := by
  have ha := h.at hk
  obtain ⟨a1, a2, a3, a4, a5, a6, a7, a8, a9, a10, a11, a12, a13, a14, a15, a16⟩ := id h
  have hne : y.col k ≠ 0 := by rw [hc, a10]; omega
  refine ⟨⟨(a12.drop hk hne).1, (a13.drop hk hne).1, (a14.drop hk hne).1⟩, a1, a2, a3, a4, a5, a6, a7, a8, a9, a10, a11, (a12.drop hk hne).2, (a13.drop hk hne).2, (a14.drop hk hne).2, fun i => ?_, h.next (fun s q => va_up_ne _ _ q) ?_⟩
  · show va_up y.col k 0 i ≤ 4
    by_cases q : i = k
    · rw [q, va_up_self]; omega
    · rw [va_up_ne _ _ q]; exact a15 i
  · show va_up y.col k 0 k = _
    rw [va_up_self, if_neg (by rw [← ha, hc, a10]; omega)]
theorem LA.four {x : XS} {g : GT} {k : Nat} {y : XS} (h : LA x g k y) (hk : k < 1600) (hw : x.wh = 1 ∨ x.wh = 2) (hc : y.col k = 4) : LA x g (k + 1) (XS.mk y.rs y.rv y.dp (va_up y.col k y.wh) y.siz y.srt y.val y.fre y.gry y.most y.fc y.gc y.us y.ob y.wh y.ph y.sw y.md y.made y.full) := by
  have ha := h.at hk
  obtain ⟨a1, a2, a3, a4, a5, a6, a7, a8, a9, a10, a11, a12, a13, a14, a15, a16⟩ := id h
  have e0 : ∀ s, s < 1600 → (va_up y.col k y.wh s = 0 ↔ y.col s = 0) := fun s _ => by
    by_cases q : s = k
    · rw [q, va_up_self, hc, a10]; omega
    · rw [va_up_ne _ _ q]
  refine ⟨a1, a2, a3, a4, a5, a6, a7, a8, a9, a10, a11, a12.congr e0, a13.congr e0, a14.congr e0, fun i => ?_, h.next (fun s q => va_up_ne _ _ q) ?_⟩
  · show va_up y.col k y.wh i ≤ 4
    by_cases q : i = k
    · rw [q, va_up_self, a10]; omega
    · rw [va_up_ne _ _ q]; exact a15 i
  · show va_up y.col k y.wh k = _
    rw [va_up_self, if_pos (by rw [← ha]; exact hc), a10]
theorem LA.skip {x : XS} {g : GT} {k : Nat} {y : XS} (h : LA x g k y) (hk : k < 1600) (hg : g.1 k = 0 ∨ g.1 k = x.wh ∨ g.1 k = 4) (h1 : y.col k ≠ y.wh) (h2 : y.col k ≠ 4) : LA x g (k + 1) y := by
  have ha := h.at hk
  obtain ⟨a1, a2, a3, a4, a5, a6, a7, a8, a9, a10, a11, a12, a13, a14, a15, a16⟩ := id h
  refine ⟨a1, a2, a3, a4, a5, a6, a7, a8, a9, a10, a11, a12, a13, a14, a15, h.next (fun s _ => rfl) ?_⟩
  rw [a10] at h1
  rw [if_neg (by rw [← ha]; exact h2)]
  omega
theorem LA.done {x : XS} (h : Inv x) {g : GT} (hg : ∀ s, s < 1600 → (g.1 s = 4 ↔ RX x s)) {y : XS} (hy : LA x g 1600 y) (md : Int32) : Inv (XS.mk y.rs y.rv y.dp y.col y.siz y.srt y.val y.fre y.gry y.most y.fc y.gc y.us y.ob y.wh 0 y.sw md y.made y.full) ∧ Shr x (XS.mk y.rs y.rv y.dp y.col y.siz y.srt y.val y.fre y.gry y.most y.fc y.gc y.us y.ob y.wh 0 y.sw md y.made y.full) ∧ ∀ s, s < 1600 → (y.col s ≠ 0 ↔ RX x s) := by
  obtain ⟨⟨t1, t2, t3, t4, t5, t6, t7⟩, h1, h2, h3, h4, h5, h6, h7⟩ := id h
  obtain ⟨a1, a2, a3, a4, a5, a6, a7, a8, a9, a10, a11, a12, a13, a14, a15, a16⟩ := id hy
  have hc : ∀ s, s < 1600 → (y.col s = x.wh ∧ RX x s) ∨ (y.col s = 0 ∧ ¬ RX x s) := fun s hs => by
    rw [a16 s hs, if_pos hs]
    by_cases q : g.1 s = 4
    · rw [if_pos q]; exact Or.inl ⟨rfl, (hg s hs).mp q⟩
    · rw [if_neg q]; exact Or.inr ⟨rfl, fun z => q ((hg s hs).mpr z)⟩
  have el : ∀ s, Lv y.col y.wh s ↔ RX x s := fun s => by
    constructor
    · intro hl
      rcases hc s hl.1 with q | q
      · exact q.2
      · exact absurd q.1 hl.2.1
    · intro hr
      have hs := (h.rx hr).1
      rcases hc s hs with q | q
      · exact ⟨hs, by omega, by rw [a10]; omega⟩
      · exact absurd hr q.2
  refine ⟨⟨⟨a15, ?_, ?_, ?_, ?_, ?_, ?_⟩, ⟨fun i hi => ?_, fun i j hi => ?_, fun s hs e => ?_⟩, a12, a13, a14, ?_, ?_, Or.inl ⟨rfl, fun s hs => ?_⟩⟩, ⟨a1, a2, a3, a4, a5, a6, a7, a8, a9, fun s hs => h.rx ((el s).mp hs)⟩, fun s hs => ?_⟩
  · show ∀ i, y.siz i ≤ 20
    rw [a4]; exact t2
  · show ∀ i, y.srt i ≤ 2
    rw [a5]; exact t3
  · show ∀ i, y.rs i ≤ 2
    rw [a1]; exact t4
  · show y.dp ≤ 50
    rw [a3]; exact t5
  · show y.most ≤ 3000
    rw [a7]; exact t6
  · show y.wh = 1 ∨ y.wh = 2
    rw [a10]; exact t7
  · have hi : i < y.gc := hi
    omega
  · have hi : i < y.gc := hi
    omega
  · exfalso
    have e : y.col s = 3 := e
    have := hc s hs
    omega
  · show CL y.siz y.srt y.val (Lv y.col y.wh)
    rw [a4, a5, a6]
    exact h.rcl.iff el
  · show RL y.rs y.rv y.dp (Lv y.col y.wh)
    rw [a1, a2, a3]
    exact h.rl.iff el
  · show y.col s = 0 ∨ y.col s = y.wh
    have := hc s hs
    omega
  · rcases hc s hs with q | q
    · exact ⟨fun _ => q.2, fun _ => by omega⟩
    · exact ⟨fun z => absurd q.1 z, fun z => absurd z q.2⟩
end
section
/-! Heap.turn, slice, all, has -/
set_option maxHeartbeats 4000000 in
set_option maxRecDepth 100000 in
theorem c_H_turn (l : Launch) (E : KX) (x : XS) (P : Nat → Prop) (hJ : JP x.siz x.srt x.val P x.G) (hT : TY x) (hR : RL x.rs x.rv x.dp P) : Xv l E y_H_turn w_H_turn rm_H_turn [.ref (E.ad 4)] x (fun x' => ∃ g : GT, JP x.siz x.srt x.val P g ∧ Gr P x.G g ∧ g.2.2 = 0 ∧ (∀ k, k < 10 + x.dp → x.rs k = 2 → ∀ v, v < 1600 → x.rv k = nI v → g.1 v = 3 ∨ g.1 v = 4) ∧ x' = XS.mk x.rs x.rv x.dp g.1 x.siz x.srt x.val x.fre g.2.1 x.most x.fc g.2.2 x.us x.ob (3 - x.wh) 2 0 x.md x.made x.full) := by
  refine r_metv (by decide) (Nat.le_of_ble_eq_true rfl) ?_
  intro p e s m args below meth c Q ls hx hb S hK hz hend hl hP hS
  have hts := S.2.2.2.2
  have hown := S.2.2.2.1
  obtain ⟨t1, t2, t3, t4, t5, t6, t7⟩ := hT
  have loop : ∀ (n : Nat) (g : GT), mu g < n → JP x.siz x.srt x.val P g → Gr P x.G g → (∀ k, k < 10 + x.dp → x.rs k = 2 → ∀ v, v < 1600 → x.rv k = nI v → g.1 v = 3 ∨ g.1 v = 4) → ∀ (H : Heap) (locs : List Loc) (ls : Array Slot), va_P E.D classes (wXe E x.rs x.rv x.dp g.1 x.siz x.srt x.val x.fre g.2.1 x.most x.fc g.2.2 x.us x.ob x.wh x.ph x.sw x.md x.made x.full) H → va_S (AX E) s.heap H locs → lv_has ls 1 [(0, .ref (E.ad 4))] → W p l e rm_H_turn s m args below meth c H locs 0 0 Q (F0 m 8 ls []) := by
    intro n
    induction n with
    | zero => intro g h; exact absurd h (Nat.not_lt_zero _)
    | succ n ih =>
      intro g hmu hj hr hrb H locs ls hP hS hl
      have hle : g.2.2 ≤ 1600 := hj.1.le
      refine lv_aload_n hx hb d_H_turn_8 rfl (lv_at hl 0 rfl) ?_
      refine r_get hx hb hts hown hK hP 4 rfl rfl in_H 9 (by decide) kf_H_55 rfl d_H_turn_9 ?_
      refine r_ifle (tgt := 22) hx hb d_H_turn_12 (by decide) (by omega) (fun c_12 => ?_) (fun c_12 => ?_)
      · refine lv_aload_n hx hb d_H_turn_22 rfl (lv_at hl 0 rfl) ?_
        refine lv_iconst (v := nI 2) hx hb d_H_turn_23 (by decide) ?_
        refine r_put (ws' := wXe E x.rs x.rv x.dp g.1 x.siz x.srt x.val x.fre g.2.1 x.most x.fc g.2.2 x.us x.ob x.wh 2 x.sw x.md x.made x.full) hx hb hts hown hK hP (wX_D hz.1) hS 4 rfl rfl in_H t_H t_H_ok n_H 13 (by decide) kf_H_49 rfl rfl (Nat.le_of_ble_eq_true rfl) rfl d_H_turn_24 (fun H locs hP hS => ?_)
        refine lv_aload_n hx hb d_H_turn_27 rfl (lv_at hl 0 rfl) ?_
        refine lv_iconst (v := nI 0) hx hb d_H_turn_28 (by decide) ?_
        refine r_put (ws' := wXe E x.rs x.rv x.dp g.1 x.siz x.srt x.val x.fre g.2.1 x.most x.fc g.2.2 x.us x.ob x.wh 2 0 x.md x.made x.full) hx hb hts hown hK hP (wX_D hz.1) hS 4 rfl rfl in_H t_H t_H_ok n_H 14 (by decide) kf_H_76 rfl rfl (Nat.le_of_ble_eq_true rfl) rfl d_H_turn_29 (fun H locs hP hS => ?_)
        refine lv_aload_n hx hb d_H_turn_32 rfl (lv_at hl 0 rfl) ?_
        refine lv_aload_n hx hb d_H_turn_33 rfl (lv_at hl 0 rfl) ?_
        refine r_get hx hb hts hown hK hP 4 rfl rfl in_H 12 (by decide) kf_H_29 rfl d_H_turn_34 ?_
        refine lv_iconst (v := nI 1) hx hb d_H_turn_37 (by decide) ?_
        refine r_ne (tgt := 45) hx hb d_H_turn_38 (by decide) (by omega) (by omega) (fun c_38 => ?_) (fun c_38 => ?_)
        · refine lv_iconst (v := nI 1) hx hb d_H_turn_45 (by decide) ?_
          refine r_top (show nI 1 = nI (3 - x.wh) by rw [show x.wh = 2 by omega]) ?_
          refine r_put (ws' := wXe E x.rs x.rv x.dp g.1 x.siz x.srt x.val x.fre g.2.1 x.most x.fc g.2.2 x.us x.ob (3 - x.wh) 2 0 x.md x.made x.full) hx hb hts hown hK hP (wX_D hz.1) hS 4 rfl rfl in_H t_H t_H_ok n_H 12 (by decide) kf_H_29 rfl rfl (Nat.le_of_ble_eq_true rfl) rfl d_H_turn_46 (fun H locs hP hS => ?_)
          exact hend _ _ (XS.mk x.rs x.rv x.dp g.1 x.siz x.srt x.val x.fre g.2.1 x.most x.fc g.2.2 x.us x.ob (3 - x.wh) 2 0 x.md x.made x.full) _ _ hP hS d_H_turn_49 ⟨g, hj, hr, c_12, hrb, rfl⟩
        · refine lv_iconst (v := nI 2) hx hb d_H_turn_41 (by decide) ?_
          refine r_top (show nI 2 = nI (3 - x.wh) by rw [c_38]) ?_
          refine lv_goto (tgt := 46) hx hb d_H_turn_42 (by decide) ?_
          refine r_put (ws' := wXe E x.rs x.rv x.dp g.1 x.siz x.srt x.val x.fre g.2.1 x.most x.fc g.2.2 x.us x.ob (3 - x.wh) 2 0 x.md x.made x.full) hx hb hts hown hK hP (wX_D hz.1) hS 4 rfl rfl in_H t_H t_H_ok n_H 12 (by decide) kf_H_29 rfl rfl (Nat.le_of_ble_eq_true rfl) rfl d_H_turn_46 (fun H locs hP hS => ?_)
          exact hend _ _ (XS.mk x.rs x.rv x.dp g.1 x.siz x.srt x.val x.fre g.2.1 x.most x.fc g.2.2 x.us x.ob (3 - x.wh) 2 0 x.md x.made x.full) _ _ hP hS d_H_turn_49 ⟨g, hj, hr, c_12, hrb, rfl⟩
      · refine lv_aload_n hx hb d_H_turn_15 rfl (lv_at hl 0 rfl) ?_
        refine r_callv S (c_H_blacken l E (XS.mk x.rs x.rv x.dp g.1 x.siz x.srt x.val x.fre g.2.1 x.most x.fc g.2.2 x.us x.ob x.wh x.ph x.sw x.md x.made x.full) P hj t3 c_12) kc_H_blacken k0_H km_H_70 ki_H_blacken ks_H_blacken hd_H_blacken ⟨rfl, rfl⟩ ⟨by decide, by decide⟩ (zX_ok E) hz hK hP hS (fun _ h => h) 4 rfl rfl rfl hl.1 rfl (Nat.le_of_ble_eq_true rfl) ⟨Nat.zero_le _, Nat.zero_le _⟩ d_H_turn_16 (fun x1 H locs hw hP _ _ hS => ?_)
        obtain ⟨k1, k2, k3⟩ := hj.black c_12
        subst hw
        refine lv_goto (tgt := 8) hx hb d_H_turn_19 (by decide) ?_
        exact ih (blk x.siz x.srt x.val g) (by omega) k1 (hr.trans k2) (fun k hk ht v hv he => k2.keep (hrb k hk ht v hv he)) _ _ _ hP hS (lv_sub hl [0] rfl)
  refine lv_aload_n hx hb d_H_turn_0 rfl (lv_at hl 0 rfl) ?_
  refine r_get hx hb hts hown hK hP 4 rfl rfl in_H 6 (by decide) kf_H_33 rfl d_H_turn_1 ?_
  refine lv_aload_n hx hb d_H_turn_4 rfl (lv_at hl 0 rfl) ?_
  refine r_callv S (c_R_mark l E (XS.mk x.rs x.rv x.dp x.col x.siz x.srt x.val x.fre x.gry x.most x.fc x.gc x.us x.ob x.wh x.ph x.sw x.md x.made x.full) P hJ t4 t5 hR) kc_R_mark k0_R km_H_65 ki_R_mark ks_R_mark hd_R_mark ⟨rfl, rfl⟩ ⟨by decide, by decide⟩ (zX_ok E) hz hK hP hS (fun _ h => h) 1 rfl rfl rfl hl.1 rfl (Nat.le_of_ble_eq_true rfl) ⟨Nat.zero_le _, Nat.zero_le _⟩ d_H_turn_5 (fun x1 H locs hw hP _ _ hS => ?_)
  subst hw
  obtain ⟨k1, k2, k3⟩ := hJ.roots hR
  exact loop _ (mkN x.G x.rs x.rv 0 (10 + x.dp)) (Nat.lt_succ_self _) k1 k2 k3 _ _ _ hP hS (lv_sub hl [0] rfl)
end
section
set_option maxHeartbeats 4000000 in
set_option maxRecDepth 100000 in
theorem c_H_slice (l : Launch) (E : KX) (x : XS) (h : Inv x) : Xv l E y_H_slice w_H_slice rm_H_slice [.ref (E.ad 4)] x (fun x' => Inv x' ∧ Shr x x') := by
  refine r_metv (by decide) (Nat.le_of_ble_eq_true rfl) ?_
  intro p e s m args below meth c Q ls hx hb S hK hz hend hl hP hS
  have hts := S.2.2.2.2
  have hown := S.2.2.2.1
  have fin80 : ∀ (y : XS), Inv y → y.ph = 1 → Shr x y → ∀ (H : Heap) (locs : List Loc) (ls : Array Slot), va_P E.D classes (wX E y) H → va_S (AX E) s.heap H locs → lv_has ls 2 [(0, .ref (E.ad 4))] → W p l e rm_H_slice s m args below meth c H locs 0 0 Q (F0 m 80 ls []) := by
    intro y hy hph hsh H locs ls hP hS hl
    have hle : y.gc ≤ 1600 := hy.2.1.le
    refine lv_aload_n hx hb d_H_slice_80 rfl (lv_at hl 0 rfl) ?_
    refine r_get hx hb hts hown hK hP 4 rfl rfl in_H 9 (by decide) kf_H_55 rfl d_H_slice_81 ?_
    refine r_ifne (tgt := 141) hx hb d_H_slice_84 (by decide) (by omega) (fun c_84 => ?_) (fun c_84 => ?_)
    · exact hend _ _ (XS.mk y.rs y.rv y.dp y.col y.siz y.srt y.val y.fre y.gry y.most y.fc y.gc y.us y.ob y.wh y.ph y.sw y.md y.made y.full) _ _ hP hS d_H_slice_141 ⟨hy, hsh⟩
    · refine lv_aload_n hx hb d_H_slice_87 rfl (lv_at hl 0 rfl) ?_
      refine r_callv S (c_H_turn l E y (Lv y.col y.wh) (hy.jp (Or.inr hph)) hy.1 hy.2.2.2.2.2.2.1) kc_H_turn k0_H km_H_73 ki_H_turn ks_H_turn hd_H_turn ⟨rfl, rfl⟩ ⟨by decide, by decide⟩ (zX_ok E) hz hK hP hS (fun _ h => h) 4 rfl rfl rfl hl.1 rfl (Nat.le_of_ble_eq_true rfl) ⟨Nat.zero_le _, Nat.zero_le _⟩ d_H_slice_88 (fun x1 H locs hw hP _ _ hS => ?_)
      obtain ⟨g, g1, g2, g3, g4, g5⟩ := hw
      have g6 := hy.turn hph g1 g2 g3 g4
      rw [← g5] at g6
      refine lv_goto (tgt := 141) hx hb d_H_slice_91 (by decide) ?_
      exact hend _ _ (XS.mk x1.rs x1.rv x1.dp x1.col x1.siz x1.srt x1.val x1.fre x1.gry x1.most x1.fc x1.gc x1.us x1.ob x1.wh x1.ph x1.sw x1.md x1.made x1.full) _ _ hP hS d_H_slice_141 ⟨g6.1, hsh.trans g6.2⟩
  have loop1 : ∀ (n k : Nat), n + k = 4 → ∀ (y : XS), Inv y → y.ph = 1 → Shr x y → ∀ (H : Heap) (locs : List Loc) (ls : Array Slot), va_P E.D classes (wX E y) H → va_S (AX E) s.heap H locs → lv_has ls 2 [(0, .ref (E.ad 4)), (1, .int (nI k))] → W p l e rm_H_slice s m args below meth c H locs 0 0 Q (F0 m 58 ls []) := by
    intro n
    induction n with
    | zero =>
      intro k hk y hy hph hsh H locs ls hP hS hl
      refine lv_iload_n hx hb d_H_slice_58 rfl (lv_at hl 1 rfl) ?_
      refine lv_iconst (v := nI 4) hx hb d_H_slice_59 (by decide) ?_
      refine r_ge (tgt := 80) hx hb d_H_slice_60 (by decide) (by omega) (by omega) (fun c_60 => ?_) (fun c_60 => absurd c_60 (by omega))
      exact fin80 y hy hph hsh _ _ _ hP hS (lv_sub hl [0] rfl)
    | succ n ih =>
      intro k hk y hy hph hsh H locs ls hP hS hl
      have hle : y.gc ≤ 1600 := hy.2.1.le
      refine lv_iload_n hx hb d_H_slice_58 rfl (lv_at hl 1 rfl) ?_
      refine lv_iconst (v := nI 4) hx hb d_H_slice_59 (by decide) ?_
      refine r_ge (tgt := 80) hx hb d_H_slice_60 (by decide) (by omega) (by omega) (fun c_60 => absurd c_60 (by omega)) (fun c_60 => ?_)
      refine lv_aload_n hx hb d_H_slice_63 rfl (lv_at hl 0 rfl) ?_
      refine r_get hx hb hts hown hK hP 4 rfl rfl in_H 9 (by decide) kf_H_55 rfl d_H_slice_64 ?_
      refine r_ifle (tgt := 80) hx hb d_H_slice_67 (by decide) (by omega) (fun c_67 => ?_) (fun c_67 => ?_)
      · exact fin80 y hy hph hsh _ _ _ hP hS (lv_sub hl [0] rfl)
      · refine lv_aload_n hx hb d_H_slice_70 rfl (lv_at hl 0 rfl) ?_
        refine r_callv S (c_H_blacken l E y (Lv y.col y.wh) (hy.jp (Or.inr hph)) hy.1.2.2.1 c_67) kc_H_blacken k0_H km_H_70 ki_H_blacken ks_H_blacken hd_H_blacken ⟨rfl, rfl⟩ ⟨by decide, by decide⟩ (zX_ok E) hz hK hP hS (fun _ h => h) 4 rfl rfl rfl hl.1 rfl (Nat.le_of_ble_eq_true rfl) ⟨Nat.zero_le _, Nat.zero_le _⟩ d_H_slice_71 (fun x1 H locs hw hP _ _ hS => ?_)
        obtain ⟨k1, k2, k3⟩ := (hy.jp (Or.inr hph)).black c_67
        obtain ⟨i1, i2, i3⟩ := hy.markG hph k1 k2
        rw [← hw] at i1 i2 i3
        refine r_inc hx hb d_H_slice_74 hl 1 rfl (by decide) rfl (fun ls hl => ?_)
        refine lv_goto (tgt := 58) hx hb d_H_slice_77 (by decide) ?_
        exact ih (k + 1) (by omega) x1 i1 i3 (hsh.trans i2) _ _ _ hP hS (lv_sub hl [1, 0] rfl)
  have fin122 : ∀ (y : XS), Inv y → y.ph = 2 → Shr x y → ∀ (H : Heap) (locs : List Loc) (ls : Array Slot), va_P E.D classes (wX E y) H → va_S (AX E) s.heap H locs → lv_has ls 2 [(0, .ref (E.ad 4))] → W p l e rm_H_slice s m args below meth c H locs 0 0 Q (F0 m 122 ls []) := by
    intro y hy hph hsh H locs ls hP hS hl
    have hsw : y.sw ≤ 1600 := by
      rcases hy.2.2.2.2.2.2.2 with q | q | q
      · omega
      · omega
      · exact q.2.1
    refine lv_aload_n hx hb d_H_slice_122 rfl (lv_at hl 0 rfl) ?_
    refine lv_aload_n hx hb d_H_slice_123 rfl (lv_at hl 0 rfl) ?_
    refine r_get hx hb hts hown hK hP 4 rfl rfl in_H 14 (by decide) kf_H_76 rfl d_H_slice_124 ?_
    refine lv_sipush (v := nI 1600) hx hb d_H_slice_127 (by decide) ?_
    refine r_ne (tgt := 137) hx hb d_H_slice_130 (by decide) (by omega) (by omega) (fun c_130 => ?_) (fun c_130 => ?_)
    · refine lv_iconst (v := nI 2) hx hb d_H_slice_137 (by decide) ?_
      refine r_top (show nI 2 = nI (if y.sw = 1600 then 0 else 2) by rw [if_neg c_130]) ?_
      refine r_put (ws' := wXe E y.rs y.rv y.dp y.col y.siz y.srt y.val y.fre y.gry y.most y.fc y.gc y.us y.ob y.wh (if y.sw = 1600 then 0 else 2) y.sw y.md y.made y.full) hx hb hts hown hK hP (wX_D hz.1) hS 4 rfl rfl in_H t_H t_H_ok n_H 13 (by decide) kf_H_49 rfl rfl (Nat.le_of_ble_eq_true rfl) rfl d_H_slice_138 (fun H locs hP hS => ?_)
      exact hend _ _ (XS.mk y.rs y.rv y.dp y.col y.siz y.srt y.val y.fre y.gry y.most y.fc y.gc y.us y.ob y.wh (if y.sw = 1600 then 0 else 2) y.sw y.md y.made y.full) _ _ hP hS d_H_slice_141 ⟨(hy.rest hph _ rfl).1, hsh.trans (hy.rest hph _ rfl).2⟩
    · refine lv_iconst (v := nI 0) hx hb d_H_slice_133 (by decide) ?_
      refine r_top (show nI 0 = nI (if y.sw = 1600 then 0 else 2) by rw [if_pos c_130]) ?_
      refine lv_goto (tgt := 138) hx hb d_H_slice_134 (by decide) ?_
      refine r_put (ws' := wXe E y.rs y.rv y.dp y.col y.siz y.srt y.val y.fre y.gry y.most y.fc y.gc y.us y.ob y.wh (if y.sw = 1600 then 0 else 2) y.sw y.md y.made y.full) hx hb hts hown hK hP (wX_D hz.1) hS 4 rfl rfl in_H t_H t_H_ok n_H 13 (by decide) kf_H_49 rfl rfl (Nat.le_of_ble_eq_true rfl) rfl d_H_slice_138 (fun H locs hP hS => ?_)
      exact hend _ _ (XS.mk y.rs y.rv y.dp y.col y.siz y.srt y.val y.fre y.gry y.most y.fc y.gc y.us y.ob y.wh (if y.sw = 1600 then 0 else 2) y.sw y.md y.made y.full) _ _ hP hS d_H_slice_141 ⟨(hy.rest hph _ rfl).1, hsh.trans (hy.rest hph _ rfl).2⟩
  have loop2 : ∀ (n k : Nat), n + k = 16 → ∀ (y : XS), Inv y → y.ph = 2 → Shr x y → ∀ (H : Heap) (locs : List Loc) (ls : Array Slot), va_P E.D classes (wX E y) H → va_S (AX E) s.heap H locs → lv_has ls 2 [(0, .ref (E.ad 4)), (1, .int (nI k))] → W p l e rm_H_slice s m args below meth c H locs 0 0 Q (F0 m 96 ls []) := by
    intro n
    induction n with
    | zero =>
      intro k hk y hy hph hsh H locs ls hP hS hl
      refine lv_iload_n hx hb d_H_slice_96 rfl (lv_at hl 1 rfl) ?_
      refine lv_bipush (v := nI 16) hx hb d_H_slice_97 (by decide) ?_
      refine r_ge (tgt := 122) hx hb d_H_slice_99 (by decide) (by omega) (by omega) (fun c_99 => ?_) (fun c_99 => absurd c_99 (by omega))
      exact fin122 y hy hph hsh _ _ _ hP hS (lv_sub hl [0] rfl)
    | succ n ih =>
      intro k hk y hy hph hsh H locs ls hP hS hl
      have hsw : y.sw ≤ 1600 := by
        rcases hy.2.2.2.2.2.2.2 with q | q | q
        · omega
        · omega
        · exact q.2.1
      refine lv_iload_n hx hb d_H_slice_96 rfl (lv_at hl 1 rfl) ?_
      refine lv_bipush (v := nI 16) hx hb d_H_slice_97 (by decide) ?_
      refine r_ge (tgt := 122) hx hb d_H_slice_99 (by decide) (by omega) (by omega) (fun c_99 => absurd c_99 (by omega)) (fun c_99 => ?_)
      refine lv_aload_n hx hb d_H_slice_102 rfl (lv_at hl 0 rfl) ?_
      refine r_get hx hb hts hown hK hP 4 rfl rfl in_H 14 (by decide) kf_H_76 rfl d_H_slice_103 ?_
      refine lv_sipush (v := nI 1600) hx hb d_H_slice_106 (by decide) ?_
      refine r_ge (tgt := 122) hx hb d_H_slice_109 (by decide) (by omega) (by omega) (fun c_109 => ?_) (fun c_109 => ?_)
      · exact fin122 y hy hph hsh _ _ _ hP hS (lv_sub hl [0] rfl)
      · refine lv_aload_n hx hb d_H_slice_112 rfl (lv_at hl 0 rfl) ?_
        refine r_callv S (c_H_sweep l E y c_109 hy.1.1 hy.1.2.2.2.2.2.2 (fun hc => hy.dropok c_109 hc)) kc_H_sweep k0_H km_H_79 ki_H_sweep ks_H_sweep hd_H_sweep ⟨rfl, rfl⟩ ⟨by decide, by decide⟩ (zX_ok E) hz hK hP hS (fun _ h => h) 4 rfl rfl rfl hl.1 rfl (Nat.le_of_ble_eq_true rfl) ⟨Nat.zero_le _, Nat.zero_le _⟩ d_H_slice_113 (fun x1 H locs hw hP _ _ hS => ?_)
        obtain ⟨i1, i2, i3, i4⟩ := hy.sweep hph c_109
        rw [← hw] at i1 i2 i3 i4
        refine r_inc hx hb d_H_slice_116 hl 1 rfl (by decide) rfl (fun ls hl => ?_)
        refine lv_goto (tgt := 96) hx hb d_H_slice_119 (by decide) ?_
        exact ih (k + 1) (by omega) x1 i1 i3 (hsh.trans i2) _ _ _ hP hS (lv_sub hl [1, 0] rfl)
  have hph := h.ph2
  refine lv_aload_n hx hb d_H_slice_0 rfl (lv_at hl 0 rfl) ?_
  refine lv_dup hx hb d_H_slice_1 rfl ?_
  refine r_get hx hb hts hown hK hP 4 rfl rfl in_H 15 (by decide) kf_H_62 rfl d_H_slice_2 ?_
  refine lv_iconst (v := nI 1) hx hb d_H_slice_5 (by decide) ?_
  refine lv_iadd hx hb d_H_slice_6 ?_
  refine r_put (ws' := wXe E x.rs x.rv x.dp x.col x.siz x.srt x.val x.fre x.gry x.most x.fc x.gc x.us x.ob x.wh x.ph x.sw (x.md + nI 1) x.made x.full) hx hb hts hown hK hP (wX_D hz.1) hS 4 rfl rfl in_H t_H t_H_ok n_H 15 (by decide) kf_H_62 rfl rfl (Nat.le_of_ble_eq_true rfl) rfl d_H_slice_7 (fun H locs hP hS => ?_)
  refine lv_aload_n hx hb d_H_slice_10 rfl (lv_at hl 0 rfl) ?_
  refine r_get hx hb hts hown hK hP 4 rfl rfl in_H 13 (by decide) kf_H_49 rfl d_H_slice_11 ?_
  refine r_ifne (tgt := 48) hx hb d_H_slice_14 (by decide) (by omega) (fun c_14 => ?_) (fun c_14 => ?_)
  · refine lv_aload_n hx hb d_H_slice_48 rfl (lv_at hl 0 rfl) ?_
    refine r_get hx hb hts hown hK hP 4 rfl rfl in_H 13 (by decide) kf_H_49 rfl d_H_slice_49 ?_
    refine lv_iconst (v := nI 1) hx hb d_H_slice_52 (by decide) ?_
    refine r_ne (tgt := 94) hx hb d_H_slice_53 (by decide) (by omega) (by omega) (fun c_53 => ?_) (fun c_53 => ?_)
    · refine lv_iconst (v := nI 0) hx hb d_H_slice_94 (by decide) ?_
      refine lv_istore_n hx hb d_H_slice_95 rfl hl (by decide) rfl (fun ls hl => ?_)
      exact loop2 16 0 rfl (XS.mk x.rs x.rv x.dp x.col x.siz x.srt x.val x.fre x.gry x.most x.fc x.gc x.us x.ob x.wh x.ph x.sw (x.md + nI 1) x.made x.full) (h.any _).1 (show x.ph = 2 by omega) (h.any _).2 _ _ _ hP hS (lv_sub hl [1, 0] rfl)
    · refine lv_iconst (v := nI 0) hx hb d_H_slice_56 (by decide) ?_
      refine lv_istore_n hx hb d_H_slice_57 rfl hl (by decide) rfl (fun ls hl => ?_)
      exact loop1 4 0 rfl (XS.mk x.rs x.rv x.dp x.col x.siz x.srt x.val x.fre x.gry x.most x.fc x.gc x.us x.ob x.wh x.ph x.sw (x.md + nI 1) x.made x.full) (h.any _).1 c_53 (h.any _).2 _ _ _ hP hS (lv_sub hl [1, 0] rfl)
  · refine lv_aload_n hx hb d_H_slice_17 rfl (lv_at hl 0 rfl) ?_
    refine r_get hx hb hts hown hK hP 4 rfl rfl in_H 15 (by decide) kf_H_62 rfl d_H_slice_18 ?_
    refine lv_bipush (v := nI 12) hx hb d_H_slice_21 (by decide) ?_
    refine lv_icmp_ge (tgt := 27) hx hb d_H_slice_23 (by decide) (fun c_23 => ?_) (fun c_23 => ?_)
    · refine lv_aload_n hx hb d_H_slice_27 rfl (lv_at hl 0 rfl) ?_
      refine lv_iconst (v := nI 0) hx hb d_H_slice_28 (by decide) ?_
      refine r_put (ws' := wXe E x.rs x.rv x.dp x.col x.siz x.srt x.val x.fre x.gry x.most x.fc x.gc x.us x.ob x.wh x.ph x.sw (nI 0) x.made x.full) hx hb hts hown hK hP (wX_D hz.1) hS 4 rfl rfl in_H t_H t_H_ok n_H 15 (by decide) kf_H_62 rfl rfl (Nat.le_of_ble_eq_true rfl) rfl d_H_slice_29 (fun H locs hP hS => ?_)
      refine lv_aload_n hx hb d_H_slice_32 rfl (lv_at hl 0 rfl) ?_
      refine lv_iconst (v := nI 1) hx hb d_H_slice_33 (by decide) ?_
      refine r_put (ws' := wXe E x.rs x.rv x.dp x.col x.siz x.srt x.val x.fre x.gry x.most x.fc x.gc x.us x.ob x.wh 1 x.sw (nI 0) x.made x.full) hx hb hts hown hK hP (wX_D hz.1) hS 4 rfl rfl in_H t_H t_H_ok n_H 13 (by decide) kf_H_49 rfl rfl (Nat.le_of_ble_eq_true rfl) rfl d_H_slice_34 (fun H locs hP hS => ?_)
      refine lv_aload_n hx hb d_H_slice_37 rfl (lv_at hl 0 rfl) ?_
      refine r_get hx hb hts hown hK hP 4 rfl rfl in_H 6 (by decide) kf_H_33 rfl d_H_slice_38 ?_
      refine lv_aload_n hx hb d_H_slice_41 rfl (lv_at hl 0 rfl) ?_
      obtain ⟨gm, hgm⟩ : ∃ g, g = mkN x.G x.rs x.rv 0 (10 + x.dp) := ⟨_, rfl⟩
      obtain ⟨k1, k2, k3⟩ := (h.jp (Or.inl c_14)).roots h.2.2.2.2.2.2.1
      rw [← hgm] at k1 k2 k3
      refine r_callv S (c_R_mark l E (XS.mk x.rs x.rv x.dp x.col x.siz x.srt x.val x.fre x.gry x.most x.fc x.gc x.us x.ob x.wh 1 x.sw (nI 0) x.made x.full) (Lv x.col x.wh) (h.jp (Or.inl c_14)) h.1.2.2.2.1 h.1.2.2.2.2.1 h.2.2.2.2.2.2.1) kc_R_mark k0_R km_H_65 ki_R_mark ks_R_mark hd_R_mark ⟨rfl, rfl⟩ ⟨by decide, by decide⟩ (zX_ok E) hz hK hP hS (fun _ h => h) 1 rfl rfl rfl hl.1 rfl (Nat.le_of_ble_eq_true rfl) ⟨Nat.zero_le _, Nat.zero_le _⟩ d_H_slice_42 (fun x1 H locs hw hP _ _ hS => ?_)
      obtain rfl : x1 = XS.mk x.rs x.rv x.dp gm.1 x.siz x.srt x.val x.fre gm.2.1 x.most x.fc gm.2.2 x.us x.ob x.wh 1 x.sw (nI 0) x.made x.full := by rw [hgm]; exact hw
      refine lv_goto (tgt := 141) hx hb d_H_slice_45 (by decide) ?_
      exact hend _ _ (XS.mk x.rs x.rv x.dp gm.1 x.siz x.srt x.val x.fre gm.2.1 x.most x.fc gm.2.2 x.us x.ob x.wh 1 x.sw (nI 0) x.made x.full) _ _ hP hS d_H_slice_141 (h.mark (Or.inl c_14) k1 k2 _)
    · exact hend _ _ (XS.mk x.rs x.rv x.dp x.col x.siz x.srt x.val x.fre x.gry x.most x.fc x.gc x.us x.ob x.wh x.ph x.sw (x.md + nI 1) x.made x.full) _ _ hP hS d_H_slice_26 ⟨(h.any _).1, (h.any _).2⟩
end
section
set_option maxHeartbeats 4000000 in
set_option maxRecDepth 100000 in
theorem c_H_all (l : Launch) (E : KX) (x : XS) (h : Inv x) : Xv l E y_H_all w_H_all rm_H_all [.ref (E.ad 4)] x (fun x' => Inv x' ∧ Shr x x' ∧ ∀ s, s < 1600 → (x'.col s ≠ 0 ↔ RX x s)) := by
  refine r_metv (by decide) (Nat.le_of_ble_eq_true rfl) ?_
  intro p e s m args below meth c Q ls hx hb S hK hz hend hl hP hS
  have hts := S.2.2.2.2
  have hown := S.2.2.2.1
  have hw := h.1.2.2.2.2.2.2
  have loop3 : ∀ (g : GT), (∀ s, s < 1600 → (g.1 s = 4 ↔ RX x s) ∧ (g.1 s = 0 ∨ g.1 s = x.wh ∨ g.1 s = 4)) → ∀ (n k : Nat), n + k = 1600 → ∀ (y : XS), LA x g k y → ∀ (H : Heap) (locs : List Loc) (ls : Array Slot), va_P E.D classes (wX E y) H → va_S (AX E) s.heap H locs → lv_has ls 2 [(0, .ref (E.ad 4)), (1, .int (nI k))] → W p l e rm_H_all s m args below meth c H locs 0 0 Q (F0 m 64 ls []) := by
    intro g hg n
    induction n with
    | zero =>
      intro k hk y hy H locs ls hP hS hl
      have hk : k = 1600 := by omega
      subst hk
      refine lv_iload_n hx hb d_H_all_64 rfl (lv_at hl 1 rfl) ?_
      refine lv_sipush (v := nI 1600) hx hb d_H_all_65 (by decide) ?_
      refine r_ge (tgt := 119) hx hb d_H_all_68 (by decide) (by omega) (by omega) (fun c_68 => ?_) (fun c_68 => absurd c_68 (by omega))
      refine lv_aload_n hx hb d_H_all_119 rfl (lv_at hl 0 rfl) ?_
      refine lv_iconst (v := nI 0) hx hb d_H_all_120 (by decide) ?_
      refine r_put (ws' := wXe E y.rs y.rv y.dp y.col y.siz y.srt y.val y.fre y.gry y.most y.fc y.gc y.us y.ob y.wh 0 y.sw y.md y.made y.full) hx hb hts hown hK hP (wX_D hz.1) hS 4 rfl rfl in_H t_H t_H_ok n_H 13 (by decide) kf_H_49 rfl rfl (Nat.le_of_ble_eq_true rfl) rfl d_H_all_121 (fun H locs hP hS => ?_)
      refine lv_aload_n hx hb d_H_all_124 rfl (lv_at hl 0 rfl) ?_
      refine lv_iconst (v := nI 0) hx hb d_H_all_125 (by decide) ?_
      refine r_put (ws' := wXe E y.rs y.rv y.dp y.col y.siz y.srt y.val y.fre y.gry y.most y.fc y.gc y.us y.ob y.wh 0 y.sw (nI 0) y.made y.full) hx hb hts hown hK hP (wX_D hz.1) hS 4 rfl rfl in_H t_H t_H_ok n_H 15 (by decide) kf_H_62 rfl rfl (Nat.le_of_ble_eq_true rfl) rfl d_H_all_126 (fun H locs hP hS => ?_)
      exact hend _ _ (XS.mk y.rs y.rv y.dp y.col y.siz y.srt y.val y.fre y.gry y.most y.fc y.gc y.us y.ob y.wh 0 y.sw (nI 0) y.made y.full) _ _ hP hS d_H_all_129 (LA.done h (fun s hs => (hg s hs).1) hy _)
    | succ n ih =>
      intro k hk y hy H locs ls hP hS hl
      have hk1 : k < 1600 := by omega
      have h4 := hy.2.2.2.2.2.2.2.2.2.2.2.2.2.2.1 k
      have hyw : y.wh = x.wh := hy.2.2.2.2.2.2.2.2.2.1
      refine lv_iload_n hx hb d_H_all_64 rfl (lv_at hl 1 rfl) ?_
      refine lv_sipush (v := nI 1600) hx hb d_H_all_65 (by decide) ?_
      refine r_ge (tgt := 119) hx hb d_H_all_68 (by decide) (by omega) (by omega) (fun c_68 => absurd c_68 (by omega)) (fun c_68 => ?_)
      refine lv_aload_n hx hb d_H_all_71 rfl (lv_at hl 0 rfl) ?_
      refine r_get hx hb hts hown hK hP 4 rfl rfl in_H 0 (by decide) kf_H_9 rfl d_H_all_72 ?_
      refine lv_iload_n hx hb d_H_all_75 rfl (lv_at hl 1 rfl) ?_
      refine r_bald hx hb hK hP 5 0 rfl rfl (by decide) (by omega) d_H_all_76 ?_
      refine lv_aload_n hx hb d_H_all_77 rfl (lv_at hl 0 rfl) ?_
      refine r_get hx hb hts hown hK hP 4 rfl rfl in_H 12 (by decide) kf_H_29 rfl d_H_all_78 ?_
      refine r_ne (tgt := 92) hx hb d_H_all_81 (by decide) (by omega) (by omega) (fun c_81 => ?_) (fun c_81 => ?_)
      · refine lv_aload_n hx hb d_H_all_92 rfl (lv_at hl 0 rfl) ?_
        refine r_get hx hb hts hown hK hP 4 rfl rfl in_H 0 (by decide) kf_H_9 rfl d_H_all_93 ?_
        refine lv_iload_n hx hb d_H_all_96 rfl (lv_at hl 1 rfl) ?_
        refine r_bald hx hb hK hP 5 0 rfl rfl (by decide) (by omega) d_H_all_97 ?_
        refine lv_iconst (v := nI 4) hx hb d_H_all_98 (by decide) ?_
        refine r_ne (tgt := 113) hx hb d_H_all_99 (by decide) (by omega) (by omega) (fun c_99 => ?_) (fun c_99 => ?_)
        · refine r_inc hx hb d_H_all_113 hl 1 rfl (by decide) rfl (fun ls hl => ?_)
          refine lv_goto (tgt := 64) hx hb d_H_all_116 (by decide) ?_
          exact ih (k + 1) (by omega) y (hy.skip hk1 (hg k hk1).2 c_81 c_99) _ _ _ hP hS (lv_sub hl [1, 0] rfl)
        · refine lv_aload_n hx hb d_H_all_102 rfl (lv_at hl 0 rfl) ?_
          refine r_get hx hb hts hown hK hP 4 rfl rfl in_H 0 (by decide) kf_H_9 rfl d_H_all_103 ?_
          refine lv_iload_n hx hb d_H_all_106 rfl (lv_at hl 1 rfl) ?_
          refine lv_aload_n hx hb d_H_all_107 rfl (lv_at hl 0 rfl) ?_
          refine r_get hx hb hts hown hK hP 4 rfl rfl in_H 12 (by decide) kf_H_29 rfl d_H_all_108 ?_
          refine r_i2b hx hb (by omega) d_H_all_111 ?_
          refine r_bast (ws' := wXe E y.rs y.rv y.dp (va_up y.col k y.wh) y.siz y.srt y.val y.fre y.gry y.most y.fc y.gc y.us y.ob y.wh y.ph y.sw y.md y.made y.full) hx hb hK hP (wX_D hz.1) hS 5 0 rfl rfl (by decide) (by omega) (by omega) rfl d_H_all_112 (fun H locs hP hS => ?_)
          refine r_inc hx hb d_H_all_113 hl 1 rfl (by decide) rfl (fun ls hl => ?_)
          refine lv_goto (tgt := 64) hx hb d_H_all_116 (by decide) ?_
          exact ih (k + 1) (by omega) (XS.mk y.rs y.rv y.dp (va_up y.col k y.wh) y.siz y.srt y.val y.fre y.gry y.most y.fc y.gc y.us y.ob y.wh y.ph y.sw y.md y.made y.full) (hy.four hk1 hw c_99) _ _ _ hP hS (lv_sub hl [1, 0] rfl)
      · refine lv_aload_n hx hb d_H_all_84 rfl (lv_at hl 0 rfl) ?_
        refine lv_iload_n hx hb d_H_all_85 rfl (lv_at hl 1 rfl) ?_
        obtain ⟨⟨e1, e2, e3⟩, e4⟩ := hy.drop hk1 hw c_81
        refine r_callv S (c_H_drop l E y k hk1 e1 e2 e3) kc_H_drop k0_H km_H_82 ki_H_drop ks_H_drop hd_H_drop ⟨rfl, rfl⟩ ⟨by decide, by decide⟩ (zX_ok E) hz hK hP hS (fun _ h => h) 4 rfl rfl rfl hl.1 rfl (Nat.le_of_ble_eq_true rfl) ⟨Nat.zero_le _, Nat.zero_le _⟩ d_H_all_86 (fun x1 H locs hw2 hP _ _ hS => ?_)
        rw [← hw2] at e4
        refine lv_goto (tgt := 113) hx hb d_H_all_89 (by decide) ?_
        refine r_inc hx hb d_H_all_113 hl 1 rfl (by decide) rfl (fun ls hl => ?_)
        refine lv_goto (tgt := 64) hx hb d_H_all_116 (by decide) ?_
        exact ih (k + 1) (by omega) x1 e4 _ _ _ hP hS (lv_sub hl [1, 0] rfl)
  have loop2 : ∀ (n : Nat) (g : GT), mu g < n → JP x.siz x.srt x.val (RX x) g → Gr (RX x) (cw x 1600, x.gry, 0) g → (∀ k, k < 10 + x.dp → x.rs k = 2 → ∀ v, v < 1600 → x.rv k = nI v → g.1 v = 3 ∨ g.1 v = 4) → ∀ (H : Heap) (locs : List Loc) (ls : Array Slot), va_P E.D classes (wXe E x.rs x.rv x.dp g.1 x.siz x.srt x.val x.fre g.2.1 x.most x.fc g.2.2 x.us x.ob x.wh x.ph x.sw x.md x.made x.full) H → va_S (AX E) s.heap H locs → lv_has ls 2 [(0, .ref (E.ad 4))] → W p l e rm_H_all s m args below meth c H locs 0 0 Q (F0 m 48 ls []) := by
    intro n
    induction n with
    | zero => intro g h; exact absurd h (Nat.not_lt_zero _)
    | succ n ih =>
      intro g hmu hj hr hrb H locs ls hP hS hl
      have hle : g.2.2 ≤ 1600 := hj.1.le
      refine lv_aload_n hx hb d_H_all_48 rfl (lv_at hl 0 rfl) ?_
      refine r_get hx hb hts hown hK hP 4 rfl rfl in_H 9 (by decide) kf_H_55 rfl d_H_all_49 ?_
      refine r_ifle (tgt := 62) hx hb d_H_all_52 (by decide) (by omega) (fun c_52 => ?_) (fun c_52 => ?_)
      · have hbk := h.black hj hr c_52 hrb
        refine lv_iconst (v := nI 0) hx hb d_H_all_62 (by decide) ?_
        refine lv_istore_n hx hb d_H_all_63 rfl hl (by decide) rfl (fun ls hl => ?_)
        exact loop3 g (fun s hs => ⟨(hbk s hs).1, (hbk s hs).2.1⟩) 1600 0 rfl (x.sG g) (LA.start h hj.2.2.1 (fun s hs => (hbk s hs).2.2) c_52) _ _ _ hP hS (lv_sub hl [1, 0] rfl)
      · refine lv_aload_n hx hb d_H_all_55 rfl (lv_at hl 0 rfl) ?_
        refine r_callv S (c_H_blacken l E (XS.mk x.rs x.rv x.dp g.1 x.siz x.srt x.val x.fre g.2.1 x.most x.fc g.2.2 x.us x.ob x.wh x.ph x.sw x.md x.made x.full) (RX x) hj h.1.2.2.1 c_52) kc_H_blacken k0_H km_H_70 ki_H_blacken ks_H_blacken hd_H_blacken ⟨rfl, rfl⟩ ⟨by decide, by decide⟩ (zX_ok E) hz hK hP hS (fun _ h => h) 4 rfl rfl rfl hl.1 rfl (Nat.le_of_ble_eq_true rfl) ⟨Nat.zero_le _, Nat.zero_le _⟩ d_H_all_56 (fun x1 H locs hw2 hP _ _ hS => ?_)
        obtain ⟨k1, k2, k3⟩ := hj.black c_52
        subst hw2
        refine lv_goto (tgt := 48) hx hb d_H_all_59 (by decide) ?_
        exact ih (blk x.siz x.srt x.val g) (by omega) k1 (hr.trans k2) (fun k hk ht v hv he => k2.keep (hrb k hk ht v hv he)) _ _ _ hP hS (lv_sub hl [0] rfl)
  have loop1 : ∀ (n k : Nat), n + k = 1600 → ∀ (H : Heap) (locs : List Loc) (ls : Array Slot), va_P E.D classes (wXe E x.rs x.rv x.dp (cw x k) x.siz x.srt x.val x.fre x.gry x.most x.fc x.gc x.us x.ob x.wh x.ph x.sw x.md x.made x.full) H → va_S (AX E) s.heap H locs → lv_has ls 2 [(0, .ref (E.ad 4)), (1, .int (nI k))] → W p l e rm_H_all s m args below meth c H locs 0 0 Q (F0 m 2 ls []) := by
    intro n
    induction n with
    | zero =>
      intro k hk H locs ls hP hS hl
      have hk : k = 1600 := by omega
      subst hk
      refine lv_iload_n hx hb d_H_all_2 rfl (lv_at hl 1 rfl) ?_
      refine lv_sipush (v := nI 1600) hx hb d_H_all_3 (by decide) ?_
      refine r_ge (tgt := 35) hx hb d_H_all_6 (by decide) (by omega) (by omega) (fun c_6 => ?_) (fun c_6 => absurd c_6 (by omega))
      refine lv_aload_n hx hb d_H_all_35 rfl (lv_at hl 0 rfl) ?_
      refine lv_iconst (v := nI 0) hx hb d_H_all_36 (by decide) ?_
      refine r_put (ws' := wXe E x.rs x.rv x.dp (cw x 1600) x.siz x.srt x.val x.fre x.gry x.most x.fc 0 x.us x.ob x.wh x.ph x.sw x.md x.made x.full) hx hb hts hown hK hP (wX_D hz.1) hS 4 rfl rfl in_H t_H t_H_ok n_H 9 (by decide) kf_H_55 rfl rfl (Nat.le_of_ble_eq_true rfl) rfl d_H_all_37 (fun H locs hP hS => ?_)
      refine lv_aload_n hx hb d_H_all_40 rfl (lv_at hl 0 rfl) ?_
      refine r_get hx hb hts hown hK hP 4 rfl rfl in_H 6 (by decide) kf_H_33 rfl d_H_all_41 ?_
      refine lv_aload_n hx hb d_H_all_44 rfl (lv_at hl 0 rfl) ?_
      refine r_callv S (c_R_mark l E (XS.mk x.rs x.rv x.dp (cw x 1600) x.siz x.srt x.val x.fre x.gry x.most x.fc 0 x.us x.ob x.wh x.ph x.sw x.md x.made x.full) (RX x) h.jp0 h.1.2.2.2.1 h.1.2.2.2.2.1 h.rl) kc_R_mark k0_R km_H_65 ki_R_mark ks_R_mark hd_R_mark ⟨rfl, rfl⟩ ⟨by decide, by decide⟩ (zX_ok E) hz hK hP hS (fun _ h => h) 1 rfl rfl rfl hl.1 rfl (Nat.le_of_ble_eq_true rfl) ⟨Nat.zero_le _, Nat.zero_le _⟩ d_H_all_45 (fun x1 H locs hw2 hP _ _ hS => ?_)
      subst hw2
      obtain ⟨k1, k2, k3⟩ := JP.roots (x := XS.mk x.rs x.rv x.dp (cw x 1600) x.siz x.srt x.val x.fre x.gry x.most x.fc 0 x.us x.ob x.wh x.ph x.sw x.md x.made x.full) h.jp0 h.rl
      exact loop2 _ _ (Nat.lt_succ_self _) k1 k2 k3 _ _ _ hP hS (lv_sub hl [0] rfl)
    | succ n ih =>
      intro k hk H locs ls hP hS hl
      have h4 := cw_4 h k k
      have ha := cw_at x k
      refine lv_iload_n hx hb d_H_all_2 rfl (lv_at hl 1 rfl) ?_
      refine lv_sipush (v := nI 1600) hx hb d_H_all_3 (by decide) ?_
      refine r_ge (tgt := 35) hx hb d_H_all_6 (by decide) (by omega) (by omega) (fun c_6 => absurd c_6 (by omega)) (fun c_6 => ?_)
      refine lv_aload_n hx hb d_H_all_9 rfl (lv_at hl 0 rfl) ?_
      refine r_get hx hb hts hown hK hP 4 rfl rfl in_H 0 (by decide) kf_H_9 rfl d_H_all_10 ?_
      refine lv_iload_n hx hb d_H_all_13 rfl (lv_at hl 1 rfl) ?_
      refine r_bald hx hb hK hP 5 0 rfl rfl (by decide) (by omega) d_H_all_14 ?_
      refine r_ifeq (tgt := 29) hx hb d_H_all_15 (by decide) (by omega) (fun c_15 => ?_) (fun c_15 => ?_)
      · refine r_inc hx hb d_H_all_29 hl 1 rfl (by decide) rfl (fun ls hl => ?_)
        refine lv_goto (tgt := 2) hx hb d_H_all_32 (by decide) ?_
        rw [cw_s0 (show x.col k = 0 by omega)] at hP
        exact ih (k + 1) (by omega) _ _ _ hP hS (lv_sub hl [1, 0] rfl)
      · refine lv_aload_n hx hb d_H_all_18 rfl (lv_at hl 0 rfl) ?_
        refine r_get hx hb hts hown hK hP 4 rfl rfl in_H 0 (by decide) kf_H_9 rfl d_H_all_19 ?_
        refine lv_iload_n hx hb d_H_all_22 rfl (lv_at hl 1 rfl) ?_
        refine lv_aload_n hx hb d_H_all_23 rfl (lv_at hl 0 rfl) ?_
        refine r_get hx hb hts hown hK hP 4 rfl rfl in_H 12 (by decide) kf_H_29 rfl d_H_all_24 ?_
        refine r_i2b hx hb (by omega) d_H_all_27 ?_
        refine r_bast (ws' := wXe E x.rs x.rv x.dp (va_up (cw x k) k x.wh) x.siz x.srt x.val x.fre x.gry x.most x.fc x.gc x.us x.ob x.wh x.ph x.sw x.md x.made x.full) hx hb hK hP (wX_D hz.1) hS 5 0 rfl rfl (by decide) (by omega) (by omega) rfl d_H_all_28 (fun H locs hP hS => ?_)
        refine r_inc hx hb d_H_all_29 hl 1 rfl (by decide) rfl (fun ls hl => ?_)
        refine lv_goto (tgt := 2) hx hb d_H_all_32 (by decide) ?_
        rw [cw_s1 (show x.col k ≠ 0 by omega)] at hP
        exact ih (k + 1) (by omega) _ _ _ hP hS (lv_sub hl [1, 0] rfl)
  refine lv_iconst (v := nI 0) hx hb d_H_all_0 (by decide) ?_
  refine lv_istore_n hx hb d_H_all_1 rfl hl (by decide) rfl (fun ls hl => ?_)
  exact loop1 1600 0 rfl _ _ _ (by rw [cw_0]; exact hP) hS (lv_sub hl [1, 0] rfl)
end
section
set_option maxHeartbeats 4000000 in
set_option maxRecDepth 100000 in
theorem c_H_has (l : Launch) (E : KX) (x : XS) (n : Nat) (h : Inv x) (hn : n ≤ 22) : Xi l E y_H_has w_H_has rm_H_has [.ref (E.ad 4), .int (nI n)] x (fun r x' => Inv x' ∧ Shr x x' ∧ ((r = nI 1 ∧ x'.us + n ≤ x'.most) ∨ (r = nI 0 ∧ x'.most < x'.us + n ∧ ∀ s, s < 1600 → (x'.col s ≠ 0 ↔ RX x s)))) := by
  refine r_metz (by decide) (Nat.le_of_ble_eq_true rfl) ?_
  intro p e s m args below meth c Q ls hx hb S hK hz hend hl hP hS
  have hts := S.2.2.2.2
  have hown := S.2.2.2.1
  have hle := h.2.2.2.1.le h.1.2.1
  have hm := h.1.2.2.2.2.2.1
  have fin : ∀ (y : XS), Inv y → Shr x y → (y.us + n ≤ y.most ∨ ∀ s, s < 1600 → (y.col s ≠ 0 ↔ RX x s)) → ∀ (H : Heap) (locs : List Loc) (ls : Array Slot), va_P E.D classes (wX E y) H → va_S (AX E) s.heap H locs → lv_has ls 2 [(0, .ref (E.ad 4)), (1, .int (nI n))] → W p l e rm_H_has s m args below meth c H locs 0 0 Q (F0 m 17 ls []) := by
    intro y hy hsh hor H locs ls hP hS hl
    have hle := hy.2.2.2.1.le hy.1.2.1
    have hm := hy.1.2.2.2.2.2.1
    refine lv_aload_n hx hb d_H_has_17 rfl (lv_at hl 0 rfl) ?_
    refine r_get hx hb hts hown hK hP 4 rfl rfl in_H 10 (by decide) kf_H_43 rfl d_H_has_18 ?_
    refine lv_iload_n hx hb d_H_has_21 rfl (lv_at hl 1 rfl) ?_
    refine r_add hx hb d_H_has_22 ?_
    refine lv_aload_n hx hb d_H_has_23 rfl (lv_at hl 0 rfl) ?_
    refine r_get hx hb hts hown hK hP 4 rfl rfl in_H 7 (by decide) kf_H_37 rfl d_H_has_24 ?_
    refine r_gt (tgt := 34) hx hb d_H_has_27 (by decide) (by omega) (by omega) (fun c_27 => ?_) (fun c_27 => ?_)
    · refine lv_iconst (v := nI 0) hx hb d_H_has_34 (by decide) ?_
      exact hend _ _ (XS.mk y.rs y.rv y.dp y.col y.siz y.srt y.val y.fre y.gry y.most y.fc y.gc y.us y.ob y.wh y.ph y.sw y.md y.made y.full) _ _ _ (by decide) hP hS d_H_has_35 ⟨hy, hsh, Or.inr ⟨rfl, c_27, hor.elim (fun q => absurd q (by omega)) id⟩⟩
    · refine lv_iconst (v := nI 1) hx hb d_H_has_30 (by decide) ?_
      refine lv_goto (tgt := 35) hx hb d_H_has_31 (by decide) ?_
      exact hend _ _ (XS.mk y.rs y.rv y.dp y.col y.siz y.srt y.val y.fre y.gry y.most y.fc y.gc y.us y.ob y.wh y.ph y.sw y.md y.made y.full) _ _ _ (by decide) hP hS d_H_has_35 ⟨hy, hsh, Or.inl ⟨rfl, c_27⟩⟩
  refine lv_aload_n hx hb d_H_has_0 rfl (lv_at hl 0 rfl) ?_
  refine r_get hx hb hts hown hK hP 4 rfl rfl in_H 10 (by decide) kf_H_43 rfl d_H_has_1 ?_
  refine lv_iload_n hx hb d_H_has_4 rfl (lv_at hl 1 rfl) ?_
  refine r_add hx hb d_H_has_5 ?_
  refine lv_aload_n hx hb d_H_has_6 rfl (lv_at hl 0 rfl) ?_
  refine r_get hx hb hts hown hK hP 4 rfl rfl in_H 7 (by decide) kf_H_37 rfl d_H_has_7 ?_
  refine r_le (tgt := 17) hx hb d_H_has_10 (by decide) (by omega) (by omega) (fun c_10 => ?_) (fun c_10 => ?_)
  · exact fin x h Shr.rfl' (Or.inl c_10) _ _ _ hP hS (lv_sub hl [0, 1] rfl)
  · refine lv_aload_n hx hb d_H_has_13 rfl (lv_at hl 0 rfl) ?_
    refine r_callv S (c_H_all l E x h) kc_H_all k0_H km_H_46 ki_H_all ks_H_all hd_H_all ⟨rfl, rfl⟩ ⟨by decide, by decide⟩ (zX_ok E) hz hK hP hS (fun _ h => h) 4 rfl rfl rfl hl.1 rfl (Nat.le_of_ble_eq_true rfl) ⟨Nat.zero_le _, Nat.zero_le _⟩ d_H_has_14 (fun x1 H locs hw hP _ _ hS => ?_)
    exact fin x1 hw.1 hw.2.1 (Or.inr hw.2.2) _ _ _ hP hS (lv_sub hl [0, 1] rfl)
end
section
/-! sums over what is reached; the cases of a method's arguments -/
noncomputable def sR (x : XS) : Nat := sumTo (fun s => @ite Nat (RX x s) (Classical.propDecidable _) (2 + x.siz s) 0) 1600
noncomputable def cR (x : XS) : Nat := sumTo (fun s => @ite Nat (RX x s) (Classical.propDecidable _) 1 0) 1600
theorem Shr.rx {x y : XS} (h : Shr x y) : RX y = RX x := by
  obtain ⟨a1, a2, a3, a4, a5, a6, -⟩ := h
  funext s
  unfold RX
  rw [a1, a2, a3, a4, a5, a6]
theorem Shr.sRq {x y : XS} (h : Shr x y) : sR y = sR x := by
  unfold sR
  rw [h.rx, h.2.2.2.1]
theorem Inv.sR_le {x : XS} (h : Inv x) : sR x ≤ x.us := by
  have hu : x.us = _ := h.2.2.2.1
  rw [hu]
  refine sumTo_le (fun s hs => ?_)
  split
  · rename_i q
    rw [if_neg (h.rx q).2.1]
    exact Nat.le_refl _
  · exact Nat.zero_le _
theorem Inv.sR_eq {x : XS} (h : Inv x) (hc : ∀ s, s < 1600 → (x.col s ≠ 0 ↔ RX x s)) : x.us = sR x ∧ x.ob = cR x := by
  have hu : x.us = _ := h.2.2.2.1
  have ho : x.ob = _ := h.2.2.2.2.1
  rw [hu, ho]
  constructor
  · refine sumTo_congr (fun s hs => ?_)
    have := hc s hs
    by_cases q : x.col s = 0
    · rw [if_pos q, if_neg (fun z => this.mpr z q)]
    · rw [if_neg q, if_pos (this.mp q)]
  · refine sumTo_congr (fun s hs => ?_)
    have := hc s hs
    by_cases q : x.col s = 0
    · rw [if_pos q, if_neg (fun z => this.mpr z q)]
    · rw [if_neg q, if_pos (this.mp q)]
def IX (k : Int32) (n : Nat) (G : Nat → Prop) (B : Prop) : Prop := (∀ c, c < n → k = nI c → G c) ∧ ((k < 0 ∨ nI n ≤ k) → B)
theorem ix_no {n c : Nat} (hn : n < 2 ^ 31) (hc : c < n) : ¬ (nI c < 0 ∨ nI n ≤ nI c) := fun q => by
  rcases q with q | q
  · exact nI_pos (by omega) q
  · exact absurd ((nI_leI hn (by omega)).mp q) (by omega)
theorem IX.y {n c : Nat} (hn : n < 2 ^ 31) (hc : c < n) {G : Nat → Prop} {B : Prop} (h : G c) : IX (nI c) n G B :=
  ⟨fun c' hc' e => by rw [← (nI_eq (by omega) (by omega)).mp e]; exact h, fun q => absurd q (ix_no hn hc)⟩
theorem IX.n {k : Int32} {n : Nat} (hn : n < 2 ^ 31) {G : Nat → Prop} {B : Prop} (h : k < 0 ∨ nI n ≤ k) (hb : B) : IX k n G B :=
  ⟨fun c hc e => absurd (by rw [← e]; exact h) (ix_no hn hc), fun _ => hb⟩
theorem ix_cases (k : Int32) {n : Nat} (hn : n < 2 ^ 31) : (∃ c, c < n ∧ k = nI c) ∨ (k < 0 ∨ nI n ≤ k) := by
  rcases pk_ix k hn with h | h | h
  · exact Or.inr (Or.inl h)
  · exact Or.inr (Or.inr h)
  · exact Or.inl h
def NOB (rs : Nat → Nat) (r : Int32) : Prop := (r < 0 ∨ nI 10 ≤ r) ∨ ∃ j, j < 10 ∧ r = nI j ∧ rs j ≠ 2
def OBJ (rs : Nat → Nat) (rv : Nat → Int32) (N : Nat) (r : Int32) (G : Nat → Nat → Prop) (B : Prop) : Prop := (∀ j v, j < 10 → r = nI j → rs j = 2 → v < N → rv j = nI v → G j v) ∧ (NOB rs r → B)
theorem OBJ.y {rs : Nat → Nat} {rv : Nat → Int32} {N j v : Nat} (hN : N ≤ 2 ^ 31) (hj : j < 10) (h2 : rs j = 2) (hv : v < N) (he : rv j = nI v) {G : Nat → Nat → Prop} {B : Prop} (h : G j v) : OBJ rs rv N (nI j) G B := by
  refine ⟨fun j' v' hj' e h2' hv' he' => ?_, fun q => ?_⟩
  · have e1 : j = j' := (nI_eq (by omega) (by omega)).mp e
    subst e1
    have e2 : v = v' := (nI_eq (by omega) (by omega)).mp (he.symm.trans he')
    subst e2
    exact h
  · rcases q with q | ⟨j', hj', e, q⟩
    · exact absurd q (ix_no (by decide) hj)
    · have e1 : j = j' := (nI_eq (by omega) (by omega)).mp e
      subst e1
      exact absurd h2 q
theorem OBJ.n {rs : Nat → Nat} {rv : Nat → Int32} {N : Nat} {r : Int32} {G : Nat → Nat → Prop} {B : Prop} (h : NOB rs r) (hb : B) : OBJ rs rv N r G B := by
  refine ⟨fun j v hj e h2 hv he => ?_, fun _ => hb⟩
  rcases h with q | ⟨j', hj', e', q⟩
  · rw [e] at q
    exact absurd q (ix_no (by decide) hj)
  · have e1 : j = j' := (nI_eq (by omega) (by omega)).mp (e.symm.trans e')
    subst e1
    exact absurd h2 q
theorem ob_cases {rs : Nat → Nat} {rv : Nat → Int32} {N : Nat} (hR : ∀ k, k < 10 → rs k = 2 → ∃ v, v < N ∧ rv k = nI v) (r : Int32) : (∃ j v, j < 10 ∧ r = nI j ∧ rs j = 2 ∧ v < N ∧ rv j = nI v) ∨ NOB rs r := by
  rcases ix_cases r (n := 10) (by decide) with ⟨j, hj, e⟩ | q
  · by_cases h2 : rs j = 2
    · obtain ⟨v, hv, he⟩ := hR j hj h2
      exact Or.inl ⟨j, v, hj, e, h2, hv, he⟩
    · exact Or.inr (Or.inr ⟨j, hj, e, h2⟩)
  · exact Or.inr (Or.inl q)
theorem Inv.ro {x : XS} (h : Inv x) : ∀ k, k < 10 → x.rs k = 2 → ∃ v, v < 1600 ∧ x.rv k = nI v := fun k hk h2 => by
  obtain ⟨v, q1, q2, -⟩ := h.2.2.2.2.2.2.1 k (by omega) h2
  exact ⟨v, q1, q2⟩
def layX (x : XS) (o k r : Nat) : XS := XS.mk x.rs x.rv x.dp ((tch x.ph x.G o).1) x.siz (va_up x.srt (20 * o + k) (x.rs r)) (va_up x.val (20 * o + k) (x.rv r)) x.fre ((tch x.ph x.G o).2.1) x.most x.fc ((tch x.ph x.G o).2.2) x.us x.ob x.wh x.ph x.sw x.md x.made x.full
set_option maxHeartbeats 4000000 in
set_option maxRecDepth 100000 in
theorem c_R_hasObjY (l : Launch) (E : KX) (x : XS) (j : Nat) (hj : j < 10) (h2 : x.rs j = 2) : Xi l E y_R_hasObject w_R_hasObject rm_R_hasObject [.ref (E.ad 1), .int (nI j)] x (fun r x' => r = nI 1 ∧ x' = x) := by
  refine r_metz (by decide) (Nat.le_of_ble_eq_true rfl) ?_
  intro p e s m args below meth c Q ls hx hb S hK hz hend hl hP hS
  have hts := S.2.2.2.2
  have hown := S.2.2.2.1
  refine lv_iload_n hx hb d_R_hasObject_0 rfl (lv_at hl 1 rfl) ?_
  refine r_calls S (c_R_is1 l j hj) kc_R_is k0_R km_R_27 kt_R_is hd_R_is ⟨rfl, rfl⟩ ⟨by decide, by decide⟩ rfl hl.1 rfl (Nat.le_of_ble_eq_true rfl) ⟨Nat.zero_le _, Nat.zero_le _⟩ d_R_hasObject_1 ?_
  refine r_ifeq (tgt := 21) hx hb d_R_hasObject_4 (by decide) (by omega) (fun c_4 => absurd c_4 (by omega)) (fun c_4 => ?_)
  refine lv_aload_n hx hb d_R_hasObject_7 rfl (lv_at hl 0 rfl) ?_
  refine r_get hx hb hts hown hK hP 1 rfl rfl in_R 0 (by decide) kf_R_9 rfl d_R_hasObject_8 ?_
  refine lv_iload_n hx hb d_R_hasObject_11 rfl (lv_at hl 1 rfl) ?_
  refine r_bald hx hb hK hP 2 0 rfl rfl (by decide) (by omega) d_R_hasObject_12 ?_
  refine lv_iconst (v := nI 2) hx hb d_R_hasObject_13 (by decide) ?_
  refine r_ne (tgt := 21) hx hb d_R_hasObject_14 (by decide) (by omega) (by omega) (fun c_14 => absurd c_14 (fun q => q h2)) (fun c_14 => ?_)
  refine lv_iconst (v := nI 1) hx hb d_R_hasObject_17 (by decide) ?_
  refine lv_goto (tgt := 22) hx hb d_R_hasObject_18 (by decide) ?_
  exact hend _ _ (XS.mk x.rs x.rv x.dp x.col x.siz x.srt x.val x.fre x.gry x.most x.fc x.gc x.us x.ob x.wh x.ph x.sw x.md x.made x.full) _ _ _ (by decide) hP hS d_R_hasObject_22 ⟨rfl, rfl⟩
set_option maxHeartbeats 4000000 in
set_option maxRecDepth 100000 in
theorem c_R_hasObjN (l : Launch) (E : KX) (x : XS) (r : Int32) (ht : ∀ i, x.rs i ≤ 2) (h : NOB x.rs r) : Xi l E y_R_hasObject w_R_hasObject rm_R_hasObject [.ref (E.ad 1), .int r] x (fun r x' => r = nI 0 ∧ x' = x) := by
  rcases h with h | ⟨j, hj, rfl, h2⟩
  · exact c_R_hasObject0 l E x r h
  have h3 := ht j
  refine r_metz (by decide) (Nat.le_of_ble_eq_true rfl) ?_
  intro p e s m args below meth c Q ls hx hb S hK hz hend hl hP hS
  have hts := S.2.2.2.2
  have hown := S.2.2.2.1
  refine lv_iload_n hx hb d_R_hasObject_0 rfl (lv_at hl 1 rfl) ?_
  refine r_calls S (c_R_is1 l j hj) kc_R_is k0_R km_R_27 kt_R_is hd_R_is ⟨rfl, rfl⟩ ⟨by decide, by decide⟩ rfl hl.1 rfl (Nat.le_of_ble_eq_true rfl) ⟨Nat.zero_le _, Nat.zero_le _⟩ d_R_hasObject_1 ?_
  refine r_ifeq (tgt := 21) hx hb d_R_hasObject_4 (by decide) (by omega) (fun c_4 => absurd c_4 (by omega)) (fun c_4 => ?_)
  refine lv_aload_n hx hb d_R_hasObject_7 rfl (lv_at hl 0 rfl) ?_
  refine r_get hx hb hts hown hK hP 1 rfl rfl in_R 0 (by decide) kf_R_9 rfl d_R_hasObject_8 ?_
  refine lv_iload_n hx hb d_R_hasObject_11 rfl (lv_at hl 1 rfl) ?_
  refine r_bald hx hb hK hP 2 0 rfl rfl (by decide) (by omega) d_R_hasObject_12 ?_
  refine lv_iconst (v := nI 2) hx hb d_R_hasObject_13 (by decide) ?_
  refine r_ne (tgt := 21) hx hb d_R_hasObject_14 (by decide) (by omega) (by omega) (fun c_14 => ?_) (fun c_14 => absurd c_14 h2)
  refine lv_iconst (v := nI 0) hx hb d_R_hasObject_21 (by decide) ?_
  exact hend _ _ (XS.mk x.rs x.rv x.dp x.col x.siz x.srt x.val x.fre x.gry x.most x.fc x.gc x.us x.ob x.wh x.ph x.sw x.md x.made x.full) _ _ _ (by decide) hP hS d_R_hasObject_22 ⟨rfl, rfl⟩
end
section
set_option maxHeartbeats 4000000 in
set_option maxRecDepth 100000 in
theorem c_X_room (l : Launch) (E : KX) (x : XS) (n : Nat) (h : Inv x) (hn : n ≤ 22) : Xi l E y_X_room w_X_room rm_X_room [.ref (E.ad 0), .int (nI n)] x (fun r x' => ∃ y : XS, Inv y ∧ Shr x y ∧ ((r = nI 1 ∧ x' = y ∧ y.us + n ≤ y.most ∧ sR x + n ≤ x.most) ∨ (r = nI 0 ∧ x' = XS.mk y.rs y.rv y.dp y.col y.siz y.srt y.val y.fre y.gry y.most y.fc y.gc y.us y.ob y.wh y.ph y.sw y.md y.made (y.full + nI 1) ∧ x.most < sR x + n))) := by
  refine r_metz (by decide) (Nat.le_of_ble_eq_true rfl) ?_
  intro p e s m args below meth c Q ls hx hb S hK hz hend hl hP hS
  have hts := S.2.2.2.2
  have hown := S.2.2.2.1
  refine lv_aload_n hx hb d_X_room_0 rfl (lv_at hl 0 rfl) ?_
  refine r_get hx hb hts hown hK hP 0 rfl rfl in_X 1 (by decide) kf_X_21 rfl d_X_room_1 ?_
  refine lv_iload_n hx hb d_X_room_4 rfl (lv_at hl 1 rfl) ?_
  refine r_calli S (c_H_has l E x n h hn) kc_H_has k0_H km_X_25 ki_H_has ks_H_has hd_H_has ⟨rfl, rfl⟩ ⟨by decide, by decide⟩ (zX_ok E) hz hK hP hS (fun _ h => h) 4 rfl rfl rfl hl.1 rfl (Nat.le_of_ble_eq_true rfl) ⟨Nat.zero_le _, Nat.zero_le _⟩ d_X_room_5 (fun r1 y H locs hw hP _ _ hS => ?_)
  obtain ⟨hy, hsh, hor⟩ := hw
  have hle := hy.sR_le
  rw [hsh.sRq] at hle
  have hmo := hsh.2.2.2.2.2.2.1
  rcases hor with ⟨rfl, hor⟩ | ⟨rfl, hor, hrx⟩
  · refine r_ifeq (tgt := 13) hx hb d_X_room_8 (by decide) (by omega) (fun c_8 => absurd c_8 (by omega)) (fun c_8 => ?_)
    refine lv_iconst (v := nI 1) hx hb d_X_room_11 (by decide) ?_
    exact hend _ _ (XS.mk y.rs y.rv y.dp y.col y.siz y.srt y.val y.fre y.gry y.most y.fc y.gc y.us y.ob y.wh y.ph y.sw y.md y.made y.full) _ _ _ (by decide) hP hS d_X_room_12 ⟨y, hy, hsh, Or.inl ⟨rfl, rfl, hor, by omega⟩⟩
  · refine r_ifeq (tgt := 13) hx hb d_X_room_8 (by decide) (by omega) (fun c_8 => ?_) (fun c_8 => absurd c_8 (by omega))
    refine lv_aload_n hx hb d_X_room_13 rfl (lv_at hl 0 rfl) ?_
    refine lv_dup hx hb d_X_room_14 rfl ?_
    refine r_get hx hb hts hown hK hP 0 rfl rfl in_X 3 (by decide) kf_X_29 rfl d_X_room_15 ?_
    refine lv_iconst (v := nI 1) hx hb d_X_room_18 (by decide) ?_
    refine lv_iadd hx hb d_X_room_19 ?_
    refine r_put (ws' := wXe E y.rs y.rv y.dp y.col y.siz y.srt y.val y.fre y.gry y.most y.fc y.gc y.us y.ob y.wh y.ph y.sw y.md y.made (y.full + nI 1)) hx hb hts hown hK hP (wX_D hz.1) hS 0 rfl rfl in_X t_X t_X_ok n_X 3 (by decide) kf_X_29 rfl rfl (Nat.le_of_ble_eq_true rfl) rfl d_X_room_20 (fun H locs hP hS => ?_)
    refine lv_iconst (v := nI 0) hx hb d_X_room_23 (by decide) ?_
    exact hend _ _ (XS.mk y.rs y.rv y.dp y.col y.siz y.srt y.val y.fre y.gry y.most y.fc y.gc y.us y.ob y.wh y.ph y.sw y.md y.made (y.full + nI 1)) _ _ _ (by decide) hP hS d_X_room_24 ⟨y, hy, hsh, Or.inr ⟨rfl, rfl, by rw [hsh.rx.symm] at hrx ; have := (hy.sR_eq hrx).1 ; rw [hsh.sRq] at this ; omega⟩⟩
set_option maxHeartbeats 4000000 in
set_option maxRecDepth 100000 in
theorem c_X_lay (l : Launch) (E : KX) (x : XS) (o k r : Nat) (ho : o < 1600) (hk : k < 20) (hr : r < 10) (hrs : x.rs r ≤ 2) (hg : GS x.G) (hc : ∀ i, x.col i ≤ 4) (hph : x.ph ≤ 2) : Xv l E y_X_lay w_X_lay rm_X_lay [.ref (E.ad 0), .int (nI o), .int (nI k), .int (nI r)] x (fun x' => x' = layX x o k r) := by
  refine r_metv (by decide) (Nat.le_of_ble_eq_true rfl) ?_
  intro p e s m args below meth c Q ls hx hb S hK hz hend hl hP hS
  have hts := S.2.2.2.2
  have hown := S.2.2.2.1
  refine lv_aload_n hx hb d_X_lay_0 rfl (lv_at hl 0 rfl) ?_
  refine r_get hx hb hts hown hK hP 0 rfl rfl in_X 1 (by decide) kf_X_21 rfl d_X_lay_1 ?_
  refine r_getN hx hb hts hown hz.2 hK hP 4 rfl rfl in_H 2 (by decide) 4 rfl rfl d_X_lay_4 ?_
  refine lv_bipush (v := nI 20) hx hb d_X_lay_7 (by decide) ?_
  refine lv_iload_n hx hb d_X_lay_9 rfl (lv_at hl 1 rfl) ?_
  refine r_mul hx hb d_X_lay_10 ?_
  refine lv_iload_n hx hb d_X_lay_11 rfl (lv_at hl 2 rfl) ?_
  refine r_add hx hb d_X_lay_12 ?_
  refine lv_aload_n hx hb d_X_lay_13 rfl (lv_at hl 0 rfl) ?_
  refine r_get hx hb hts hown hK hP 0 rfl rfl in_X 0 (by decide) kf_X_10 rfl d_X_lay_14 ?_
  refine r_getN hx hb hts hown hz.2 hK hP 1 rfl rfl in_R 0 (by decide) 0 rfl rfl d_X_lay_17 ?_
  refine lv_iload_n hx hb d_X_lay_20 rfl (lv_at hl 3 rfl) ?_
  refine r_bald hx hb hK hP 2 0 rfl rfl (by decide) (by omega) d_X_lay_21 ?_
  refine r_bast (ws' := wXe E x.rs x.rv x.dp x.col x.siz (va_up x.srt (20 * o + k) (x.rs r)) x.val x.fre x.gry x.most x.fc x.gc x.us x.ob x.wh x.ph x.sw x.md x.made x.full) hx hb hK hP (wX_D hz.1) hS 7 0 rfl rfl (by decide) (by omega) (by omega) rfl d_X_lay_22 (fun H locs hP hS => ?_)
  refine lv_aload_n hx hb d_X_lay_23 rfl (lv_at hl 0 rfl) ?_
  refine r_get hx hb hts hown hK hP 0 rfl rfl in_X 1 (by decide) kf_X_21 rfl d_X_lay_24 ?_
  refine r_getN hx hb hts hown hz.2 hK hP 4 rfl rfl in_H 3 (by decide) 5 rfl rfl d_X_lay_27 ?_
  refine lv_bipush (v := nI 20) hx hb d_X_lay_30 (by decide) ?_
  refine lv_iload_n hx hb d_X_lay_32 rfl (lv_at hl 1 rfl) ?_
  refine r_mul hx hb d_X_lay_33 ?_
  refine lv_iload_n hx hb d_X_lay_34 rfl (lv_at hl 2 rfl) ?_
  refine r_add hx hb d_X_lay_35 ?_
  refine lv_aload_n hx hb d_X_lay_36 rfl (lv_at hl 0 rfl) ?_
  refine r_get hx hb hts hown hK hP 0 rfl rfl in_X 0 (by decide) kf_X_10 rfl d_X_lay_37 ?_
  refine r_getN hx hb hts hown hz.2 hK hP 1 rfl rfl in_R 1 (by decide) 1 rfl rfl d_X_lay_40 ?_
  refine lv_iload_n hx hb d_X_lay_43 rfl (lv_at hl 3 rfl) ?_
  refine r_iald hx hb hK hP 3 1 rfl rfl (by decide) (by omega) d_X_lay_44 ?_
  refine r_vast (ws' := wXe E x.rs x.rv x.dp x.col x.siz (va_up x.srt (20 * o + k) (x.rs r)) (va_up x.val (20 * o + k) (x.rv r)) x.fre x.gry x.most x.fc x.gc x.us x.ob x.wh x.ph x.sw x.md x.made x.full) hx hb hK hP (wX_D hz.1) hS 8 1 rfl rfl (by decide) (by omega) rfl d_X_lay_45 (fun H locs hP hS => ?_)
  refine lv_aload_n hx hb d_X_lay_46 rfl (lv_at hl 0 rfl) ?_
  refine r_get hx hb hts hown hK hP 0 rfl rfl in_X 1 (by decide) kf_X_21 rfl d_X_lay_47 ?_
  refine lv_iload_n hx hb d_X_lay_50 rfl (lv_at hl 1 rfl) ?_
  refine r_callv S (c_H_touched l E (XS.mk x.rs x.rv x.dp x.col x.siz (va_up x.srt (20 * o + k) (x.rs r)) (va_up x.val (20 * o + k) (x.rv r)) x.fre x.gry x.most x.fc x.gc x.us x.ob x.wh x.ph x.sw x.md x.made x.full) o ho hg hc hph) kc_H_touched k0_H km_X_43 ki_H_touched ks_H_touched hd_H_touched ⟨rfl, rfl⟩ ⟨by decide, by decide⟩ (zX_ok E) hz hK hP hS (fun _ h => h) 4 rfl rfl rfl hl.1 rfl (Nat.le_of_ble_eq_true rfl) ⟨Nat.zero_le _, Nat.zero_le _⟩ d_X_lay_51 (fun x1 H locs hw hP _ _ hS => ?_)
  subst hw
  have hP : va_P E.D classes (wXe E x.rs x.rv x.dp ((tch x.ph x.G o).1) x.siz (va_up x.srt (20 * o + k) (x.rs r)) (va_up x.val (20 * o + k) (x.rv r)) x.fre ((tch x.ph x.G o).2.1) x.most x.fc ((tch x.ph x.G o).2.2) x.us x.ob x.wh x.ph x.sw x.md x.made x.full) H := hP
  exact hend _ _ (XS.mk x.rs x.rv x.dp ((tch x.ph x.G o).1) x.siz (va_up x.srt (20 * o + k) (x.rs r)) (va_up x.val (20 * o + k) (x.rv r)) x.fre ((tch x.ph x.G o).2.1) x.most x.fc ((tch x.ph x.G o).2.2) x.us x.ob x.wh x.ph x.sw x.md x.made x.full) _ _ hP hS d_X_lay_54 rfl
set_option maxHeartbeats 4000000 in
set_option maxRecDepth 100000 in
theorem c_X_number (l : Launch) (E : KX) (x : XS) (r v : Int32) (h : Inv x) : Xi l E y_X_number w_X_number rm_X_number [.ref (E.ad 0), .int r, .int v] x (fun q x' => IX r 10 (fun a => q = nI 1 ∧ x' = XS.mk (va_up x.rs a 1) (va_up x.rv a v) x.dp x.col x.siz x.srt x.val x.fre x.gry x.most x.fc x.gc x.us x.ob x.wh x.ph x.sw x.md x.made x.full) (q = nI 0 ∧ x' = x)) := by
  rcases ix_cases r (n := 10) (by decide) with ⟨a, ha, rfl⟩ | hr
  · refine r_metz (by decide) (Nat.le_of_ble_eq_true rfl) ?_
    intro p e s m args below meth c Q ls hx hb S hK hz hend hl hP hS
    have hts := S.2.2.2.2
    have hown := S.2.2.2.1
    refine lv_iload_n hx hb d_X_number_0 rfl (lv_at hl 1 rfl) ?_
    refine r_calls S (c_R_is1 l a ha) kc_R_is k0_R km_X_47 kt_R_is hd_R_is ⟨rfl, rfl⟩ ⟨by decide, by decide⟩ rfl hl.1 rfl (Nat.le_of_ble_eq_true rfl) ⟨Nat.zero_le _, Nat.zero_le _⟩ d_X_number_1 ?_
    refine r_ifne (tgt := 9) hx hb d_X_number_4 (by decide) (by omega) (fun c_4 => ?_) (fun c_4 => absurd c_4 (by omega))
    refine lv_aload_n hx hb d_X_number_9 rfl (lv_at hl 0 rfl) ?_
    refine r_get hx hb hts hown hK hP 0 rfl rfl in_X 0 (by decide) kf_X_10 rfl d_X_number_10 ?_
    refine lv_iload_n hx hb d_X_number_13 rfl (lv_at hl 1 rfl) ?_
    refine lv_iconst (v := nI 1) hx hb d_X_number_14 (by decide) ?_
    refine lv_iload_n hx hb d_X_number_15 rfl (lv_at hl 2 rfl) ?_
    refine r_callv S (c_R_set l E (XS.mk x.rs x.rv x.dp x.col x.siz x.srt x.val x.fre x.gry x.most x.fc x.gc x.us x.ob x.wh x.ph x.sw x.md x.made x.full) a 1 v (by omega) (by omega)) kc_R_set k0_R km_X_61 ki_R_set ks_R_set hd_R_set ⟨rfl, rfl⟩ ⟨by decide, by decide⟩ (zX_ok E) hz hK hP hS (fun _ h => h) 1 rfl rfl rfl hl.1 rfl (Nat.le_of_ble_eq_true rfl) ⟨Nat.zero_le _, Nat.zero_le _⟩ d_X_number_16 (fun x1 H locs hw hP _ _ hS => ?_)
    simp only [XS.mk_rs, XS.mk_rv, XS.mk_dp, XS.mk_col, XS.mk_siz, XS.mk_srt, XS.mk_val, XS.mk_fre, XS.mk_gry, XS.mk_most, XS.mk_fc, XS.mk_gc, XS.mk_us, XS.mk_ob, XS.mk_wh, XS.mk_ph, XS.mk_sw, XS.mk_md, XS.mk_made, XS.mk_full] at hw
    subst hw
    have hP : va_P E.D classes (wXe E (va_up x.rs a 1) (va_up x.rv a v) x.dp x.col x.siz x.srt x.val x.fre x.gry x.most x.fc x.gc x.us x.ob x.wh x.ph x.sw x.md x.made x.full) H := hP
    refine lv_iconst (v := nI 1) hx hb d_X_number_19 (by decide) ?_
    exact hend _ _ (XS.mk (va_up x.rs a 1) (va_up x.rv a v) x.dp x.col x.siz x.srt x.val x.fre x.gry x.most x.fc x.gc x.us x.ob x.wh x.ph x.sw x.md x.made x.full) _ _ _ (by decide) hP hS d_X_number_20 (IX.y (by decide) ha ⟨rfl, rfl⟩)
  · refine r_metz (by decide) (Nat.le_of_ble_eq_true rfl) ?_
    intro p e s m args below meth c Q ls hx hb S hK hz hend hl hP hS
    have hts := S.2.2.2.2
    have hown := S.2.2.2.1
    refine lv_iload_n hx hb d_X_number_0 rfl (lv_at hl 1 rfl) ?_
    refine r_calls S (c_R_is0 l r hr) kc_R_is k0_R km_X_47 kt_R_is hd_R_is ⟨rfl, rfl⟩ ⟨by decide, by decide⟩ rfl hl.1 rfl (Nat.le_of_ble_eq_true rfl) ⟨Nat.zero_le _, Nat.zero_le _⟩ d_X_number_1 ?_
    refine r_ifne (tgt := 9) hx hb d_X_number_4 (by decide) (by omega) (fun c_4 => absurd c_4 (by omega)) (fun c_4 => ?_)
    refine lv_iconst (v := nI 0) hx hb d_X_number_7 (by decide) ?_
    exact hend _ _ (XS.mk x.rs x.rv x.dp x.col x.siz x.srt x.val x.fre x.gry x.most x.fc x.gc x.us x.ob x.wh x.ph x.sw x.md x.made x.full) _ _ _ (by decide) hP hS d_X_number_8 (IX.n (by decide) hr ⟨rfl, rfl⟩)
set_option maxHeartbeats 4000000 in
set_option maxRecDepth 100000 in
theorem c_X_copy (l : Launch) (E : KX) (x : XS) (r t : Int32) (h : Inv x) : Xi l E y_X_copy w_X_copy rm_X_copy [.ref (E.ad 0), .int r, .int t] x (fun q x' => IX r 10 (fun a => (t = -1 → q = nI 1 ∧ x' = XS.mk (va_up x.rs a 0) (va_up x.rv a (nI 0)) x.dp x.col x.siz x.srt x.val x.fre x.gry x.most x.fc x.gc x.us x.ob x.wh x.ph x.sw x.md x.made x.full) ∧ (t ≠ -1 → IX t 10 (fun b => q = nI 1 ∧ x' = XS.mk (va_up x.rs a (x.rs b)) (va_up x.rv a (x.rv b)) x.dp x.col x.siz x.srt x.val x.fre x.gry x.most x.fc x.gc x.us x.ob x.wh x.ph x.sw x.md x.made x.full) (q = nI 0 ∧ x' = x))) (q = nI 0 ∧ x' = x)) := by
  rcases ix_cases r (n := 10) (by decide) with ⟨a, ha, rfl⟩ | hr
  · by_cases ht : t = -1
    · subst ht
      refine r_metz (by decide) (Nat.le_of_ble_eq_true rfl) ?_
      intro p e s m args below meth c Q ls hx hb S hK hz hend hl hP hS
      have hts := S.2.2.2.2
      have hown := S.2.2.2.1
      refine lv_iload_n hx hb d_X_copy_0 rfl (lv_at hl 1 rfl) ?_
      refine r_calls S (c_R_is1 l a ha) kc_R_is k0_R km_X_47 kt_R_is hd_R_is ⟨rfl, rfl⟩ ⟨by decide, by decide⟩ rfl hl.1 rfl (Nat.le_of_ble_eq_true rfl) ⟨Nat.zero_le _, Nat.zero_le _⟩ d_X_copy_1 ?_
      refine r_ifeq (tgt := 19) hx hb d_X_copy_4 (by decide) (by omega) (fun c_4 => absurd c_4 (by omega)) (fun c_4 => ?_)
      refine lv_iload_n hx hb d_X_copy_7 rfl (lv_at hl 2 rfl) ?_
      refine lv_iconst (v := -1) hx hb d_X_copy_8 (by decide) ?_
      refine lv_icmp_eq (tgt := 21) hx hb d_X_copy_9 (by decide) (fun c_9 => ?_) (fun c_9 => absurd c_9 (fun q => q rfl))
      refine lv_iload_n hx hb d_X_copy_21 rfl (lv_at hl 2 rfl) ?_
      refine lv_iconst (v := -1) hx hb d_X_copy_22 (by decide) ?_
      refine lv_icmp_ne (tgt := 39) hx hb d_X_copy_23 (by decide) (fun c_23 => absurd c_23 (fun q => q rfl)) (fun c_23 => ?_)
      refine lv_aload_n hx hb d_X_copy_26 rfl (lv_at hl 0 rfl) ?_
      refine r_get hx hb hts hown hK hP 0 rfl rfl in_X 0 (by decide) kf_X_10 rfl d_X_copy_27 ?_
      refine lv_iload_n hx hb d_X_copy_30 rfl (lv_at hl 1 rfl) ?_
      refine lv_iconst (v := nI 0) hx hb d_X_copy_31 (by decide) ?_
      refine lv_iconst (v := nI 0) hx hb d_X_copy_32 (by decide) ?_
      refine r_callv S (c_R_set l E (XS.mk x.rs x.rv x.dp x.col x.siz x.srt x.val x.fre x.gry x.most x.fc x.gc x.us x.ob x.wh x.ph x.sw x.md x.made x.full) a 0 (nI 0) (by omega) (by omega)) kc_R_set k0_R km_X_61 ki_R_set ks_R_set hd_R_set ⟨rfl, rfl⟩ ⟨by decide, by decide⟩ (zX_ok E) hz hK hP hS (fun _ h => h) 1 rfl rfl rfl hl.1 rfl (Nat.le_of_ble_eq_true rfl) ⟨Nat.zero_le _, Nat.zero_le _⟩ d_X_copy_33 (fun x1 H locs hw hP _ _ hS => ?_)
      simp only [XS.mk_rs, XS.mk_rv, XS.mk_dp, XS.mk_col, XS.mk_siz, XS.mk_srt, XS.mk_val, XS.mk_fre, XS.mk_gry, XS.mk_most, XS.mk_fc, XS.mk_gc, XS.mk_us, XS.mk_ob, XS.mk_wh, XS.mk_ph, XS.mk_sw, XS.mk_md, XS.mk_made, XS.mk_full] at hw
      subst hw
      have hP : va_P E.D classes (wXe E (va_up x.rs a 0) (va_up x.rv a (nI 0)) x.dp x.col x.siz x.srt x.val x.fre x.gry x.most x.fc x.gc x.us x.ob x.wh x.ph x.sw x.md x.made x.full) H := hP
      refine lv_goto (tgt := 65) hx hb d_X_copy_36 (by decide) ?_
      refine lv_iconst (v := nI 1) hx hb d_X_copy_65 (by decide) ?_
      exact hend _ _ (XS.mk (va_up x.rs a 0) (va_up x.rv a (nI 0)) x.dp x.col x.siz x.srt x.val x.fre x.gry x.most x.fc x.gc x.us x.ob x.wh x.ph x.sw x.md x.made x.full) _ _ _ (by decide) hP hS d_X_copy_66 (IX.y (by decide) ha ⟨fun _ => ⟨rfl, rfl⟩, fun z => absurd rfl z⟩)
    · rcases ix_cases t (n := 10) (by decide) with ⟨b, hb', rfl⟩ | ht2
      · refine r_metz (by decide) (Nat.le_of_ble_eq_true rfl) ?_
        intro p e s m args below meth c Q ls hx hb S hK hz hend hl hP hS
        have hts := S.2.2.2.2
        have hown := S.2.2.2.1
        refine lv_iload_n hx hb d_X_copy_0 rfl (lv_at hl 1 rfl) ?_
        refine r_calls S (c_R_is1 l a ha) kc_R_is k0_R km_X_47 kt_R_is hd_R_is ⟨rfl, rfl⟩ ⟨by decide, by decide⟩ rfl hl.1 rfl (Nat.le_of_ble_eq_true rfl) ⟨Nat.zero_le _, Nat.zero_le _⟩ d_X_copy_1 ?_
        refine r_ifeq (tgt := 19) hx hb d_X_copy_4 (by decide) (by omega) (fun c_4 => absurd c_4 (by omega)) (fun c_4 => ?_)
        refine lv_iload_n hx hb d_X_copy_7 rfl (lv_at hl 2 rfl) ?_
        refine lv_iconst (v := -1) hx hb d_X_copy_8 (by decide) ?_
        refine lv_icmp_eq (tgt := 21) hx hb d_X_copy_9 (by decide) (fun c_9 => absurd c_9 ht) (fun c_9 => ?_)
        refine lv_iload_n hx hb d_X_copy_12 rfl (lv_at hl 2 rfl) ?_
        refine r_calls S (c_R_is1 l b hb') kc_R_is k0_R km_X_47 kt_R_is hd_R_is ⟨rfl, rfl⟩ ⟨by decide, by decide⟩ rfl hl.1 rfl (Nat.le_of_ble_eq_true rfl) ⟨Nat.zero_le _, Nat.zero_le _⟩ d_X_copy_13 ?_
        refine r_ifne (tgt := 21) hx hb d_X_copy_16 (by decide) (by omega) (fun c_16 => ?_) (fun c_16 => absurd c_16 (by omega))
        refine lv_iload_n hx hb d_X_copy_21 rfl (lv_at hl 2 rfl) ?_
        refine lv_iconst (v := -1) hx hb d_X_copy_22 (by decide) ?_
        refine lv_icmp_ne (tgt := 39) hx hb d_X_copy_23 (by decide) (fun c_23 => ?_) (fun c_23 => absurd c_23 ht)
        refine lv_aload_n hx hb d_X_copy_39 rfl (lv_at hl 0 rfl) ?_
        refine r_get hx hb hts hown hK hP 0 rfl rfl in_X 0 (by decide) kf_X_10 rfl d_X_copy_40 ?_
        refine lv_iload_n hx hb d_X_copy_43 rfl (lv_at hl 1 rfl) ?_
        refine lv_aload_n hx hb d_X_copy_44 rfl (lv_at hl 0 rfl) ?_
        refine r_get hx hb hts hown hK hP 0 rfl rfl in_X 0 (by decide) kf_X_10 rfl d_X_copy_45 ?_
        refine r_getN hx hb hts hown hz.2 hK hP 1 rfl rfl in_R 0 (by decide) 0 rfl rfl d_X_copy_48 ?_
        refine lv_iload_n hx hb d_X_copy_51 rfl (lv_at hl 2 rfl) ?_
        refine r_bald hx hb hK hP 2 0 rfl rfl (by decide) (by omega) d_X_copy_52 ?_
        refine lv_aload_n hx hb d_X_copy_53 rfl (lv_at hl 0 rfl) ?_
        refine r_get hx hb hts hown hK hP 0 rfl rfl in_X 0 (by decide) kf_X_10 rfl d_X_copy_54 ?_
        refine r_getN hx hb hts hown hz.2 hK hP 1 rfl rfl in_R 1 (by decide) 1 rfl rfl d_X_copy_57 ?_
        refine lv_iload_n hx hb d_X_copy_60 rfl (lv_at hl 2 rfl) ?_
        refine r_iald hx hb hK hP 3 1 rfl rfl (by decide) (by omega) d_X_copy_61 ?_
        have h2 := h.1.2.2.2.1 b
        refine r_callv S (c_R_set l E (XS.mk x.rs x.rv x.dp x.col x.siz x.srt x.val x.fre x.gry x.most x.fc x.gc x.us x.ob x.wh x.ph x.sw x.md x.made x.full) a (x.rs b) (x.rv b) (by omega) (by omega)) kc_R_set k0_R km_X_61 ki_R_set ks_R_set hd_R_set ⟨rfl, rfl⟩ ⟨by decide, by decide⟩ (zX_ok E) hz hK hP hS (fun _ h => h) 1 rfl rfl rfl hl.1 rfl (Nat.le_of_ble_eq_true rfl) ⟨Nat.zero_le _, Nat.zero_le _⟩ d_X_copy_62 (fun x1 H locs hw hP _ _ hS => ?_)
        simp only [XS.mk_rs, XS.mk_rv, XS.mk_dp, XS.mk_col, XS.mk_siz, XS.mk_srt, XS.mk_val, XS.mk_fre, XS.mk_gry, XS.mk_most, XS.mk_fc, XS.mk_gc, XS.mk_us, XS.mk_ob, XS.mk_wh, XS.mk_ph, XS.mk_sw, XS.mk_md, XS.mk_made, XS.mk_full] at hw
        subst hw
        have hP : va_P E.D classes (wXe E (va_up x.rs a (x.rs b)) (va_up x.rv a (x.rv b)) x.dp x.col x.siz x.srt x.val x.fre x.gry x.most x.fc x.gc x.us x.ob x.wh x.ph x.sw x.md x.made x.full) H := hP
        refine lv_iconst (v := nI 1) hx hb d_X_copy_65 (by decide) ?_
        exact hend _ _ (XS.mk (va_up x.rs a (x.rs b)) (va_up x.rv a (x.rv b)) x.dp x.col x.siz x.srt x.val x.fre x.gry x.most x.fc x.gc x.us x.ob x.wh x.ph x.sw x.md x.made x.full) _ _ _ (by decide) hP hS d_X_copy_66 (IX.y (by decide) ha ⟨fun z => absurd z ht, fun _ => IX.y (by decide) hb' ⟨rfl, rfl⟩⟩)
      · refine r_metz (by decide) (Nat.le_of_ble_eq_true rfl) ?_
        intro p e s m args below meth c Q ls hx hb S hK hz hend hl hP hS
        have hts := S.2.2.2.2
        have hown := S.2.2.2.1
        refine lv_iload_n hx hb d_X_copy_0 rfl (lv_at hl 1 rfl) ?_
        refine r_calls S (c_R_is1 l a ha) kc_R_is k0_R km_X_47 kt_R_is hd_R_is ⟨rfl, rfl⟩ ⟨by decide, by decide⟩ rfl hl.1 rfl (Nat.le_of_ble_eq_true rfl) ⟨Nat.zero_le _, Nat.zero_le _⟩ d_X_copy_1 ?_
        refine r_ifeq (tgt := 19) hx hb d_X_copy_4 (by decide) (by omega) (fun c_4 => absurd c_4 (by omega)) (fun c_4 => ?_)
        refine lv_iload_n hx hb d_X_copy_7 rfl (lv_at hl 2 rfl) ?_
        refine lv_iconst (v := -1) hx hb d_X_copy_8 (by decide) ?_
        refine lv_icmp_eq (tgt := 21) hx hb d_X_copy_9 (by decide) (fun c_9 => absurd c_9 ht) (fun c_9 => ?_)
        refine lv_iload_n hx hb d_X_copy_12 rfl (lv_at hl 2 rfl) ?_
        refine r_calls S (c_R_is0 l t ht2) kc_R_is k0_R km_X_47 kt_R_is hd_R_is ⟨rfl, rfl⟩ ⟨by decide, by decide⟩ rfl hl.1 rfl (Nat.le_of_ble_eq_true rfl) ⟨Nat.zero_le _, Nat.zero_le _⟩ d_X_copy_13 ?_
        refine r_ifne (tgt := 21) hx hb d_X_copy_16 (by decide) (by omega) (fun c_16 => absurd c_16 (by omega)) (fun c_16 => ?_)
        refine lv_iconst (v := nI 0) hx hb d_X_copy_19 (by decide) ?_
        exact hend _ _ (XS.mk x.rs x.rv x.dp x.col x.siz x.srt x.val x.fre x.gry x.most x.fc x.gc x.us x.ob x.wh x.ph x.sw x.md x.made x.full) _ _ _ (by decide) hP hS d_X_copy_20 (IX.y (by decide) ha ⟨fun z => absurd z ht, fun _ => IX.n (by decide) ht2 ⟨rfl, rfl⟩⟩)
  · refine r_metz (by decide) (Nat.le_of_ble_eq_true rfl) ?_
    intro p e s m args below meth c Q ls hx hb S hK hz hend hl hP hS
    have hts := S.2.2.2.2
    have hown := S.2.2.2.1
    refine lv_iload_n hx hb d_X_copy_0 rfl (lv_at hl 1 rfl) ?_
    refine r_calls S (c_R_is0 l r hr) kc_R_is k0_R km_X_47 kt_R_is hd_R_is ⟨rfl, rfl⟩ ⟨by decide, by decide⟩ rfl hl.1 rfl (Nat.le_of_ble_eq_true rfl) ⟨Nat.zero_le _, Nat.zero_le _⟩ d_X_copy_1 ?_
    refine r_ifeq (tgt := 19) hx hb d_X_copy_4 (by decide) (by omega) (fun c_4 => ?_) (fun c_4 => absurd c_4 (by omega))
    refine lv_iconst (v := nI 0) hx hb d_X_copy_19 (by decide) ?_
    exact hend _ _ (XS.mk x.rs x.rv x.dp x.col x.siz x.srt x.val x.fre x.gry x.most x.fc x.gc x.us x.ob x.wh x.ph x.sw x.md x.made x.full) _ _ _ (by decide) hP hS d_X_copy_20 (IX.n (by decide) hr ⟨rfl, rfl⟩)
end
section
set_option maxHeartbeats 4000000 in
set_option maxRecDepth 100000 in
theorem c_X_hasValueY (l : Launch) (E : KX) (x : XS) (j v n : Nat) (hj : j < 10) (h2 : x.rs j = 2) (hv : v < 1600) (he : x.rv j = nI v) (hs : x.siz v ≤ 20) (hn : n < x.siz v) : Xi l E y_X_hasValue w_X_hasValue rm_X_hasValue [.ref (E.ad 0), .int (nI j), .int (nI n)] x (fun r x' => r = nI 1 ∧ x' = x) := by
  refine r_metz (by decide) (Nat.le_of_ble_eq_true rfl) ?_
  intro p e s m args below meth c Q ls hx hb S hK hz hend hl hP hS
  have hts := S.2.2.2.2
  have hown := S.2.2.2.1
  refine lv_aload_n hx hb d_X_hasValue_0 rfl (lv_at hl 0 rfl) ?_
  refine r_get hx hb hts hown hK hP 0 rfl rfl in_X 0 (by decide) kf_X_10 rfl d_X_hasValue_1 ?_
  refine lv_iload_n hx hb d_X_hasValue_4 rfl (lv_at hl 1 rfl) ?_
  refine r_calli S (c_R_hasObjY l E (XS.mk x.rs x.rv x.dp x.col x.siz x.srt x.val x.fre x.gry x.most x.fc x.gc x.us x.ob x.wh x.ph x.sw x.md x.made x.full) j hj h2) kc_R_hasObject k0_R km_X_70 ki_R_hasObject ks_R_hasObject hd_R_hasObject ⟨rfl, rfl⟩ ⟨by decide, by decide⟩ (zX_ok E) hz hK hP hS (fun _ h => h) 1 rfl rfl rfl hl.1 rfl (Nat.le_of_ble_eq_true rfl) ⟨Nat.zero_le _, Nat.zero_le _⟩ d_X_hasValue_5 (fun r1 x1 H locs hw hP _ _ hS => ?_)
  obtain ⟨hr1, hx1⟩ := hw
  subst hr1 hx1
  have hP : va_P E.D classes (wXe E x.rs x.rv x.dp x.col x.siz x.srt x.val x.fre x.gry x.most x.fc x.gc x.us x.ob x.wh x.ph x.sw x.md x.made x.full) H := hP
  refine r_ifeq (tgt := 40) hx hb d_X_hasValue_8 (by decide) (by omega) (fun c_8 => absurd c_8 (by omega)) (fun c_8 => ?_)
  refine lv_iload_n hx hb d_X_hasValue_11 rfl (lv_at hl 2 rfl) ?_
  refine lv_if_lt (tgt := 40) hx hb d_X_hasValue_12 (by decide) (fun c_12 => absurd c_12 (nI_pos (by omega))) (fun c_12 => ?_)
  refine lv_iload_n hx hb d_X_hasValue_15 rfl (lv_at hl 2 rfl) ?_
  refine lv_aload_n hx hb d_X_hasValue_16 rfl (lv_at hl 0 rfl) ?_
  refine r_get hx hb hts hown hK hP 0 rfl rfl in_X 1 (by decide) kf_X_21 rfl d_X_hasValue_17 ?_
  refine r_getN hx hb hts hown hz.2 hK hP 4 rfl rfl in_H 1 (by decide) 3 rfl rfl d_X_hasValue_20 ?_
  refine lv_aload_n hx hb d_X_hasValue_23 rfl (lv_at hl 0 rfl) ?_
  refine r_get hx hb hts hown hK hP 0 rfl rfl in_X 0 (by decide) kf_X_10 rfl d_X_hasValue_24 ?_
  refine r_getN hx hb hts hown hz.2 hK hP 1 rfl rfl in_R 1 (by decide) 1 rfl rfl d_X_hasValue_27 ?_
  refine lv_iload_n hx hb d_X_hasValue_30 rfl (lv_at hl 1 rfl) ?_
  refine r_iald hx hb hK hP 3 1 rfl rfl (by decide) (by omega) d_X_hasValue_31 ?_
  refine r_top (he) ?_
  refine r_bald hx hb hK hP 6 0 rfl rfl (by decide) (by omega) d_X_hasValue_32 ?_
  refine r_ge (tgt := 40) hx hb d_X_hasValue_33 (by decide) (by omega) (by omega) (fun c_33 => absurd c_33 (by omega)) (fun c_33 => ?_)
  refine lv_iconst (v := nI 1) hx hb d_X_hasValue_36 (by decide) ?_
  refine lv_goto (tgt := 41) hx hb d_X_hasValue_37 (by decide) ?_
  exact hend _ _ (XS.mk x.rs x.rv x.dp x.col x.siz x.srt x.val x.fre x.gry x.most x.fc x.gc x.us x.ob x.wh x.ph x.sw x.md x.made x.full) _ _ _ (by decide) hP hS d_X_hasValue_41 ⟨rfl, rfl⟩
set_option maxHeartbeats 4000000 in
set_option maxRecDepth 100000 in
theorem c_X_hasValueN (l : Launch) (E : KX) (x : XS) (r k : Int32) (h : Inv x) (hh : NOB x.rs r ∨ ∃ j v, j < 10 ∧ r = nI j ∧ x.rs j = 2 ∧ v < 1600 ∧ x.rv j = nI v ∧ (k < 0 ∨ nI (x.siz v) ≤ k)) : Xi l E y_X_hasValue w_X_hasValue rm_X_hasValue [.ref (E.ad 0), .int r, .int k] x (fun r x' => r = nI 0 ∧ x' = x) := by
  rcases hh with hno | ⟨j, v, hj, rfl, h2, hv, he, hk⟩
  · refine r_metz (by decide) (Nat.le_of_ble_eq_true rfl) ?_
    intro p e s m args below meth c Q ls hx hb S hK hz hend hl hP hS
    have hts := S.2.2.2.2
    have hown := S.2.2.2.1
    refine lv_aload_n hx hb d_X_hasValue_0 rfl (lv_at hl 0 rfl) ?_
    refine r_get hx hb hts hown hK hP 0 rfl rfl in_X 0 (by decide) kf_X_10 rfl d_X_hasValue_1 ?_
    refine lv_iload_n hx hb d_X_hasValue_4 rfl (lv_at hl 1 rfl) ?_
    refine r_calli S (c_R_hasObjN l E (XS.mk x.rs x.rv x.dp x.col x.siz x.srt x.val x.fre x.gry x.most x.fc x.gc x.us x.ob x.wh x.ph x.sw x.md x.made x.full) r h.1.2.2.2.1 hno) kc_R_hasObject k0_R km_X_70 ki_R_hasObject ks_R_hasObject hd_R_hasObject ⟨rfl, rfl⟩ ⟨by decide, by decide⟩ (zX_ok E) hz hK hP hS (fun _ h => h) 1 rfl rfl rfl hl.1 rfl (Nat.le_of_ble_eq_true rfl) ⟨Nat.zero_le _, Nat.zero_le _⟩ d_X_hasValue_5 (fun r1 x1 H locs hw hP _ _ hS => ?_)
    obtain ⟨hr1, hx1⟩ := hw
    subst hr1 hx1
    have hP : va_P E.D classes (wXe E x.rs x.rv x.dp x.col x.siz x.srt x.val x.fre x.gry x.most x.fc x.gc x.us x.ob x.wh x.ph x.sw x.md x.made x.full) H := hP
    refine r_ifeq (tgt := 40) hx hb d_X_hasValue_8 (by decide) (by omega) (fun c_8 => ?_) (fun c_8 => absurd c_8 (by omega))
    refine lv_iconst (v := nI 0) hx hb d_X_hasValue_40 (by decide) ?_
    exact hend _ _ (XS.mk x.rs x.rv x.dp x.col x.siz x.srt x.val x.fre x.gry x.most x.fc x.gc x.us x.ob x.wh x.ph x.sw x.md x.made x.full) _ _ _ (by decide) hP hS d_X_hasValue_41 ⟨rfl, rfl⟩
  · refine r_metz (by decide) (Nat.le_of_ble_eq_true rfl) ?_
    intro p e s m args below meth c Q ls hx hb S hK hz hend hl hP hS
    have hts := S.2.2.2.2
    have hown := S.2.2.2.1
    refine lv_aload_n hx hb d_X_hasValue_0 rfl (lv_at hl 0 rfl) ?_
    refine r_get hx hb hts hown hK hP 0 rfl rfl in_X 0 (by decide) kf_X_10 rfl d_X_hasValue_1 ?_
    refine lv_iload_n hx hb d_X_hasValue_4 rfl (lv_at hl 1 rfl) ?_
    refine r_calli S (c_R_hasObjY l E (XS.mk x.rs x.rv x.dp x.col x.siz x.srt x.val x.fre x.gry x.most x.fc x.gc x.us x.ob x.wh x.ph x.sw x.md x.made x.full) j hj h2) kc_R_hasObject k0_R km_X_70 ki_R_hasObject ks_R_hasObject hd_R_hasObject ⟨rfl, rfl⟩ ⟨by decide, by decide⟩ (zX_ok E) hz hK hP hS (fun _ h => h) 1 rfl rfl rfl hl.1 rfl (Nat.le_of_ble_eq_true rfl) ⟨Nat.zero_le _, Nat.zero_le _⟩ d_X_hasValue_5 (fun r1 x1 H locs hw hP _ _ hS => ?_)
    obtain ⟨hr1, hx1⟩ := hw
    subst hr1 hx1
    have hP : va_P E.D classes (wXe E x.rs x.rv x.dp x.col x.siz x.srt x.val x.fre x.gry x.most x.fc x.gc x.us x.ob x.wh x.ph x.sw x.md x.made x.full) H := hP
    refine r_ifeq (tgt := 40) hx hb d_X_hasValue_8 (by decide) (by omega) (fun c_8 => absurd c_8 (by omega)) (fun c_8 => ?_)
    refine lv_iload_n hx hb d_X_hasValue_11 rfl (lv_at hl 2 rfl) ?_
    refine lv_if_lt (tgt := 40) hx hb d_X_hasValue_12 (by decide) (fun c_12 => ?_) (fun c_12 => ?_)
    · refine lv_iconst (v := nI 0) hx hb d_X_hasValue_40 (by decide) ?_
      exact hend _ _ (XS.mk x.rs x.rv x.dp x.col x.siz x.srt x.val x.fre x.gry x.most x.fc x.gc x.us x.ob x.wh x.ph x.sw x.md x.made x.full) _ _ _ (by decide) hP hS d_X_hasValue_41 ⟨rfl, rfl⟩
    · refine lv_iload_n hx hb d_X_hasValue_15 rfl (lv_at hl 2 rfl) ?_
      refine lv_aload_n hx hb d_X_hasValue_16 rfl (lv_at hl 0 rfl) ?_
      refine r_get hx hb hts hown hK hP 0 rfl rfl in_X 1 (by decide) kf_X_21 rfl d_X_hasValue_17 ?_
      refine r_getN hx hb hts hown hz.2 hK hP 4 rfl rfl in_H 1 (by decide) 3 rfl rfl d_X_hasValue_20 ?_
      refine lv_aload_n hx hb d_X_hasValue_23 rfl (lv_at hl 0 rfl) ?_
      refine r_get hx hb hts hown hK hP 0 rfl rfl in_X 0 (by decide) kf_X_10 rfl d_X_hasValue_24 ?_
      refine r_getN hx hb hts hown hz.2 hK hP 1 rfl rfl in_R 1 (by decide) 1 rfl rfl d_X_hasValue_27 ?_
      refine lv_iload_n hx hb d_X_hasValue_30 rfl (lv_at hl 1 rfl) ?_
      refine r_iald hx hb hK hP 3 1 rfl rfl (by decide) (by omega) d_X_hasValue_31 ?_
      refine r_top (he) ?_
      refine r_bald hx hb hK hP 6 0 rfl rfl (by decide) (by omega) d_X_hasValue_32 ?_
      refine lv_icmp_ge (tgt := 40) hx hb d_X_hasValue_33 (by decide) (fun c_33 => ?_) (fun c_33 => absurd c_33 (fun q => hk.elim c_12 q))
      refine lv_iconst (v := nI 0) hx hb d_X_hasValue_40 (by decide) ?_
      exact hend _ _ (XS.mk x.rs x.rv x.dp x.col x.siz x.srt x.val x.fre x.gry x.most x.fc x.gc x.us x.ob x.wh x.ph x.sw x.md x.made x.full) _ _ _ (by decide) hP hS d_X_hasValue_41 ⟨rfl, rfl⟩
set_option maxHeartbeats 4000000 in
set_option maxRecDepth 100000 in
theorem c_X_get (l : Launch) (E : KX) (x : XS) (r t k : Int32) (h : Inv x) : Xi l E y_X_get w_X_get rm_X_get [.ref (E.ad 0), .int r, .int t, .int k] x (fun q x' => IX r 10 (fun a => OBJ x.rs x.rv 1600 t (fun j v => IX k (x.siz v) (fun n => q = nI 1 ∧ x' = XS.mk (va_up x.rs a (x.srt (20 * v + n))) (va_up x.rv a (x.val (20 * v + n))) x.dp x.col x.siz x.srt x.val x.fre x.gry x.most x.fc x.gc x.us x.ob x.wh x.ph x.sw x.md x.made x.full) (q = nI 0 ∧ x' = x)) (q = nI 0 ∧ x' = x)) (q = nI 0 ∧ x' = x)) := by
  rcases ix_cases r (n := 10) (by decide) with ⟨a, ha, rfl⟩ | hr
  · rcases ob_cases h.ro t with ⟨j, v, hj, rfl, h2, hv, he⟩ | hno
    · have hs := h.1.2.1 v
      rcases ix_cases k (n := x.siz v) (by omega) with ⟨n, hn, rfl⟩ | hk
      · refine r_metz (by decide) (Nat.le_of_ble_eq_true rfl) ?_
        intro p e s m args below meth c Q ls hx hb S hK hz hend hl hP hS
        have hts := S.2.2.2.2
        have hown := S.2.2.2.1
        refine lv_iload_n hx hb d_X_get_0 rfl (lv_at hl 1 rfl) ?_
        refine r_calls S (c_R_is1 l a ha) kc_R_is k0_R km_X_47 kt_R_is hd_R_is ⟨rfl, rfl⟩ ⟨by decide, by decide⟩ rfl hl.1 rfl (Nat.le_of_ble_eq_true rfl) ⟨Nat.zero_le _, Nat.zero_le _⟩ d_X_get_1 ?_
        refine r_ifeq (tgt := 16) hx hb d_X_get_4 (by decide) (by omega) (fun c_4 => absurd c_4 (by omega)) (fun c_4 => ?_)
        refine lv_aload_n hx hb d_X_get_7 rfl (lv_at hl 0 rfl) ?_
        refine lv_iload_n hx hb d_X_get_8 rfl (lv_at hl 2 rfl) ?_
        refine lv_iload_n hx hb d_X_get_9 rfl (lv_at hl 3 rfl) ?_
        refine r_calli S (c_X_hasValueY l E (XS.mk x.rs x.rv x.dp x.col x.siz x.srt x.val x.fre x.gry x.most x.fc x.gc x.us x.ob x.wh x.ph x.sw x.md x.made x.full) j v n hj h2 hv he hs hn) kc_X_hasValue k0_X km_X_79 ki_X_hasValue ks_X_hasValue hd_X_hasValue ⟨rfl, rfl⟩ ⟨by decide, by decide⟩ (zX_ok E) hz hK hP hS (fun _ h => h) 0 rfl rfl rfl hl.1 rfl (Nat.le_of_ble_eq_true rfl) ⟨Nat.zero_le _, Nat.zero_le _⟩ d_X_get_10 (fun r1 x1 H locs hw hP _ _ hS => ?_)
        obtain ⟨hr1, hx1⟩ := hw
        subst hr1 hx1
        have hP : va_P E.D classes (wXe E x.rs x.rv x.dp x.col x.siz x.srt x.val x.fre x.gry x.most x.fc x.gc x.us x.ob x.wh x.ph x.sw x.md x.made x.full) H := hP
        refine r_ifne (tgt := 18) hx hb d_X_get_13 (by decide) (by omega) (fun c_13 => ?_) (fun c_13 => absurd c_13 (by omega))
        refine lv_bipush (v := nI 20) hx hb d_X_get_18 (by decide) ?_
        refine lv_aload_n hx hb d_X_get_20 rfl (lv_at hl 0 rfl) ?_
        refine r_get hx hb hts hown hK hP 0 rfl rfl in_X 0 (by decide) kf_X_10 rfl d_X_get_21 ?_
        refine r_getN hx hb hts hown hz.2 hK hP 1 rfl rfl in_R 1 (by decide) 1 rfl rfl d_X_get_24 ?_
        refine lv_iload_n hx hb d_X_get_27 rfl (lv_at hl 2 rfl) ?_
        refine r_iald hx hb hK hP 3 1 rfl rfl (by decide) (by omega) d_X_get_28 ?_
        refine r_top (he) ?_
        refine r_mul hx hb d_X_get_29 ?_
        refine lv_iload_n hx hb d_X_get_30 rfl (lv_at hl 3 rfl) ?_
        refine r_add hx hb d_X_get_31 ?_
        refine lv_istore hx hb d_X_get_32 hl (by decide) rfl (fun ls hl => ?_)
        refine lv_aload_n hx hb d_X_get_34 rfl (lv_at hl 1 rfl) ?_
        refine r_get hx hb hts hown hK hP 0 rfl rfl in_X 0 (by decide) kf_X_10 rfl d_X_get_35 ?_
        refine lv_iload_n hx hb d_X_get_38 rfl (lv_at hl 2 rfl) ?_
        refine lv_aload_n hx hb d_X_get_39 rfl (lv_at hl 1 rfl) ?_
        refine r_get hx hb hts hown hK hP 0 rfl rfl in_X 1 (by decide) kf_X_21 rfl d_X_get_40 ?_
        refine r_getN hx hb hts hown hz.2 hK hP 4 rfl rfl in_H 2 (by decide) 4 rfl rfl d_X_get_43 ?_
        refine lv_iload hx hb d_X_get_46 (lv_at hl 0 rfl) ?_
        refine r_bald hx hb hK hP 7 0 rfl rfl (by decide) (by omega) d_X_get_48 ?_
        refine lv_aload_n hx hb d_X_get_49 rfl (lv_at hl 1 rfl) ?_
        refine r_get hx hb hts hown hK hP 0 rfl rfl in_X 1 (by decide) kf_X_21 rfl d_X_get_50 ?_
        refine r_getN hx hb hts hown hz.2 hK hP 4 rfl rfl in_H 3 (by decide) 5 rfl rfl d_X_get_53 ?_
        refine lv_iload hx hb d_X_get_56 (lv_at hl 0 rfl) ?_
        refine r_iald hx hb hK hP 8 1 rfl rfl (by decide) (by omega) d_X_get_58 ?_
        have h3 := h.1.2.2.1 (20 * v + n)
        refine r_callv S (c_R_set l E (XS.mk x.rs x.rv x.dp x.col x.siz x.srt x.val x.fre x.gry x.most x.fc x.gc x.us x.ob x.wh x.ph x.sw x.md x.made x.full) a (x.srt (20 * v + n)) (x.val (20 * v + n)) (by omega) (by omega)) kc_R_set k0_R km_X_61 ki_R_set ks_R_set hd_R_set ⟨rfl, rfl⟩ ⟨by decide, by decide⟩ (zX_ok E) hz hK hP hS (fun _ h => h) 1 rfl rfl rfl hl.1 rfl (Nat.le_of_ble_eq_true rfl) ⟨Nat.zero_le _, Nat.zero_le _⟩ d_X_get_59 (fun x1 H locs hw hP _ _ hS => ?_)
        simp only [XS.mk_rs, XS.mk_rv, XS.mk_dp, XS.mk_col, XS.mk_siz, XS.mk_srt, XS.mk_val, XS.mk_fre, XS.mk_gry, XS.mk_most, XS.mk_fc, XS.mk_gc, XS.mk_us, XS.mk_ob, XS.mk_wh, XS.mk_ph, XS.mk_sw, XS.mk_md, XS.mk_made, XS.mk_full] at hw
        subst hw
        have hP : va_P E.D classes (wXe E (va_up x.rs a (x.srt (20 * v + n))) (va_up x.rv a (x.val (20 * v + n))) x.dp x.col x.siz x.srt x.val x.fre x.gry x.most x.fc x.gc x.us x.ob x.wh x.ph x.sw x.md x.made x.full) H := hP
        refine lv_iconst (v := nI 1) hx hb d_X_get_62 (by decide) ?_
        exact hend _ _ (XS.mk (va_up x.rs a (x.srt (20 * v + n))) (va_up x.rv a (x.val (20 * v + n))) x.dp x.col x.siz x.srt x.val x.fre x.gry x.most x.fc x.gc x.us x.ob x.wh x.ph x.sw x.md x.made x.full) _ _ _ (by decide) hP hS d_X_get_63 (IX.y (by decide) ha (OBJ.y (by decide) hj h2 hv he (IX.y (by omega) hn ⟨rfl, rfl⟩)))
      · refine r_metz (by decide) (Nat.le_of_ble_eq_true rfl) ?_
        intro p e s m args below meth c Q ls hx hb S hK hz hend hl hP hS
        have hts := S.2.2.2.2
        have hown := S.2.2.2.1
        refine lv_iload_n hx hb d_X_get_0 rfl (lv_at hl 1 rfl) ?_
        refine r_calls S (c_R_is1 l a ha) kc_R_is k0_R km_X_47 kt_R_is hd_R_is ⟨rfl, rfl⟩ ⟨by decide, by decide⟩ rfl hl.1 rfl (Nat.le_of_ble_eq_true rfl) ⟨Nat.zero_le _, Nat.zero_le _⟩ d_X_get_1 ?_
        refine r_ifeq (tgt := 16) hx hb d_X_get_4 (by decide) (by omega) (fun c_4 => absurd c_4 (by omega)) (fun c_4 => ?_)
        refine lv_aload_n hx hb d_X_get_7 rfl (lv_at hl 0 rfl) ?_
        refine lv_iload_n hx hb d_X_get_8 rfl (lv_at hl 2 rfl) ?_
        refine lv_iload_n hx hb d_X_get_9 rfl (lv_at hl 3 rfl) ?_
        refine r_calli S (c_X_hasValueN l E (XS.mk x.rs x.rv x.dp x.col x.siz x.srt x.val x.fre x.gry x.most x.fc x.gc x.us x.ob x.wh x.ph x.sw x.md x.made x.full) (nI j) k h (Or.inr ⟨j, v, hj, rfl, h2, hv, he, hk⟩)) kc_X_hasValue k0_X km_X_79 ki_X_hasValue ks_X_hasValue hd_X_hasValue ⟨rfl, rfl⟩ ⟨by decide, by decide⟩ (zX_ok E) hz hK hP hS (fun _ h => h) 0 rfl rfl rfl hl.1 rfl (Nat.le_of_ble_eq_true rfl) ⟨Nat.zero_le _, Nat.zero_le _⟩ d_X_get_10 (fun r1 x1 H locs hw hP _ _ hS => ?_)
        obtain ⟨hr1, hx1⟩ := hw
        subst hr1 hx1
        have hP : va_P E.D classes (wXe E x.rs x.rv x.dp x.col x.siz x.srt x.val x.fre x.gry x.most x.fc x.gc x.us x.ob x.wh x.ph x.sw x.md x.made x.full) H := hP
        refine r_ifne (tgt := 18) hx hb d_X_get_13 (by decide) (by omega) (fun c_13 => absurd c_13 (by omega)) (fun c_13 => ?_)
        refine lv_iconst (v := nI 0) hx hb d_X_get_16 (by decide) ?_
        exact hend _ _ (XS.mk x.rs x.rv x.dp x.col x.siz x.srt x.val x.fre x.gry x.most x.fc x.gc x.us x.ob x.wh x.ph x.sw x.md x.made x.full) _ _ _ (by decide) hP hS d_X_get_17 (IX.y (by decide) ha (OBJ.y (by decide) hj h2 hv he (IX.n (by omega) hk ⟨rfl, rfl⟩)))
    · refine r_metz (by decide) (Nat.le_of_ble_eq_true rfl) ?_
      intro p e s m args below meth c Q ls hx hb S hK hz hend hl hP hS
      have hts := S.2.2.2.2
      have hown := S.2.2.2.1
      refine lv_iload_n hx hb d_X_get_0 rfl (lv_at hl 1 rfl) ?_
      refine r_calls S (c_R_is1 l a ha) kc_R_is k0_R km_X_47 kt_R_is hd_R_is ⟨rfl, rfl⟩ ⟨by decide, by decide⟩ rfl hl.1 rfl (Nat.le_of_ble_eq_true rfl) ⟨Nat.zero_le _, Nat.zero_le _⟩ d_X_get_1 ?_
      refine r_ifeq (tgt := 16) hx hb d_X_get_4 (by decide) (by omega) (fun c_4 => absurd c_4 (by omega)) (fun c_4 => ?_)
      refine lv_aload_n hx hb d_X_get_7 rfl (lv_at hl 0 rfl) ?_
      refine lv_iload_n hx hb d_X_get_8 rfl (lv_at hl 2 rfl) ?_
      refine lv_iload_n hx hb d_X_get_9 rfl (lv_at hl 3 rfl) ?_
      refine r_calli S (c_X_hasValueN l E (XS.mk x.rs x.rv x.dp x.col x.siz x.srt x.val x.fre x.gry x.most x.fc x.gc x.us x.ob x.wh x.ph x.sw x.md x.made x.full) t k h (Or.inl hno)) kc_X_hasValue k0_X km_X_79 ki_X_hasValue ks_X_hasValue hd_X_hasValue ⟨rfl, rfl⟩ ⟨by decide, by decide⟩ (zX_ok E) hz hK hP hS (fun _ h => h) 0 rfl rfl rfl hl.1 rfl (Nat.le_of_ble_eq_true rfl) ⟨Nat.zero_le _, Nat.zero_le _⟩ d_X_get_10 (fun r1 x1 H locs hw hP _ _ hS => ?_)
      obtain ⟨hr1, hx1⟩ := hw
      subst hr1 hx1
      have hP : va_P E.D classes (wXe E x.rs x.rv x.dp x.col x.siz x.srt x.val x.fre x.gry x.most x.fc x.gc x.us x.ob x.wh x.ph x.sw x.md x.made x.full) H := hP
      refine r_ifne (tgt := 18) hx hb d_X_get_13 (by decide) (by omega) (fun c_13 => absurd c_13 (by omega)) (fun c_13 => ?_)
      refine lv_iconst (v := nI 0) hx hb d_X_get_16 (by decide) ?_
      exact hend _ _ (XS.mk x.rs x.rv x.dp x.col x.siz x.srt x.val x.fre x.gry x.most x.fc x.gc x.us x.ob x.wh x.ph x.sw x.md x.made x.full) _ _ _ (by decide) hP hS d_X_get_17 (IX.y (by decide) ha (OBJ.n hno ⟨rfl, rfl⟩))
  · refine r_metz (by decide) (Nat.le_of_ble_eq_true rfl) ?_
    intro p e s m args below meth c Q ls hx hb S hK hz hend hl hP hS
    have hts := S.2.2.2.2
    have hown := S.2.2.2.1
    refine lv_iload_n hx hb d_X_get_0 rfl (lv_at hl 1 rfl) ?_
    refine r_calls S (c_R_is0 l r hr) kc_R_is k0_R km_X_47 kt_R_is hd_R_is ⟨rfl, rfl⟩ ⟨by decide, by decide⟩ rfl hl.1 rfl (Nat.le_of_ble_eq_true rfl) ⟨Nat.zero_le _, Nat.zero_le _⟩ d_X_get_1 ?_
    refine r_ifeq (tgt := 16) hx hb d_X_get_4 (by decide) (by omega) (fun c_4 => ?_) (fun c_4 => absurd c_4 (by omega))
    refine lv_iconst (v := nI 0) hx hb d_X_get_16 (by decide) ?_
    exact hend _ _ (XS.mk x.rs x.rv x.dp x.col x.siz x.srt x.val x.fre x.gry x.most x.fc x.gc x.us x.ob x.wh x.ph x.sw x.md x.made x.full) _ _ _ (by decide) hP hS d_X_get_17 (IX.n (by decide) hr ⟨rfl, rfl⟩)
set_option maxHeartbeats 4000000 in
set_option maxRecDepth 100000 in
theorem c_X_set (l : Launch) (E : KX) (x : XS) (r k t : Int32) (h : Inv x) : Xi l E y_X_set w_X_set rm_X_set [.ref (E.ad 0), .int r, .int k, .int t] x (fun q x' => IX t 10 (fun b => OBJ x.rs x.rv 1600 r (fun j v => IX k (x.siz v) (fun n => q = nI 1 ∧ x' = layX x v n b) (q = nI 0 ∧ x' = x)) (q = nI 0 ∧ x' = x)) (q = nI 0 ∧ x' = x)) := by
  rcases ix_cases t (n := 10) (by decide) with ⟨a, ha, rfl⟩ | hr
  · rcases ob_cases h.ro r with ⟨j, v, hj, rfl, h2, hv, he⟩ | hno
    · have hs := h.1.2.1 v
      rcases ix_cases k (n := x.siz v) (by omega) with ⟨n, hn, rfl⟩ | hk
      · refine r_metz (by decide) (Nat.le_of_ble_eq_true rfl) ?_
        intro p e s m args below meth c Q ls hx hb S hK hz hend hl hP hS
        have hts := S.2.2.2.2
        have hown := S.2.2.2.1
        refine lv_iload_n hx hb d_X_set_0 rfl (lv_at hl 3 rfl) ?_
        refine r_calls S (c_R_is1 l a ha) kc_R_is k0_R km_X_47 kt_R_is hd_R_is ⟨rfl, rfl⟩ ⟨by decide, by decide⟩ rfl hl.1 rfl (Nat.le_of_ble_eq_true rfl) ⟨Nat.zero_le _, Nat.zero_le _⟩ d_X_set_1 ?_
        refine r_ifeq (tgt := 16) hx hb d_X_set_4 (by decide) (by omega) (fun c_4 => absurd c_4 (by omega)) (fun c_4 => ?_)
        refine lv_aload_n hx hb d_X_set_7 rfl (lv_at hl 0 rfl) ?_
        refine lv_iload_n hx hb d_X_set_8 rfl (lv_at hl 1 rfl) ?_
        refine lv_iload_n hx hb d_X_set_9 rfl (lv_at hl 2 rfl) ?_
        refine r_calli S (c_X_hasValueY l E (XS.mk x.rs x.rv x.dp x.col x.siz x.srt x.val x.fre x.gry x.most x.fc x.gc x.us x.ob x.wh x.ph x.sw x.md x.made x.full) j v n hj h2 hv he hs hn) kc_X_hasValue k0_X km_X_79 ki_X_hasValue ks_X_hasValue hd_X_hasValue ⟨rfl, rfl⟩ ⟨by decide, by decide⟩ (zX_ok E) hz hK hP hS (fun _ h => h) 0 rfl rfl rfl hl.1 rfl (Nat.le_of_ble_eq_true rfl) ⟨Nat.zero_le _, Nat.zero_le _⟩ d_X_set_10 (fun r1 x1 H locs hw hP _ _ hS => ?_)
        obtain ⟨hr1, hx1⟩ := hw
        subst hr1 hx1
        have hP : va_P E.D classes (wXe E x.rs x.rv x.dp x.col x.siz x.srt x.val x.fre x.gry x.most x.fc x.gc x.us x.ob x.wh x.ph x.sw x.md x.made x.full) H := hP
        refine r_ifne (tgt := 18) hx hb d_X_set_13 (by decide) (by omega) (fun c_13 => ?_) (fun c_13 => absurd c_13 (by omega))
        refine lv_aload_n hx hb d_X_set_18 rfl (lv_at hl 0 rfl) ?_
        refine lv_aload_n hx hb d_X_set_19 rfl (lv_at hl 0 rfl) ?_
        refine r_get hx hb hts hown hK hP 0 rfl rfl in_X 0 (by decide) kf_X_10 rfl d_X_set_20 ?_
        refine r_getN hx hb hts hown hz.2 hK hP 1 rfl rfl in_R 1 (by decide) 1 rfl rfl d_X_set_23 ?_
        refine lv_iload_n hx hb d_X_set_26 rfl (lv_at hl 1 rfl) ?_
        refine r_iald hx hb hK hP 3 1 rfl rfl (by decide) (by omega) d_X_set_27 ?_
        refine r_top (he) ?_
        refine lv_iload_n hx hb d_X_set_28 rfl (lv_at hl 2 rfl) ?_
        refine lv_iload_n hx hb d_X_set_29 rfl (lv_at hl 3 rfl) ?_
        have h3 := h.1.2.2.2.1 a
        refine r_callv S (c_X_lay l E (XS.mk x.rs x.rv x.dp x.col x.siz x.srt x.val x.fre x.gry x.most x.fc x.gc x.us x.ob x.wh x.ph x.sw x.md x.made x.full) v n a hv (by omega) ha h3 h.2.1 h.1.1 h.ph2) kc_X_lay k0_X km_X_57 ki_X_lay ks_X_lay hd_X_lay ⟨rfl, rfl⟩ ⟨by decide, by decide⟩ (zX_ok E) hz hK hP hS (fun _ h => h) 0 rfl rfl rfl hl.1 rfl (Nat.le_of_ble_eq_true rfl) ⟨Nat.zero_le _, Nat.zero_le _⟩ d_X_set_30 (fun x1 H locs hw hP _ _ hS => ?_)
        obtain rfl : x1 = layX x v n a := hw
        have hP : va_P E.D classes (wXe E ((layX x v n a).rs) ((layX x v n a).rv) ((layX x v n a).dp) ((layX x v n a).col) ((layX x v n a).siz) ((layX x v n a).srt) ((layX x v n a).val) ((layX x v n a).fre) ((layX x v n a).gry) ((layX x v n a).most) ((layX x v n a).fc) ((layX x v n a).gc) ((layX x v n a).us) ((layX x v n a).ob) ((layX x v n a).wh) ((layX x v n a).ph) ((layX x v n a).sw) ((layX x v n a).md) ((layX x v n a).made) ((layX x v n a).full)) H := hP
        refine lv_iconst (v := nI 1) hx hb d_X_set_33 (by decide) ?_
        exact hend _ _ (XS.mk ((layX x v n a).rs) ((layX x v n a).rv) ((layX x v n a).dp) ((layX x v n a).col) ((layX x v n a).siz) ((layX x v n a).srt) ((layX x v n a).val) ((layX x v n a).fre) ((layX x v n a).gry) ((layX x v n a).most) ((layX x v n a).fc) ((layX x v n a).gc) ((layX x v n a).us) ((layX x v n a).ob) ((layX x v n a).wh) ((layX x v n a).ph) ((layX x v n a).sw) ((layX x v n a).md) ((layX x v n a).made) ((layX x v n a).full)) _ _ _ (by decide) hP hS d_X_set_34 (IX.y (by decide) ha (OBJ.y (by decide) hj h2 hv he (IX.y (by omega) hn ⟨rfl, rfl⟩)))
      · refine r_metz (by decide) (Nat.le_of_ble_eq_true rfl) ?_
        intro p e s m args below meth c Q ls hx hb S hK hz hend hl hP hS
        have hts := S.2.2.2.2
        have hown := S.2.2.2.1
        refine lv_iload_n hx hb d_X_set_0 rfl (lv_at hl 3 rfl) ?_
        refine r_calls S (c_R_is1 l a ha) kc_R_is k0_R km_X_47 kt_R_is hd_R_is ⟨rfl, rfl⟩ ⟨by decide, by decide⟩ rfl hl.1 rfl (Nat.le_of_ble_eq_true rfl) ⟨Nat.zero_le _, Nat.zero_le _⟩ d_X_set_1 ?_
        refine r_ifeq (tgt := 16) hx hb d_X_set_4 (by decide) (by omega) (fun c_4 => absurd c_4 (by omega)) (fun c_4 => ?_)
        refine lv_aload_n hx hb d_X_set_7 rfl (lv_at hl 0 rfl) ?_
        refine lv_iload_n hx hb d_X_set_8 rfl (lv_at hl 1 rfl) ?_
        refine lv_iload_n hx hb d_X_set_9 rfl (lv_at hl 2 rfl) ?_
        refine r_calli S (c_X_hasValueN l E (XS.mk x.rs x.rv x.dp x.col x.siz x.srt x.val x.fre x.gry x.most x.fc x.gc x.us x.ob x.wh x.ph x.sw x.md x.made x.full) (nI j) k h (Or.inr ⟨j, v, hj, rfl, h2, hv, he, hk⟩)) kc_X_hasValue k0_X km_X_79 ki_X_hasValue ks_X_hasValue hd_X_hasValue ⟨rfl, rfl⟩ ⟨by decide, by decide⟩ (zX_ok E) hz hK hP hS (fun _ h => h) 0 rfl rfl rfl hl.1 rfl (Nat.le_of_ble_eq_true rfl) ⟨Nat.zero_le _, Nat.zero_le _⟩ d_X_set_10 (fun r1 x1 H locs hw hP _ _ hS => ?_)
        obtain ⟨hr1, hx1⟩ := hw
        subst hr1 hx1
        have hP : va_P E.D classes (wXe E x.rs x.rv x.dp x.col x.siz x.srt x.val x.fre x.gry x.most x.fc x.gc x.us x.ob x.wh x.ph x.sw x.md x.made x.full) H := hP
        refine r_ifne (tgt := 18) hx hb d_X_set_13 (by decide) (by omega) (fun c_13 => absurd c_13 (by omega)) (fun c_13 => ?_)
        refine lv_iconst (v := nI 0) hx hb d_X_set_16 (by decide) ?_
        exact hend _ _ (XS.mk x.rs x.rv x.dp x.col x.siz x.srt x.val x.fre x.gry x.most x.fc x.gc x.us x.ob x.wh x.ph x.sw x.md x.made x.full) _ _ _ (by decide) hP hS d_X_set_17 (IX.y (by decide) ha (OBJ.y (by decide) hj h2 hv he (IX.n (by omega) hk ⟨rfl, rfl⟩)))
    · refine r_metz (by decide) (Nat.le_of_ble_eq_true rfl) ?_
      intro p e s m args below meth c Q ls hx hb S hK hz hend hl hP hS
      have hts := S.2.2.2.2
      have hown := S.2.2.2.1
      refine lv_iload_n hx hb d_X_set_0 rfl (lv_at hl 3 rfl) ?_
      refine r_calls S (c_R_is1 l a ha) kc_R_is k0_R km_X_47 kt_R_is hd_R_is ⟨rfl, rfl⟩ ⟨by decide, by decide⟩ rfl hl.1 rfl (Nat.le_of_ble_eq_true rfl) ⟨Nat.zero_le _, Nat.zero_le _⟩ d_X_set_1 ?_
      refine r_ifeq (tgt := 16) hx hb d_X_set_4 (by decide) (by omega) (fun c_4 => absurd c_4 (by omega)) (fun c_4 => ?_)
      refine lv_aload_n hx hb d_X_set_7 rfl (lv_at hl 0 rfl) ?_
      refine lv_iload_n hx hb d_X_set_8 rfl (lv_at hl 1 rfl) ?_
      refine lv_iload_n hx hb d_X_set_9 rfl (lv_at hl 2 rfl) ?_
      refine r_calli S (c_X_hasValueN l E (XS.mk x.rs x.rv x.dp x.col x.siz x.srt x.val x.fre x.gry x.most x.fc x.gc x.us x.ob x.wh x.ph x.sw x.md x.made x.full) r k h (Or.inl hno)) kc_X_hasValue k0_X km_X_79 ki_X_hasValue ks_X_hasValue hd_X_hasValue ⟨rfl, rfl⟩ ⟨by decide, by decide⟩ (zX_ok E) hz hK hP hS (fun _ h => h) 0 rfl rfl rfl hl.1 rfl (Nat.le_of_ble_eq_true rfl) ⟨Nat.zero_le _, Nat.zero_le _⟩ d_X_set_10 (fun r1 x1 H locs hw hP _ _ hS => ?_)
      obtain ⟨hr1, hx1⟩ := hw
      subst hr1 hx1
      have hP : va_P E.D classes (wXe E x.rs x.rv x.dp x.col x.siz x.srt x.val x.fre x.gry x.most x.fc x.gc x.us x.ob x.wh x.ph x.sw x.md x.made x.full) H := hP
      refine r_ifne (tgt := 18) hx hb d_X_set_13 (by decide) (by omega) (fun c_13 => absurd c_13 (by omega)) (fun c_13 => ?_)
      refine lv_iconst (v := nI 0) hx hb d_X_set_16 (by decide) ?_
      exact hend _ _ (XS.mk x.rs x.rv x.dp x.col x.siz x.srt x.val x.fre x.gry x.most x.fc x.gc x.us x.ob x.wh x.ph x.sw x.md x.made x.full) _ _ _ (by decide) hP hS d_X_set_17 (IX.y (by decide) ha (OBJ.n hno ⟨rfl, rfl⟩))
  · refine r_metz (by decide) (Nat.le_of_ble_eq_true rfl) ?_
    intro p e s m args below meth c Q ls hx hb S hK hz hend hl hP hS
    have hts := S.2.2.2.2
    have hown := S.2.2.2.1
    refine lv_iload_n hx hb d_X_set_0 rfl (lv_at hl 3 rfl) ?_
    refine r_calls S (c_R_is0 l t hr) kc_R_is k0_R km_X_47 kt_R_is hd_R_is ⟨rfl, rfl⟩ ⟨by decide, by decide⟩ rfl hl.1 rfl (Nat.le_of_ble_eq_true rfl) ⟨Nat.zero_le _, Nat.zero_le _⟩ d_X_set_1 ?_
    refine r_ifeq (tgt := 16) hx hb d_X_set_4 (by decide) (by omega) (fun c_4 => ?_) (fun c_4 => absurd c_4 (by omega))
    refine lv_iconst (v := nI 0) hx hb d_X_set_16 (by decide) ?_
    exact hend _ _ (XS.mk x.rs x.rv x.dp x.col x.siz x.srt x.val x.fre x.gry x.most x.fc x.gc x.us x.ob x.wh x.ph x.sw x.md x.made x.full) _ _ _ (by decide) hP hS d_X_set_17 (IX.n (by decide) hr ⟨rfl, rfl⟩)
end
section
set_option maxHeartbeats 4000000 in
set_option maxRecDepth 100000 in
theorem c_X_push (l : Launch) (E : KX) (x : XS) (r : Int32) (h : Inv x) : Xi l E y_X_push w_X_push rm_X_push [.ref (E.ad 0), .int r] x (fun q x' => IX r 10 (fun a => (x.dp = 50 → q = -1 ∧ x' = x) ∧ (x.dp ≠ 50 → q = nI (x.dp + 1) ∧ x' = XS.mk (va_up (va_up x.rs (10 + x.dp) (x.rs a)) a 0) (va_up (va_up x.rv (10 + x.dp) (x.rv a)) a (nI 0)) (x.dp + 1) x.col x.siz x.srt x.val x.fre x.gry x.most x.fc x.gc x.us x.ob x.wh x.ph x.sw x.md x.made x.full)) (q = -1 ∧ x' = x)) := by
  have h5 := h.1.2.2.2.2.1
  rcases ix_cases r (n := 10) (by decide) with ⟨a, ha, rfl⟩ | hr
  · have h2 := h.1.2.2.2.1 a
    by_cases hd : x.dp = 50
    · refine r_meti (by decide) (Nat.le_of_ble_eq_true rfl) ?_
      intro p e s m args below meth c Q ls hx hb S hK hz hend hl hP hS
      have hts := S.2.2.2.2
      have hown := S.2.2.2.1
      refine lv_iload_n hx hb d_X_push_0 rfl (lv_at hl 1 rfl) ?_
      refine r_calls S (c_R_is1 l a ha) kc_R_is k0_R km_X_47 kt_R_is hd_R_is ⟨rfl, rfl⟩ ⟨by decide, by decide⟩ rfl hl.1 rfl (Nat.le_of_ble_eq_true rfl) ⟨Nat.zero_le _, Nat.zero_le _⟩ d_X_push_1 ?_
      refine r_ifeq (tgt := 19) hx hb d_X_push_4 (by decide) (by omega) (fun c_4 => absurd c_4 (by omega)) (fun c_4 => ?_)
      refine lv_aload_n hx hb d_X_push_7 rfl (lv_at hl 0 rfl) ?_
      refine r_get hx hb hts hown hK hP 0 rfl rfl in_X 0 (by decide) kf_X_10 rfl d_X_push_8 ?_
      refine r_getN hx hb hts hown hz.2 hK hP 1 rfl rfl in_R 2 (by decide) 2 rfl rfl d_X_push_11 ?_
      refine lv_bipush (v := nI 50) hx hb d_X_push_14 (by decide) ?_
      refine r_ne (tgt := 21) hx hb d_X_push_16 (by decide) (by omega) (by omega) (fun c_16 => absurd c_16 (fun q => q hd)) (fun c_16 => ?_)
      refine lv_iconst (v := -1) hx hb d_X_push_19 (by decide) ?_
      exact hend _ _ (XS.mk x.rs x.rv x.dp x.col x.siz x.srt x.val x.fre x.gry x.most x.fc x.gc x.us x.ob x.wh x.ph x.sw x.md x.made x.full) _ _ _ hP hS d_X_push_20 (IX.y (by decide) ha ⟨fun _ => ⟨rfl, rfl⟩, fun z => absurd hd z⟩)
    · refine r_meti (by decide) (Nat.le_of_ble_eq_true rfl) ?_
      intro p e s m args below meth c Q ls hx hb S hK hz hend hl hP hS
      have hts := S.2.2.2.2
      have hown := S.2.2.2.1
      refine lv_iload_n hx hb d_X_push_0 rfl (lv_at hl 1 rfl) ?_
      refine r_calls S (c_R_is1 l a ha) kc_R_is k0_R km_X_47 kt_R_is hd_R_is ⟨rfl, rfl⟩ ⟨by decide, by decide⟩ rfl hl.1 rfl (Nat.le_of_ble_eq_true rfl) ⟨Nat.zero_le _, Nat.zero_le _⟩ d_X_push_1 ?_
      refine r_ifeq (tgt := 19) hx hb d_X_push_4 (by decide) (by omega) (fun c_4 => absurd c_4 (by omega)) (fun c_4 => ?_)
      refine lv_aload_n hx hb d_X_push_7 rfl (lv_at hl 0 rfl) ?_
      refine r_get hx hb hts hown hK hP 0 rfl rfl in_X 0 (by decide) kf_X_10 rfl d_X_push_8 ?_
      refine r_getN hx hb hts hown hz.2 hK hP 1 rfl rfl in_R 2 (by decide) 2 rfl rfl d_X_push_11 ?_
      refine lv_bipush (v := nI 50) hx hb d_X_push_14 (by decide) ?_
      refine r_ne (tgt := 21) hx hb d_X_push_16 (by decide) (by omega) (by omega) (fun c_16 => ?_) (fun c_16 => absurd c_16 hd)
      refine lv_aload_n hx hb d_X_push_21 rfl (lv_at hl 0 rfl) ?_
      refine r_get hx hb hts hown hK hP 0 rfl rfl in_X 0 (by decide) kf_X_10 rfl d_X_push_22 ?_
      refine lv_bipush (v := nI 10) hx hb d_X_push_25 (by decide) ?_
      refine lv_aload_n hx hb d_X_push_27 rfl (lv_at hl 0 rfl) ?_
      refine r_get hx hb hts hown hK hP 0 rfl rfl in_X 0 (by decide) kf_X_10 rfl d_X_push_28 ?_
      refine r_getN hx hb hts hown hz.2 hK hP 1 rfl rfl in_R 2 (by decide) 2 rfl rfl d_X_push_31 ?_
      refine r_add hx hb d_X_push_34 ?_
      refine lv_aload_n hx hb d_X_push_35 rfl (lv_at hl 0 rfl) ?_
      refine r_get hx hb hts hown hK hP 0 rfl rfl in_X 0 (by decide) kf_X_10 rfl d_X_push_36 ?_
      refine r_getN hx hb hts hown hz.2 hK hP 1 rfl rfl in_R 0 (by decide) 0 rfl rfl d_X_push_39 ?_
      refine lv_iload_n hx hb d_X_push_42 rfl (lv_at hl 1 rfl) ?_
      refine r_bald hx hb hK hP 2 0 rfl rfl (by decide) (by omega) d_X_push_43 ?_
      refine lv_aload_n hx hb d_X_push_44 rfl (lv_at hl 0 rfl) ?_
      refine r_get hx hb hts hown hK hP 0 rfl rfl in_X 0 (by decide) kf_X_10 rfl d_X_push_45 ?_
      refine r_getN hx hb hts hown hz.2 hK hP 1 rfl rfl in_R 1 (by decide) 1 rfl rfl d_X_push_48 ?_
      refine lv_iload_n hx hb d_X_push_51 rfl (lv_at hl 1 rfl) ?_
      refine r_iald hx hb hK hP 3 1 rfl rfl (by decide) (by omega) d_X_push_52 ?_
      refine r_callv S (c_R_set l E (XS.mk x.rs x.rv x.dp x.col x.siz x.srt x.val x.fre x.gry x.most x.fc x.gc x.us x.ob x.wh x.ph x.sw x.md x.made x.full) (10 + x.dp) (x.rs a) (x.rv a) (by omega) (by omega)) kc_R_set k0_R km_X_61 ki_R_set ks_R_set hd_R_set ⟨rfl, rfl⟩ ⟨by decide, by decide⟩ (zX_ok E) hz hK hP hS (fun _ h => h) 1 rfl rfl rfl hl.1 rfl (Nat.le_of_ble_eq_true rfl) ⟨Nat.zero_le _, Nat.zero_le _⟩ d_X_push_53 (fun x1 H locs hw hP _ _ hS => ?_)
      simp only [XS.mk_rs, XS.mk_rv, XS.mk_dp, XS.mk_col, XS.mk_siz, XS.mk_srt, XS.mk_val, XS.mk_fre, XS.mk_gry, XS.mk_most, XS.mk_fc, XS.mk_gc, XS.mk_us, XS.mk_ob, XS.mk_wh, XS.mk_ph, XS.mk_sw, XS.mk_md, XS.mk_made, XS.mk_full] at hw
      subst hw
      have hP : va_P E.D classes (wXe E (va_up x.rs (10 + x.dp) (x.rs a)) (va_up x.rv (10 + x.dp) (x.rv a)) x.dp x.col x.siz x.srt x.val x.fre x.gry x.most x.fc x.gc x.us x.ob x.wh x.ph x.sw x.md x.made x.full) H := hP
      refine lv_aload_n hx hb d_X_push_56 rfl (lv_at hl 0 rfl) ?_
      refine r_get hx hb hts hown hK hP 0 rfl rfl in_X 0 (by decide) kf_X_10 rfl d_X_push_57 ?_
      refine lv_dup hx hb d_X_push_60 rfl ?_
      refine r_getN hx hb hts hown hz.2 hK hP 1 rfl rfl in_R 2 (by decide) 2 rfl rfl d_X_push_61 ?_
      refine lv_iconst (v := nI 1) hx hb d_X_push_64 (by decide) ?_
      refine r_add hx hb d_X_push_65 ?_
      refine r_putN (ws' := wXe E (va_up x.rs (10 + x.dp) (x.rs a)) (va_up x.rv (10 + x.dp) (x.rv a)) (x.dp + 1) x.col x.siz x.srt x.val x.fre x.gry x.most x.fc x.gc x.us x.ob x.wh x.ph x.sw x.md x.made x.full) hx hb hts hown hz.2 hK hP (wX_D hz.1) hS 1 rfl rfl in_R t_R t_R_ok n_R 2 (by decide) 2 rfl rfl rfl (Nat.le_of_ble_eq_true rfl) rfl d_X_push_66 (fun H locs hP hS => ?_)
      refine lv_aload_n hx hb d_X_push_69 rfl (lv_at hl 0 rfl) ?_
      refine r_get hx hb hts hown hK hP 0 rfl rfl in_X 0 (by decide) kf_X_10 rfl d_X_push_70 ?_
      refine lv_iload_n hx hb d_X_push_73 rfl (lv_at hl 1 rfl) ?_
      refine lv_iconst (v := nI 0) hx hb d_X_push_74 (by decide) ?_
      refine lv_iconst (v := nI 0) hx hb d_X_push_75 (by decide) ?_
      refine r_callv S (c_R_set l E (XS.mk (va_up x.rs (10 + x.dp) (x.rs a)) (va_up x.rv (10 + x.dp) (x.rv a)) (x.dp + 1) x.col x.siz x.srt x.val x.fre x.gry x.most x.fc x.gc x.us x.ob x.wh x.ph x.sw x.md x.made x.full) a 0 (nI 0) (by omega) (by omega)) kc_R_set k0_R km_X_61 ki_R_set ks_R_set hd_R_set ⟨rfl, rfl⟩ ⟨by decide, by decide⟩ (zX_ok E) hz hK hP hS (fun _ h => h) 1 rfl rfl rfl hl.1 rfl (Nat.le_of_ble_eq_true rfl) ⟨Nat.zero_le _, Nat.zero_le _⟩ d_X_push_76 (fun x1 H locs hw hP _ _ hS => ?_)
      simp only [XS.mk_rs, XS.mk_rv, XS.mk_dp, XS.mk_col, XS.mk_siz, XS.mk_srt, XS.mk_val, XS.mk_fre, XS.mk_gry, XS.mk_most, XS.mk_fc, XS.mk_gc, XS.mk_us, XS.mk_ob, XS.mk_wh, XS.mk_ph, XS.mk_sw, XS.mk_md, XS.mk_made, XS.mk_full] at hw
      subst hw
      have hP : va_P E.D classes (wXe E (va_up (va_up x.rs (10 + x.dp) (x.rs a)) a 0) (va_up (va_up x.rv (10 + x.dp) (x.rv a)) a (nI 0)) (x.dp + 1) x.col x.siz x.srt x.val x.fre x.gry x.most x.fc x.gc x.us x.ob x.wh x.ph x.sw x.md x.made x.full) H := hP
      refine lv_aload_n hx hb d_X_push_79 rfl (lv_at hl 0 rfl) ?_
      refine r_get hx hb hts hown hK hP 0 rfl rfl in_X 0 (by decide) kf_X_10 rfl d_X_push_80 ?_
      refine r_getN hx hb hts hown hz.2 hK hP 1 rfl rfl in_R 2 (by decide) 2 rfl rfl d_X_push_83 ?_
      exact hend _ _ (XS.mk (va_up (va_up x.rs (10 + x.dp) (x.rs a)) a 0) (va_up (va_up x.rv (10 + x.dp) (x.rv a)) a (nI 0)) (x.dp + 1) x.col x.siz x.srt x.val x.fre x.gry x.most x.fc x.gc x.us x.ob x.wh x.ph x.sw x.md x.made x.full) _ _ _ hP hS d_X_push_86 (IX.y (by decide) ha ⟨fun z => absurd z hd, fun _ => ⟨rfl, rfl⟩⟩)
  · refine r_meti (by decide) (Nat.le_of_ble_eq_true rfl) ?_
    intro p e s m args below meth c Q ls hx hb S hK hz hend hl hP hS
    have hts := S.2.2.2.2
    have hown := S.2.2.2.1
    refine lv_iload_n hx hb d_X_push_0 rfl (lv_at hl 1 rfl) ?_
    refine r_calls S (c_R_is0 l r hr) kc_R_is k0_R km_X_47 kt_R_is hd_R_is ⟨rfl, rfl⟩ ⟨by decide, by decide⟩ rfl hl.1 rfl (Nat.le_of_ble_eq_true rfl) ⟨Nat.zero_le _, Nat.zero_le _⟩ d_X_push_1 ?_
    refine r_ifeq (tgt := 19) hx hb d_X_push_4 (by decide) (by omega) (fun c_4 => ?_) (fun c_4 => absurd c_4 (by omega))
    refine lv_iconst (v := -1) hx hb d_X_push_19 (by decide) ?_
    exact hend _ _ (XS.mk x.rs x.rv x.dp x.col x.siz x.srt x.val x.fre x.gry x.most x.fc x.gc x.us x.ob x.wh x.ph x.sw x.md x.made x.full) _ _ _ hP hS d_X_push_20 (IX.n (by decide) hr ⟨rfl, rfl⟩)
set_option maxHeartbeats 4000000 in
set_option maxRecDepth 100000 in
theorem c_X_pop (l : Launch) (E : KX) (x : XS) (r : Int32) (h : Inv x) : Xi l E y_X_pop w_X_pop rm_X_pop [.ref (E.ad 0), .int r] x (fun q x' => IX r 10 (fun a => (x.dp = 0 → q = -1 ∧ x' = x) ∧ (x.dp ≠ 0 → q = nI (x.dp - 1) ∧ x' = XS.mk (va_up x.rs a (x.rs (10 + (x.dp - 1)))) (va_up x.rv a (x.rv (10 + (x.dp - 1)))) (x.dp - 1) x.col x.siz x.srt x.val x.fre x.gry x.most x.fc x.gc x.us x.ob x.wh x.ph x.sw x.md x.made x.full)) (q = -1 ∧ x' = x)) := by
  have h5 := h.1.2.2.2.2.1
  rcases ix_cases r (n := 10) (by decide) with ⟨a, ha, rfl⟩ | hr
  · have h2 := h.1.2.2.2.1 (10 + (x.dp - 1))
    by_cases hd : x.dp = 0
    · refine r_meti (by decide) (Nat.le_of_ble_eq_true rfl) ?_
      intro p e s m args below meth c Q ls hx hb S hK hz hend hl hP hS
      have hts := S.2.2.2.2
      have hown := S.2.2.2.1
      refine lv_iload_n hx hb d_X_pop_0 rfl (lv_at hl 1 rfl) ?_
      refine r_calls S (c_R_is1 l a ha) kc_R_is k0_R km_X_47 kt_R_is hd_R_is ⟨rfl, rfl⟩ ⟨by decide, by decide⟩ rfl hl.1 rfl (Nat.le_of_ble_eq_true rfl) ⟨Nat.zero_le _, Nat.zero_le _⟩ d_X_pop_1 ?_
      refine r_ifeq (tgt := 17) hx hb d_X_pop_4 (by decide) (by omega) (fun c_4 => absurd c_4 (by omega)) (fun c_4 => ?_)
      refine lv_aload_n hx hb d_X_pop_7 rfl (lv_at hl 0 rfl) ?_
      refine r_get hx hb hts hown hK hP 0 rfl rfl in_X 0 (by decide) kf_X_10 rfl d_X_pop_8 ?_
      refine r_getN hx hb hts hown hz.2 hK hP 1 rfl rfl in_R 2 (by decide) 2 rfl rfl d_X_pop_11 ?_
      refine r_ifne (tgt := 19) hx hb d_X_pop_14 (by decide) (by omega) (fun c_14 => absurd c_14 (fun q => q hd)) (fun c_14 => ?_)
      refine lv_iconst (v := -1) hx hb d_X_pop_17 (by decide) ?_
      exact hend _ _ (XS.mk x.rs x.rv x.dp x.col x.siz x.srt x.val x.fre x.gry x.most x.fc x.gc x.us x.ob x.wh x.ph x.sw x.md x.made x.full) _ _ _ hP hS d_X_pop_18 (IX.y (by decide) ha ⟨fun _ => ⟨rfl, rfl⟩, fun z => absurd hd z⟩)
    · refine r_meti (by decide) (Nat.le_of_ble_eq_true rfl) ?_
      intro p e s m args below meth c Q ls hx hb S hK hz hend hl hP hS
      have hts := S.2.2.2.2
      have hown := S.2.2.2.1
      refine lv_iload_n hx hb d_X_pop_0 rfl (lv_at hl 1 rfl) ?_
      refine r_calls S (c_R_is1 l a ha) kc_R_is k0_R km_X_47 kt_R_is hd_R_is ⟨rfl, rfl⟩ ⟨by decide, by decide⟩ rfl hl.1 rfl (Nat.le_of_ble_eq_true rfl) ⟨Nat.zero_le _, Nat.zero_le _⟩ d_X_pop_1 ?_
      refine r_ifeq (tgt := 17) hx hb d_X_pop_4 (by decide) (by omega) (fun c_4 => absurd c_4 (by omega)) (fun c_4 => ?_)
      refine lv_aload_n hx hb d_X_pop_7 rfl (lv_at hl 0 rfl) ?_
      refine r_get hx hb hts hown hK hP 0 rfl rfl in_X 0 (by decide) kf_X_10 rfl d_X_pop_8 ?_
      refine r_getN hx hb hts hown hz.2 hK hP 1 rfl rfl in_R 2 (by decide) 2 rfl rfl d_X_pop_11 ?_
      refine r_ifne (tgt := 19) hx hb d_X_pop_14 (by decide) (by omega) (fun c_14 => ?_) (fun c_14 => absurd c_14 hd)
      refine lv_aload_n hx hb d_X_pop_19 rfl (lv_at hl 0 rfl) ?_
      refine r_get hx hb hts hown hK hP 0 rfl rfl in_X 0 (by decide) kf_X_10 rfl d_X_pop_20 ?_
      refine lv_dup hx hb d_X_pop_23 rfl ?_
      refine r_getN hx hb hts hown hz.2 hK hP 1 rfl rfl in_R 2 (by decide) 2 rfl rfl d_X_pop_24 ?_
      refine lv_iconst (v := nI 1) hx hb d_X_pop_27 (by decide) ?_
      refine r_sub hx hb (by omega) d_X_pop_28 ?_
      refine r_putN (ws' := wXe E x.rs x.rv (x.dp - 1) x.col x.siz x.srt x.val x.fre x.gry x.most x.fc x.gc x.us x.ob x.wh x.ph x.sw x.md x.made x.full) hx hb hts hown hz.2 hK hP (wX_D hz.1) hS 1 rfl rfl in_R t_R t_R_ok n_R 2 (by decide) 2 rfl rfl rfl (Nat.le_of_ble_eq_true rfl) rfl d_X_pop_29 (fun H locs hP hS => ?_)
      refine lv_aload_n hx hb d_X_pop_32 rfl (lv_at hl 0 rfl) ?_
      refine r_get hx hb hts hown hK hP 0 rfl rfl in_X 0 (by decide) kf_X_10 rfl d_X_pop_33 ?_
      refine lv_iload_n hx hb d_X_pop_36 rfl (lv_at hl 1 rfl) ?_
      refine lv_aload_n hx hb d_X_pop_37 rfl (lv_at hl 0 rfl) ?_
      refine r_get hx hb hts hown hK hP 0 rfl rfl in_X 0 (by decide) kf_X_10 rfl d_X_pop_38 ?_
      refine r_getN hx hb hts hown hz.2 hK hP 1 rfl rfl in_R 0 (by decide) 0 rfl rfl d_X_pop_41 ?_
      refine lv_bipush (v := nI 10) hx hb d_X_pop_44 (by decide) ?_
      refine lv_aload_n hx hb d_X_pop_46 rfl (lv_at hl 0 rfl) ?_
      refine r_get hx hb hts hown hK hP 0 rfl rfl in_X 0 (by decide) kf_X_10 rfl d_X_pop_47 ?_
      refine r_getN hx hb hts hown hz.2 hK hP 1 rfl rfl in_R 2 (by decide) 2 rfl rfl d_X_pop_50 ?_
      refine r_add hx hb d_X_pop_53 ?_
      refine r_bald hx hb hK hP 2 0 rfl rfl (by decide) (by omega) d_X_pop_54 ?_
      refine lv_aload_n hx hb d_X_pop_55 rfl (lv_at hl 0 rfl) ?_
      refine r_get hx hb hts hown hK hP 0 rfl rfl in_X 0 (by decide) kf_X_10 rfl d_X_pop_56 ?_
      refine r_getN hx hb hts hown hz.2 hK hP 1 rfl rfl in_R 1 (by decide) 1 rfl rfl d_X_pop_59 ?_
      refine lv_bipush (v := nI 10) hx hb d_X_pop_62 (by decide) ?_
      refine lv_aload_n hx hb d_X_pop_64 rfl (lv_at hl 0 rfl) ?_
      refine r_get hx hb hts hown hK hP 0 rfl rfl in_X 0 (by decide) kf_X_10 rfl d_X_pop_65 ?_
      refine r_getN hx hb hts hown hz.2 hK hP 1 rfl rfl in_R 2 (by decide) 2 rfl rfl d_X_pop_68 ?_
      refine r_add hx hb d_X_pop_71 ?_
      refine r_iald hx hb hK hP 3 1 rfl rfl (by decide) (by omega) d_X_pop_72 ?_
      refine r_callv S (c_R_set l E (XS.mk x.rs x.rv (x.dp - 1) x.col x.siz x.srt x.val x.fre x.gry x.most x.fc x.gc x.us x.ob x.wh x.ph x.sw x.md x.made x.full) a (x.rs (10 + (x.dp - 1))) (x.rv (10 + (x.dp - 1))) (by omega) (by omega)) kc_R_set k0_R km_X_61 ki_R_set ks_R_set hd_R_set ⟨rfl, rfl⟩ ⟨by decide, by decide⟩ (zX_ok E) hz hK hP hS (fun _ h => h) 1 rfl rfl rfl hl.1 rfl (Nat.le_of_ble_eq_true rfl) ⟨Nat.zero_le _, Nat.zero_le _⟩ d_X_pop_73 (fun x1 H locs hw hP _ _ hS => ?_)
      simp only [XS.mk_rs, XS.mk_rv, XS.mk_dp, XS.mk_col, XS.mk_siz, XS.mk_srt, XS.mk_val, XS.mk_fre, XS.mk_gry, XS.mk_most, XS.mk_fc, XS.mk_gc, XS.mk_us, XS.mk_ob, XS.mk_wh, XS.mk_ph, XS.mk_sw, XS.mk_md, XS.mk_made, XS.mk_full] at hw
      subst hw
      have hP : va_P E.D classes (wXe E (va_up x.rs a (x.rs (10 + (x.dp - 1)))) (va_up x.rv a (x.rv (10 + (x.dp - 1)))) (x.dp - 1) x.col x.siz x.srt x.val x.fre x.gry x.most x.fc x.gc x.us x.ob x.wh x.ph x.sw x.md x.made x.full) H := hP
      refine lv_aload_n hx hb d_X_pop_76 rfl (lv_at hl 0 rfl) ?_
      refine r_get hx hb hts hown hK hP 0 rfl rfl in_X 0 (by decide) kf_X_10 rfl d_X_pop_77 ?_
      refine r_getN hx hb hts hown hz.2 hK hP 1 rfl rfl in_R 2 (by decide) 2 rfl rfl d_X_pop_80 ?_
      exact hend _ _ (XS.mk (va_up x.rs a (x.rs (10 + (x.dp - 1)))) (va_up x.rv a (x.rv (10 + (x.dp - 1)))) (x.dp - 1) x.col x.siz x.srt x.val x.fre x.gry x.most x.fc x.gc x.us x.ob x.wh x.ph x.sw x.md x.made x.full) _ _ _ hP hS d_X_pop_83 (IX.y (by decide) ha ⟨fun z => absurd z hd, fun _ => ⟨rfl, rfl⟩⟩)
  · refine r_meti (by decide) (Nat.le_of_ble_eq_true rfl) ?_
    intro p e s m args below meth c Q ls hx hb S hK hz hend hl hP hS
    have hts := S.2.2.2.2
    have hown := S.2.2.2.1
    refine lv_iload_n hx hb d_X_pop_0 rfl (lv_at hl 1 rfl) ?_
    refine r_calls S (c_R_is0 l r hr) kc_R_is k0_R km_X_47 kt_R_is hd_R_is ⟨rfl, rfl⟩ ⟨by decide, by decide⟩ rfl hl.1 rfl (Nat.le_of_ble_eq_true rfl) ⟨Nat.zero_le _, Nat.zero_le _⟩ d_X_pop_1 ?_
    refine r_ifeq (tgt := 17) hx hb d_X_pop_4 (by decide) (by omega) (fun c_4 => ?_) (fun c_4 => absurd c_4 (by omega))
    refine lv_iconst (v := -1) hx hb d_X_pop_17 (by decide) ?_
    exact hend _ _ (XS.mk x.rs x.rv x.dp x.col x.siz x.srt x.val x.fre x.gry x.most x.fc x.gc x.us x.ob x.wh x.ph x.sw x.md x.made x.full) _ _ _ hP hS d_X_pop_18 (IX.n (by decide) hr ⟨rfl, rfl⟩)
set_option maxHeartbeats 4000000 in
set_option maxRecDepth 100000 in
theorem c_X_look (l : Launch) (E : KX) (x : XS) (r : Int32) (h : Inv x) : Xi l E y_X_look w_X_look rm_X_look [.ref (E.ad 0), .int r] x (fun q x' => x' = x ∧ IX r 10 (fun a => (x.rs a = 0 → q = -2) ∧ (x.rs a = 1 → q = -3) ∧ (x.rs a = 2 → ∀ v, v < 1600 → x.rv a = nI v → q = nI (x.siz v))) (q = -1)) := by
  rcases ix_cases r (n := 10) (by decide) with ⟨a, ha, rfl⟩ | hr
  · have h2 := h.1.2.2.2.1 a
    rcases (show x.rs a = 0 ∨ x.rs a = 1 ∨ x.rs a = 2 by omega) with h0 | h0 | h0
    · refine r_meti (by decide) (Nat.le_of_ble_eq_true rfl) ?_
      intro p e s m args below meth c Q ls hx hb S hK hz hend hl hP hS
      have hts := S.2.2.2.2
      have hown := S.2.2.2.1
      refine lv_iload_n hx hb d_X_look_0 rfl (lv_at hl 1 rfl) ?_
      refine r_calls S (c_R_is1 l a ha) kc_R_is k0_R km_X_47 kt_R_is hd_R_is ⟨rfl, rfl⟩ ⟨by decide, by decide⟩ rfl hl.1 rfl (Nat.le_of_ble_eq_true rfl) ⟨Nat.zero_le _, Nat.zero_le _⟩ d_X_look_1 ?_
      refine r_ifne (tgt := 11) hx hb d_X_look_4 (by decide) (by omega) (fun c_4 => ?_) (fun c_4 => absurd c_4 (by omega))
      refine lv_aload_n hx hb d_X_look_11 rfl (lv_at hl 0 rfl) ?_
      refine r_get hx hb hts hown hK hP 0 rfl rfl in_X 0 (by decide) kf_X_10 rfl d_X_look_12 ?_
      refine r_getN hx hb hts hown hz.2 hK hP 1 rfl rfl in_R 0 (by decide) 0 rfl rfl d_X_look_15 ?_
      refine lv_iload_n hx hb d_X_look_18 rfl (lv_at hl 1 rfl) ?_
      refine r_bald hx hb hK hP 2 0 rfl rfl (by decide) (by omega) d_X_look_19 ?_
      refine r_ifne (tgt := 28) hx hb d_X_look_20 (by decide) (by omega) (fun c_20 => absurd c_20 (by omega)) (fun c_20 => ?_)
      refine lv_bipush (v := -2) hx hb d_X_look_23 (by decide) ?_
      refine lv_goto (tgt := 63) hx hb d_X_look_25 (by decide) ?_
      exact hend _ _ (XS.mk x.rs x.rv x.dp x.col x.siz x.srt x.val x.fre x.gry x.most x.fc x.gc x.us x.ob x.wh x.ph x.sw x.md x.made x.full) _ _ _ hP hS d_X_look_63 ⟨rfl, IX.y (by decide) ha ⟨fun _ => rfl, fun z => by omega, fun z => by omega⟩⟩
    · refine r_meti (by decide) (Nat.le_of_ble_eq_true rfl) ?_
      intro p e s m args below meth c Q ls hx hb S hK hz hend hl hP hS
      have hts := S.2.2.2.2
      have hown := S.2.2.2.1
      refine lv_iload_n hx hb d_X_look_0 rfl (lv_at hl 1 rfl) ?_
      refine r_calls S (c_R_is1 l a ha) kc_R_is k0_R km_X_47 kt_R_is hd_R_is ⟨rfl, rfl⟩ ⟨by decide, by decide⟩ rfl hl.1 rfl (Nat.le_of_ble_eq_true rfl) ⟨Nat.zero_le _, Nat.zero_le _⟩ d_X_look_1 ?_
      refine r_ifne (tgt := 11) hx hb d_X_look_4 (by decide) (by omega) (fun c_4 => ?_) (fun c_4 => absurd c_4 (by omega))
      refine lv_aload_n hx hb d_X_look_11 rfl (lv_at hl 0 rfl) ?_
      refine r_get hx hb hts hown hK hP 0 rfl rfl in_X 0 (by decide) kf_X_10 rfl d_X_look_12 ?_
      refine r_getN hx hb hts hown hz.2 hK hP 1 rfl rfl in_R 0 (by decide) 0 rfl rfl d_X_look_15 ?_
      refine lv_iload_n hx hb d_X_look_18 rfl (lv_at hl 1 rfl) ?_
      refine r_bald hx hb hK hP 2 0 rfl rfl (by decide) (by omega) d_X_look_19 ?_
      refine r_ifne (tgt := 28) hx hb d_X_look_20 (by decide) (by omega) (fun c_20 => ?_) (fun c_20 => absurd c_20 (by omega))
      refine lv_aload_n hx hb d_X_look_28 rfl (lv_at hl 0 rfl) ?_
      refine r_get hx hb hts hown hK hP 0 rfl rfl in_X 0 (by decide) kf_X_10 rfl d_X_look_29 ?_
      refine r_getN hx hb hts hown hz.2 hK hP 1 rfl rfl in_R 0 (by decide) 0 rfl rfl d_X_look_32 ?_
      refine lv_iload_n hx hb d_X_look_35 rfl (lv_at hl 1 rfl) ?_
      refine r_bald hx hb hK hP 2 0 rfl rfl (by decide) (by omega) d_X_look_36 ?_
      refine lv_iconst (v := nI 1) hx hb d_X_look_37 (by decide) ?_
      refine r_ne (tgt := 46) hx hb d_X_look_38 (by decide) (by omega) (by omega) (fun c_38 => absurd c_38 (by omega)) (fun c_38 => ?_)
      refine lv_bipush (v := -3) hx hb d_X_look_41 (by decide) ?_
      refine lv_goto (tgt := 63) hx hb d_X_look_43 (by decide) ?_
      exact hend _ _ (XS.mk x.rs x.rv x.dp x.col x.siz x.srt x.val x.fre x.gry x.most x.fc x.gc x.us x.ob x.wh x.ph x.sw x.md x.made x.full) _ _ _ hP hS d_X_look_63 ⟨rfl, IX.y (by decide) ha ⟨fun z => by omega, fun _ => rfl, fun z => by omega⟩⟩
    · obtain ⟨v, hv, he⟩ := h.ro a ha h0
      refine r_meti (by decide) (Nat.le_of_ble_eq_true rfl) ?_
      intro p e s m args below meth c Q ls hx hb S hK hz hend hl hP hS
      have hts := S.2.2.2.2
      have hown := S.2.2.2.1
      refine lv_iload_n hx hb d_X_look_0 rfl (lv_at hl 1 rfl) ?_
      refine r_calls S (c_R_is1 l a ha) kc_R_is k0_R km_X_47 kt_R_is hd_R_is ⟨rfl, rfl⟩ ⟨by decide, by decide⟩ rfl hl.1 rfl (Nat.le_of_ble_eq_true rfl) ⟨Nat.zero_le _, Nat.zero_le _⟩ d_X_look_1 ?_
      refine r_ifne (tgt := 11) hx hb d_X_look_4 (by decide) (by omega) (fun c_4 => ?_) (fun c_4 => absurd c_4 (by omega))
      refine lv_aload_n hx hb d_X_look_11 rfl (lv_at hl 0 rfl) ?_
      refine r_get hx hb hts hown hK hP 0 rfl rfl in_X 0 (by decide) kf_X_10 rfl d_X_look_12 ?_
      refine r_getN hx hb hts hown hz.2 hK hP 1 rfl rfl in_R 0 (by decide) 0 rfl rfl d_X_look_15 ?_
      refine lv_iload_n hx hb d_X_look_18 rfl (lv_at hl 1 rfl) ?_
      refine r_bald hx hb hK hP 2 0 rfl rfl (by decide) (by omega) d_X_look_19 ?_
      refine r_ifne (tgt := 28) hx hb d_X_look_20 (by decide) (by omega) (fun c_20 => ?_) (fun c_20 => absurd c_20 (by omega))
      refine lv_aload_n hx hb d_X_look_28 rfl (lv_at hl 0 rfl) ?_
      refine r_get hx hb hts hown hK hP 0 rfl rfl in_X 0 (by decide) kf_X_10 rfl d_X_look_29 ?_
      refine r_getN hx hb hts hown hz.2 hK hP 1 rfl rfl in_R 0 (by decide) 0 rfl rfl d_X_look_32 ?_
      refine lv_iload_n hx hb d_X_look_35 rfl (lv_at hl 1 rfl) ?_
      refine r_bald hx hb hK hP 2 0 rfl rfl (by decide) (by omega) d_X_look_36 ?_
      refine lv_iconst (v := nI 1) hx hb d_X_look_37 (by decide) ?_
      refine r_ne (tgt := 46) hx hb d_X_look_38 (by decide) (by omega) (by omega) (fun c_38 => ?_) (fun c_38 => absurd c_38 (by omega))
      refine lv_aload_n hx hb d_X_look_46 rfl (lv_at hl 0 rfl) ?_
      refine r_get hx hb hts hown hK hP 0 rfl rfl in_X 1 (by decide) kf_X_21 rfl d_X_look_47 ?_
      refine r_getN hx hb hts hown hz.2 hK hP 4 rfl rfl in_H 1 (by decide) 3 rfl rfl d_X_look_50 ?_
      refine lv_aload_n hx hb d_X_look_53 rfl (lv_at hl 0 rfl) ?_
      refine r_get hx hb hts hown hK hP 0 rfl rfl in_X 0 (by decide) kf_X_10 rfl d_X_look_54 ?_
      refine r_getN hx hb hts hown hz.2 hK hP 1 rfl rfl in_R 1 (by decide) 1 rfl rfl d_X_look_57 ?_
      refine lv_iload_n hx hb d_X_look_60 rfl (lv_at hl 1 rfl) ?_
      refine r_iald hx hb hK hP 3 1 rfl rfl (by decide) (by omega) d_X_look_61 ?_
      refine r_top (he) ?_
      refine r_bald hx hb hK hP 6 0 rfl rfl (by decide) (by omega) d_X_look_62 ?_
      exact hend _ _ (XS.mk x.rs x.rv x.dp x.col x.siz x.srt x.val x.fre x.gry x.most x.fc x.gc x.us x.ob x.wh x.ph x.sw x.md x.made x.full) _ _ _ hP hS d_X_look_63 ⟨rfl, IX.y (by decide) ha ⟨fun z => by omega, fun z => by omega, fun _ v' hv' he' => by rw [(nI_eq (by omega) (by omega)).mp (he.symm.trans he')]⟩⟩
  · refine r_meti (by decide) (Nat.le_of_ble_eq_true rfl) ?_
    intro p e s m args below meth c Q ls hx hb S hK hz hend hl hP hS
    have hts := S.2.2.2.2
    have hown := S.2.2.2.1
    refine lv_iload_n hx hb d_X_look_0 rfl (lv_at hl 1 rfl) ?_
    refine r_calls S (c_R_is0 l r hr) kc_R_is k0_R km_X_47 kt_R_is hd_R_is ⟨rfl, rfl⟩ ⟨by decide, by decide⟩ rfl hl.1 rfl (Nat.le_of_ble_eq_true rfl) ⟨Nat.zero_le _, Nat.zero_le _⟩ d_X_look_1 ?_
    refine r_ifne (tgt := 11) hx hb d_X_look_4 (by decide) (by omega) (fun c_4 => absurd c_4 (by omega)) (fun c_4 => ?_)
    refine lv_iconst (v := -1) hx hb d_X_look_7 (by decide) ?_
    refine lv_goto (tgt := 63) hx hb d_X_look_8 (by decide) ?_
    exact hend _ _ (XS.mk x.rs x.rv x.dp x.col x.siz x.srt x.val x.fre x.gry x.most x.fc x.gc x.us x.ob x.wh x.ph x.sw x.md x.made x.full) _ _ _ hP hS d_X_look_63 ⟨rfl, IX.n (by decide) hr rfl⟩
set_option maxHeartbeats 4000000 in
set_option maxRecDepth 100000 in
theorem c_X_numberIn (l : Launch) (E : KX) (x : XS) (r : Int32) (h : Inv x) : Xi l E y_X_numberIn w_X_numberIn rm_X_numberIn [.ref (E.ad 0), .int r] x (fun q x' => x' = x ∧ IX r 10 (fun a => (x.rs a = 1 → q = x.rv a) ∧ (x.rs a ≠ 1 → q = nI 0)) (q = nI 0)) := by
  rcases ix_cases r (n := 10) (by decide) with ⟨a, ha, rfl⟩ | hr
  · have h2 := h.1.2.2.2.1 a
    by_cases h0 : x.rs a = 1
    · refine r_meti (by decide) (Nat.le_of_ble_eq_true rfl) ?_
      intro p e s m args below meth c Q ls hx hb S hK hz hend hl hP hS
      have hts := S.2.2.2.2
      have hown := S.2.2.2.1
      refine lv_iload_n hx hb d_X_numberIn_0 rfl (lv_at hl 1 rfl) ?_
      refine r_calls S (c_R_is1 l a ha) kc_R_is k0_R km_X_47 kt_R_is hd_R_is ⟨rfl, rfl⟩ ⟨by decide, by decide⟩ rfl hl.1 rfl (Nat.le_of_ble_eq_true rfl) ⟨Nat.zero_le _, Nat.zero_le _⟩ d_X_numberIn_1 ?_
      refine r_ifeq (tgt := 32) hx hb d_X_numberIn_4 (by decide) (by omega) (fun c_4 => absurd c_4 (by omega)) (fun c_4 => ?_)
      refine lv_aload_n hx hb d_X_numberIn_7 rfl (lv_at hl 0 rfl) ?_
      refine r_get hx hb hts hown hK hP 0 rfl rfl in_X 0 (by decide) kf_X_10 rfl d_X_numberIn_8 ?_
      refine r_getN hx hb hts hown hz.2 hK hP 1 rfl rfl in_R 0 (by decide) 0 rfl rfl d_X_numberIn_11 ?_
      refine lv_iload_n hx hb d_X_numberIn_14 rfl (lv_at hl 1 rfl) ?_
      refine r_bald hx hb hK hP 2 0 rfl rfl (by decide) (by omega) d_X_numberIn_15 ?_
      refine lv_iconst (v := nI 1) hx hb d_X_numberIn_16 (by decide) ?_
      refine r_ne (tgt := 32) hx hb d_X_numberIn_17 (by decide) (by omega) (by omega) (fun c_17 => absurd c_17 (fun q => q h0)) (fun c_17 => ?_)
      refine lv_aload_n hx hb d_X_numberIn_20 rfl (lv_at hl 0 rfl) ?_
      refine r_get hx hb hts hown hK hP 0 rfl rfl in_X 0 (by decide) kf_X_10 rfl d_X_numberIn_21 ?_
      refine r_getN hx hb hts hown hz.2 hK hP 1 rfl rfl in_R 1 (by decide) 1 rfl rfl d_X_numberIn_24 ?_
      refine lv_iload_n hx hb d_X_numberIn_27 rfl (lv_at hl 1 rfl) ?_
      refine r_iald hx hb hK hP 3 1 rfl rfl (by decide) (by omega) d_X_numberIn_28 ?_
      refine lv_goto (tgt := 33) hx hb d_X_numberIn_29 (by decide) ?_
      exact hend _ _ (XS.mk x.rs x.rv x.dp x.col x.siz x.srt x.val x.fre x.gry x.most x.fc x.gc x.us x.ob x.wh x.ph x.sw x.md x.made x.full) _ _ _ hP hS d_X_numberIn_33 ⟨rfl, IX.y (by decide) ha ⟨fun _ => rfl, fun z => absurd h0 z⟩⟩
    · refine r_meti (by decide) (Nat.le_of_ble_eq_true rfl) ?_
      intro p e s m args below meth c Q ls hx hb S hK hz hend hl hP hS
      have hts := S.2.2.2.2
      have hown := S.2.2.2.1
      refine lv_iload_n hx hb d_X_numberIn_0 rfl (lv_at hl 1 rfl) ?_
      refine r_calls S (c_R_is1 l a ha) kc_R_is k0_R km_X_47 kt_R_is hd_R_is ⟨rfl, rfl⟩ ⟨by decide, by decide⟩ rfl hl.1 rfl (Nat.le_of_ble_eq_true rfl) ⟨Nat.zero_le _, Nat.zero_le _⟩ d_X_numberIn_1 ?_
      refine r_ifeq (tgt := 32) hx hb d_X_numberIn_4 (by decide) (by omega) (fun c_4 => absurd c_4 (by omega)) (fun c_4 => ?_)
      refine lv_aload_n hx hb d_X_numberIn_7 rfl (lv_at hl 0 rfl) ?_
      refine r_get hx hb hts hown hK hP 0 rfl rfl in_X 0 (by decide) kf_X_10 rfl d_X_numberIn_8 ?_
      refine r_getN hx hb hts hown hz.2 hK hP 1 rfl rfl in_R 0 (by decide) 0 rfl rfl d_X_numberIn_11 ?_
      refine lv_iload_n hx hb d_X_numberIn_14 rfl (lv_at hl 1 rfl) ?_
      refine r_bald hx hb hK hP 2 0 rfl rfl (by decide) (by omega) d_X_numberIn_15 ?_
      refine lv_iconst (v := nI 1) hx hb d_X_numberIn_16 (by decide) ?_
      refine r_ne (tgt := 32) hx hb d_X_numberIn_17 (by decide) (by omega) (by omega) (fun c_17 => ?_) (fun c_17 => absurd c_17 h0)
      refine lv_iconst (v := nI 0) hx hb d_X_numberIn_32 (by decide) ?_
      exact hend _ _ (XS.mk x.rs x.rv x.dp x.col x.siz x.srt x.val x.fre x.gry x.most x.fc x.gc x.us x.ob x.wh x.ph x.sw x.md x.made x.full) _ _ _ hP hS d_X_numberIn_33 ⟨rfl, IX.y (by decide) ha ⟨fun z => absurd z h0, fun _ => rfl⟩⟩
  · refine r_meti (by decide) (Nat.le_of_ble_eq_true rfl) ?_
    intro p e s m args below meth c Q ls hx hb S hK hz hend hl hP hS
    have hts := S.2.2.2.2
    have hown := S.2.2.2.1
    refine lv_iload_n hx hb d_X_numberIn_0 rfl (lv_at hl 1 rfl) ?_
    refine r_calls S (c_R_is0 l r hr) kc_R_is k0_R km_X_47 kt_R_is hd_R_is ⟨rfl, rfl⟩ ⟨by decide, by decide⟩ rfl hl.1 rfl (Nat.le_of_ble_eq_true rfl) ⟨Nat.zero_le _, Nat.zero_le _⟩ d_X_numberIn_1 ?_
    refine r_ifeq (tgt := 32) hx hb d_X_numberIn_4 (by decide) (by omega) (fun c_4 => ?_) (fun c_4 => absurd c_4 (by omega))
    refine lv_iconst (v := nI 0) hx hb d_X_numberIn_32 (by decide) ?_
    exact hend _ _ (XS.mk x.rs x.rv x.dp x.col x.siz x.srt x.val x.fre x.gry x.most x.fc x.gc x.us x.ob x.wh x.ph x.sw x.md x.made x.full) _ _ _ hP hS d_X_numberIn_33 ⟨rfl, IX.n (by decide) hr rfl⟩
set_option maxHeartbeats 4000000 in
set_option maxRecDepth 100000 in
theorem c_X_same (l : Launch) (E : KX) (x : XS) (r t : Int32) (h : Inv x) : Xi l E y_X_same w_X_same rm_X_same [.ref (E.ad 0), .int r, .int t] x (fun q x' => x' = x ∧ IX r 10 (fun a => IX t 10 (fun b => (x.rs a = x.rs b ∧ x.rv a = x.rv b → q = nI 1) ∧ (¬ (x.rs a = x.rs b ∧ x.rv a = x.rv b) → q = nI 0)) (q = -1)) (q = -1)) := by
  rcases ix_cases r (n := 10) (by decide) with ⟨a, ha, rfl⟩ | hr
  · rcases ix_cases t (n := 10) (by decide) with ⟨b, hb', rfl⟩ | hr
    · have h2 := h.1.2.2.2.1 a
      have h3 := h.1.2.2.2.1 b
      refine r_meti (by decide) (Nat.le_of_ble_eq_true rfl) ?_
      intro p e s m args below meth c Q ls hx hb S hK hz hend hl hP hS
      have hts := S.2.2.2.2
      have hown := S.2.2.2.1
      refine lv_iload_n hx hb d_X_same_0 rfl (lv_at hl 1 rfl) ?_
      refine r_calls S (c_R_is1 l a ha) kc_R_is k0_R km_X_47 kt_R_is hd_R_is ⟨rfl, rfl⟩ ⟨by decide, by decide⟩ rfl hl.1 rfl (Nat.le_of_ble_eq_true rfl) ⟨Nat.zero_le _, Nat.zero_le _⟩ d_X_same_1 ?_
      refine r_ifeq (tgt := 14) hx hb d_X_same_4 (by decide) (by omega) (fun c_4 => absurd c_4 (by omega)) (fun c_4 => ?_)
      refine lv_iload_n hx hb d_X_same_7 rfl (lv_at hl 2 rfl) ?_
      refine r_calls S (c_R_is1 l b hb') kc_R_is k0_R km_X_47 kt_R_is hd_R_is ⟨rfl, rfl⟩ ⟨by decide, by decide⟩ rfl hl.1 rfl (Nat.le_of_ble_eq_true rfl) ⟨Nat.zero_le _, Nat.zero_le _⟩ d_X_same_8 ?_
      refine r_ifne (tgt := 18) hx hb d_X_same_11 (by decide) (by omega) (fun c_11 => ?_) (fun c_11 => absurd c_11 (by omega))
      refine lv_aload_n hx hb d_X_same_18 rfl (lv_at hl 0 rfl) ?_
      refine r_get hx hb hts hown hK hP 0 rfl rfl in_X 0 (by decide) kf_X_10 rfl d_X_same_19 ?_
      refine r_getN hx hb hts hown hz.2 hK hP 1 rfl rfl in_R 0 (by decide) 0 rfl rfl d_X_same_22 ?_
      refine lv_iload_n hx hb d_X_same_25 rfl (lv_at hl 1 rfl) ?_
      refine r_bald hx hb hK hP 2 0 rfl rfl (by decide) (by omega) d_X_same_26 ?_
      refine lv_aload_n hx hb d_X_same_27 rfl (lv_at hl 0 rfl) ?_
      refine r_get hx hb hts hown hK hP 0 rfl rfl in_X 0 (by decide) kf_X_10 rfl d_X_same_28 ?_
      refine r_getN hx hb hts hown hz.2 hK hP 1 rfl rfl in_R 0 (by decide) 0 rfl rfl d_X_same_31 ?_
      refine lv_iload_n hx hb d_X_same_34 rfl (lv_at hl 2 rfl) ?_
      refine r_bald hx hb hK hP 2 0 rfl rfl (by decide) (by omega) d_X_same_35 ?_
      refine r_ne (tgt := 64) hx hb d_X_same_36 (by decide) (by omega) (by omega) (fun c_36 => ?_) (fun c_36 => ?_)
      · refine lv_iconst (v := nI 0) hx hb d_X_same_64 (by decide) ?_
        exact hend _ _ (XS.mk x.rs x.rv x.dp x.col x.siz x.srt x.val x.fre x.gry x.most x.fc x.gc x.us x.ob x.wh x.ph x.sw x.md x.made x.full) _ _ _ hP hS d_X_same_65 ⟨rfl, IX.y (by decide) ha (IX.y (by decide) hb' ⟨fun z => absurd z.1 c_36, fun _ => rfl⟩)⟩
      · refine lv_aload_n hx hb d_X_same_39 rfl (lv_at hl 0 rfl) ?_
        refine r_get hx hb hts hown hK hP 0 rfl rfl in_X 0 (by decide) kf_X_10 rfl d_X_same_40 ?_
        refine r_getN hx hb hts hown hz.2 hK hP 1 rfl rfl in_R 1 (by decide) 1 rfl rfl d_X_same_43 ?_
        refine lv_iload_n hx hb d_X_same_46 rfl (lv_at hl 1 rfl) ?_
        refine r_iald hx hb hK hP 3 1 rfl rfl (by decide) (by omega) d_X_same_47 ?_
        refine lv_aload_n hx hb d_X_same_48 rfl (lv_at hl 0 rfl) ?_
        refine r_get hx hb hts hown hK hP 0 rfl rfl in_X 0 (by decide) kf_X_10 rfl d_X_same_49 ?_
        refine r_getN hx hb hts hown hz.2 hK hP 1 rfl rfl in_R 1 (by decide) 1 rfl rfl d_X_same_52 ?_
        refine lv_iload_n hx hb d_X_same_55 rfl (lv_at hl 2 rfl) ?_
        refine r_iald hx hb hK hP 3 1 rfl rfl (by decide) (by omega) d_X_same_56 ?_
        refine lv_icmp_ne (tgt := 64) hx hb d_X_same_57 (by decide) (fun c_57 => ?_) (fun c_57 => ?_)
        · refine lv_iconst (v := nI 0) hx hb d_X_same_64 (by decide) ?_
          exact hend _ _ (XS.mk x.rs x.rv x.dp x.col x.siz x.srt x.val x.fre x.gry x.most x.fc x.gc x.us x.ob x.wh x.ph x.sw x.md x.made x.full) _ _ _ hP hS d_X_same_65 ⟨rfl, IX.y (by decide) ha (IX.y (by decide) hb' ⟨fun z => absurd z.2 c_57, fun _ => rfl⟩)⟩
        · refine lv_iconst (v := nI 1) hx hb d_X_same_60 (by decide) ?_
          refine lv_goto (tgt := 65) hx hb d_X_same_61 (by decide) ?_
          exact hend _ _ (XS.mk x.rs x.rv x.dp x.col x.siz x.srt x.val x.fre x.gry x.most x.fc x.gc x.us x.ob x.wh x.ph x.sw x.md x.made x.full) _ _ _ hP hS d_X_same_65 ⟨rfl, IX.y (by decide) ha (IX.y (by decide) hb' ⟨fun _ => rfl, fun z => absurd ⟨c_36, c_57⟩ z⟩)⟩
    · refine r_meti (by decide) (Nat.le_of_ble_eq_true rfl) ?_
      intro p e s m args below meth c Q ls hx hb S hK hz hend hl hP hS
      have hts := S.2.2.2.2
      have hown := S.2.2.2.1
      refine lv_iload_n hx hb d_X_same_0 rfl (lv_at hl 1 rfl) ?_
      refine r_calls S (c_R_is1 l a ha) kc_R_is k0_R km_X_47 kt_R_is hd_R_is ⟨rfl, rfl⟩ ⟨by decide, by decide⟩ rfl hl.1 rfl (Nat.le_of_ble_eq_true rfl) ⟨Nat.zero_le _, Nat.zero_le _⟩ d_X_same_1 ?_
      refine r_ifeq (tgt := 14) hx hb d_X_same_4 (by decide) (by omega) (fun c_4 => absurd c_4 (by omega)) (fun c_4 => ?_)
      refine lv_iload_n hx hb d_X_same_7 rfl (lv_at hl 2 rfl) ?_
      refine r_calls S (c_R_is0 l t hr) kc_R_is k0_R km_X_47 kt_R_is hd_R_is ⟨rfl, rfl⟩ ⟨by decide, by decide⟩ rfl hl.1 rfl (Nat.le_of_ble_eq_true rfl) ⟨Nat.zero_le _, Nat.zero_le _⟩ d_X_same_8 ?_
      refine r_ifne (tgt := 18) hx hb d_X_same_11 (by decide) (by omega) (fun c_11 => absurd c_11 (by omega)) (fun c_11 => ?_)
      refine lv_iconst (v := -1) hx hb d_X_same_14 (by decide) ?_
      refine lv_goto (tgt := 65) hx hb d_X_same_15 (by decide) ?_
      exact hend _ _ (XS.mk x.rs x.rv x.dp x.col x.siz x.srt x.val x.fre x.gry x.most x.fc x.gc x.us x.ob x.wh x.ph x.sw x.md x.made x.full) _ _ _ hP hS d_X_same_65 ⟨rfl, IX.y (by decide) ha (IX.n (by decide) hr rfl)⟩
  · refine r_meti (by decide) (Nat.le_of_ble_eq_true rfl) ?_
    intro p e s m args below meth c Q ls hx hb S hK hz hend hl hP hS
    have hts := S.2.2.2.2
    have hown := S.2.2.2.1
    refine lv_iload_n hx hb d_X_same_0 rfl (lv_at hl 1 rfl) ?_
    refine r_calls S (c_R_is0 l r hr) kc_R_is k0_R km_X_47 kt_R_is hd_R_is ⟨rfl, rfl⟩ ⟨by decide, by decide⟩ rfl hl.1 rfl (Nat.le_of_ble_eq_true rfl) ⟨Nat.zero_le _, Nat.zero_le _⟩ d_X_same_1 ?_
    refine r_ifeq (tgt := 14) hx hb d_X_same_4 (by decide) (by omega) (fun c_4 => ?_) (fun c_4 => absurd c_4 (by omega))
    refine lv_iconst (v := -1) hx hb d_X_same_14 (by decide) ?_
    refine lv_goto (tgt := 65) hx hb d_X_same_15 (by decide) ?_
    exact hend _ _ (XS.mk x.rs x.rv x.dp x.col x.siz x.srt x.val x.fre x.gry x.most x.fc x.gc x.us x.ob x.wh x.ph x.sw x.md x.made x.full) _ _ _ hP hS d_X_same_65 ⟨rfl, IX.n (by decide) hr rfl⟩
set_option maxHeartbeats 4000000 in
set_option maxRecDepth 100000 in
theorem c_X_shrink (l : Launch) (E : KX) (x : XS) (r : Int32) (h : Inv x) : Xi l E y_X_shrink w_X_shrink rm_X_shrink [.ref (E.ad 0), .int r] x (fun q x' => OBJ x.rs x.rv 1600 r (fun j v => (x.siz v = 0 → q = -1 ∧ x' = x) ∧ (x.siz v ≠ 0 → q = nI (x.siz v - 1) ∧ x' = XS.mk x.rs x.rv x.dp x.col (va_up x.siz v (x.siz v - 1)) x.srt x.val x.fre x.gry x.most x.fc x.gc (x.us - 1) x.ob x.wh x.ph x.sw x.md x.made x.full)) (q = -1 ∧ x' = x)) := by
  rcases ob_cases h.ro r with ⟨j, v, hj, rfl, h2, hv, he⟩ | hno
  · have hs := h.1.2.1 v
    by_cases h0 : x.siz v = 0
    · refine r_meti (by decide) (Nat.le_of_ble_eq_true rfl) ?_
      intro p e s m args below meth c Q ls hx hb S hK hz hend hl hP hS
      have hts := S.2.2.2.2
      have hown := S.2.2.2.1
      refine lv_aload_n hx hb d_X_shrink_0 rfl (lv_at hl 0 rfl) ?_
      refine r_get hx hb hts hown hK hP 0 rfl rfl in_X 0 (by decide) kf_X_10 rfl d_X_shrink_1 ?_
      refine lv_iload_n hx hb d_X_shrink_4 rfl (lv_at hl 1 rfl) ?_
      refine r_calli S (c_R_hasObjY l E (XS.mk x.rs x.rv x.dp x.col x.siz x.srt x.val x.fre x.gry x.most x.fc x.gc x.us x.ob x.wh x.ph x.sw x.md x.made x.full) j hj h2) kc_R_hasObject k0_R km_X_70 ki_R_hasObject ks_R_hasObject hd_R_hasObject ⟨rfl, rfl⟩ ⟨by decide, by decide⟩ (zX_ok E) hz hK hP hS (fun _ h => h) 1 rfl rfl rfl hl.1 rfl (Nat.le_of_ble_eq_true rfl) ⟨Nat.zero_le _, Nat.zero_le _⟩ d_X_shrink_5 (fun r1 x1 H locs hw hP _ _ hS => ?_)
      obtain ⟨hr1, hx1⟩ := hw
      subst hr1 hx1
      have hP : va_P E.D classes (wXe E x.rs x.rv x.dp x.col x.siz x.srt x.val x.fre x.gry x.most x.fc x.gc x.us x.ob x.wh x.ph x.sw x.md x.made x.full) H := hP
      refine r_ifeq (tgt := 31) hx hb d_X_shrink_8 (by decide) (by omega) (fun c_8 => absurd c_8 (by omega)) (fun c_8 => ?_)
      refine lv_aload_n hx hb d_X_shrink_11 rfl (lv_at hl 0 rfl) ?_
      refine r_get hx hb hts hown hK hP 0 rfl rfl in_X 1 (by decide) kf_X_21 rfl d_X_shrink_12 ?_
      refine r_getN hx hb hts hown hz.2 hK hP 4 rfl rfl in_H 1 (by decide) 3 rfl rfl d_X_shrink_15 ?_
      refine lv_aload_n hx hb d_X_shrink_18 rfl (lv_at hl 0 rfl) ?_
      refine r_get hx hb hts hown hK hP 0 rfl rfl in_X 0 (by decide) kf_X_10 rfl d_X_shrink_19 ?_
      refine r_getN hx hb hts hown hz.2 hK hP 1 rfl rfl in_R 1 (by decide) 1 rfl rfl d_X_shrink_22 ?_
      refine lv_iload_n hx hb d_X_shrink_25 rfl (lv_at hl 1 rfl) ?_
      refine r_iald hx hb hK hP 3 1 rfl rfl (by decide) (by omega) d_X_shrink_26 ?_
      refine r_top (he) ?_
      refine r_bald hx hb hK hP 6 0 rfl rfl (by decide) (by omega) d_X_shrink_27 ?_
      refine r_ifne (tgt := 33) hx hb d_X_shrink_28 (by decide) (by omega) (fun c_28 => absurd c_28 (fun q => q h0)) (fun c_28 => ?_)
      refine lv_iconst (v := -1) hx hb d_X_shrink_31 (by decide) ?_
      exact hend _ _ (XS.mk x.rs x.rv x.dp x.col x.siz x.srt x.val x.fre x.gry x.most x.fc x.gc x.us x.ob x.wh x.ph x.sw x.md x.made x.full) _ _ _ hP hS d_X_shrink_32 (OBJ.y (by decide) hj h2 hv he ⟨fun _ => ⟨rfl, rfl⟩, fun z => absurd h0 z⟩)
    · have hus : 1 ≤ x.us := by
        obtain ⟨v', q1, q2, q3⟩ := h.2.2.2.2.2.2.1 j (by omega) h2
        rw [← (nI_eq (by omega) (by omega)).mp (he.symm.trans q2)] at q3
        have := (h.2.2.2.1.size (n := 0) hv q3.2.1).1
        omega
      refine r_meti (by decide) (Nat.le_of_ble_eq_true rfl) ?_
      intro p e s m args below meth c Q ls hx hb S hK hz hend hl hP hS
      have hts := S.2.2.2.2
      have hown := S.2.2.2.1
      refine lv_aload_n hx hb d_X_shrink_0 rfl (lv_at hl 0 rfl) ?_
      refine r_get hx hb hts hown hK hP 0 rfl rfl in_X 0 (by decide) kf_X_10 rfl d_X_shrink_1 ?_
      refine lv_iload_n hx hb d_X_shrink_4 rfl (lv_at hl 1 rfl) ?_
      refine r_calli S (c_R_hasObjY l E (XS.mk x.rs x.rv x.dp x.col x.siz x.srt x.val x.fre x.gry x.most x.fc x.gc x.us x.ob x.wh x.ph x.sw x.md x.made x.full) j hj h2) kc_R_hasObject k0_R km_X_70 ki_R_hasObject ks_R_hasObject hd_R_hasObject ⟨rfl, rfl⟩ ⟨by decide, by decide⟩ (zX_ok E) hz hK hP hS (fun _ h => h) 1 rfl rfl rfl hl.1 rfl (Nat.le_of_ble_eq_true rfl) ⟨Nat.zero_le _, Nat.zero_le _⟩ d_X_shrink_5 (fun r1 x1 H locs hw hP _ _ hS => ?_)
      obtain ⟨hr1, hx1⟩ := hw
      subst hr1 hx1
      have hP : va_P E.D classes (wXe E x.rs x.rv x.dp x.col x.siz x.srt x.val x.fre x.gry x.most x.fc x.gc x.us x.ob x.wh x.ph x.sw x.md x.made x.full) H := hP
      refine r_ifeq (tgt := 31) hx hb d_X_shrink_8 (by decide) (by omega) (fun c_8 => absurd c_8 (by omega)) (fun c_8 => ?_)
      refine lv_aload_n hx hb d_X_shrink_11 rfl (lv_at hl 0 rfl) ?_
      refine r_get hx hb hts hown hK hP 0 rfl rfl in_X 1 (by decide) kf_X_21 rfl d_X_shrink_12 ?_
      refine r_getN hx hb hts hown hz.2 hK hP 4 rfl rfl in_H 1 (by decide) 3 rfl rfl d_X_shrink_15 ?_
      refine lv_aload_n hx hb d_X_shrink_18 rfl (lv_at hl 0 rfl) ?_
      refine r_get hx hb hts hown hK hP 0 rfl rfl in_X 0 (by decide) kf_X_10 rfl d_X_shrink_19 ?_
      refine r_getN hx hb hts hown hz.2 hK hP 1 rfl rfl in_R 1 (by decide) 1 rfl rfl d_X_shrink_22 ?_
      refine lv_iload_n hx hb d_X_shrink_25 rfl (lv_at hl 1 rfl) ?_
      refine r_iald hx hb hK hP 3 1 rfl rfl (by decide) (by omega) d_X_shrink_26 ?_
      refine r_top (he) ?_
      refine r_bald hx hb hK hP 6 0 rfl rfl (by decide) (by omega) d_X_shrink_27 ?_
      refine r_ifne (tgt := 33) hx hb d_X_shrink_28 (by decide) (by omega) (fun c_28 => ?_) (fun c_28 => absurd c_28 h0)
      refine lv_aload_n hx hb d_X_shrink_33 rfl (lv_at hl 0 rfl) ?_
      refine r_get hx hb hts hown hK hP 0 rfl rfl in_X 0 (by decide) kf_X_10 rfl d_X_shrink_34 ?_
      refine r_getN hx hb hts hown hz.2 hK hP 1 rfl rfl in_R 1 (by decide) 1 rfl rfl d_X_shrink_37 ?_
      refine lv_iload_n hx hb d_X_shrink_40 rfl (lv_at hl 1 rfl) ?_
      refine r_iald hx hb hK hP 3 1 rfl rfl (by decide) (by omega) d_X_shrink_41 ?_
      refine r_top (he) ?_
      refine lv_istore_n hx hb d_X_shrink_42 rfl hl (by decide) rfl (fun ls hl => ?_)
      refine lv_aload_n hx hb d_X_shrink_43 rfl (lv_at hl 1 rfl) ?_
      refine r_get hx hb hts hown hK hP 0 rfl rfl in_X 1 (by decide) kf_X_21 rfl d_X_shrink_44 ?_
      refine r_getN hx hb hts hown hz.2 hK hP 4 rfl rfl in_H 1 (by decide) 3 rfl rfl d_X_shrink_47 ?_
      refine lv_iload_n hx hb d_X_shrink_50 rfl (lv_at hl 0 rfl) ?_
      refine lv_dup2_11 hx hb d_X_shrink_51 rfl rfl ?_
      refine r_bald hx hb hK hP 6 0 rfl rfl (by decide) (by omega) d_X_shrink_52 ?_
      refine lv_iconst (v := nI 1) hx hb d_X_shrink_53 (by decide) ?_
      refine r_sub hx hb (by omega) d_X_shrink_54 ?_
      refine r_i2b hx hb (by omega) d_X_shrink_55 ?_
      refine r_bast (ws' := wXe E x.rs x.rv x.dp x.col (va_up x.siz v (x.siz v - 1)) x.srt x.val x.fre x.gry x.most x.fc x.gc x.us x.ob x.wh x.ph x.sw x.md x.made x.full) hx hb hK hP (wX_D hz.1) hS 6 0 rfl rfl (by decide) (by omega) (by omega) rfl d_X_shrink_56 (fun H locs hP hS => ?_)
      refine lv_aload_n hx hb d_X_shrink_57 rfl (lv_at hl 1 rfl) ?_
      refine r_get hx hb hts hown hK hP 0 rfl rfl in_X 1 (by decide) kf_X_21 rfl d_X_shrink_58 ?_
      refine lv_dup hx hb d_X_shrink_61 rfl ?_
      refine r_getN hx hb hts hown hz.2 hK hP 4 rfl rfl in_H 10 (by decide) 6 rfl rfl d_X_shrink_62 ?_
      refine lv_iconst (v := nI 1) hx hb d_X_shrink_65 (by decide) ?_
      refine r_sub hx hb (by omega) d_X_shrink_66 ?_
      refine r_putN (ws' := wXe E x.rs x.rv x.dp x.col (va_up x.siz v (x.siz v - 1)) x.srt x.val x.fre x.gry x.most x.fc x.gc (x.us - 1) x.ob x.wh x.ph x.sw x.md x.made x.full) hx hb hts hown hz.2 hK hP (wX_D hz.1) hS 4 rfl rfl in_H t_H t_H_ok n_H 10 (by decide) 6 rfl rfl rfl (Nat.le_of_ble_eq_true rfl) rfl d_X_shrink_67 (fun H locs hP hS => ?_)
      refine lv_aload_n hx hb d_X_shrink_70 rfl (lv_at hl 1 rfl) ?_
      refine r_get hx hb hts hown hK hP 0 rfl rfl in_X 1 (by decide) kf_X_21 rfl d_X_shrink_71 ?_
      refine r_getN hx hb hts hown hz.2 hK hP 4 rfl rfl in_H 1 (by decide) 3 rfl rfl d_X_shrink_74 ?_
      refine lv_iload_n hx hb d_X_shrink_77 rfl (lv_at hl 0 rfl) ?_
      refine r_bald hx hb hK hP 6 0 rfl rfl (by decide) (by omega) d_X_shrink_78 ?_
      refine r_top (congrArg nI (va_up_self _ _ _)) ?_
      exact hend _ _ (XS.mk x.rs x.rv x.dp x.col (va_up x.siz v (x.siz v - 1)) x.srt x.val x.fre x.gry x.most x.fc x.gc (x.us - 1) x.ob x.wh x.ph x.sw x.md x.made x.full) _ _ _ hP hS d_X_shrink_79 (OBJ.y (by decide) hj h2 hv he ⟨fun z => absurd z h0, fun _ => ⟨rfl, rfl⟩⟩)
  · refine r_meti (by decide) (Nat.le_of_ble_eq_true rfl) ?_
    intro p e s m args below meth c Q ls hx hb S hK hz hend hl hP hS
    have hts := S.2.2.2.2
    have hown := S.2.2.2.1
    refine lv_aload_n hx hb d_X_shrink_0 rfl (lv_at hl 0 rfl) ?_
    refine r_get hx hb hts hown hK hP 0 rfl rfl in_X 0 (by decide) kf_X_10 rfl d_X_shrink_1 ?_
    refine lv_iload_n hx hb d_X_shrink_4 rfl (lv_at hl 1 rfl) ?_
    refine r_calli S (c_R_hasObjN l E (XS.mk x.rs x.rv x.dp x.col x.siz x.srt x.val x.fre x.gry x.most x.fc x.gc x.us x.ob x.wh x.ph x.sw x.md x.made x.full) r h.1.2.2.2.1 hno) kc_R_hasObject k0_R km_X_70 ki_R_hasObject ks_R_hasObject hd_R_hasObject ⟨rfl, rfl⟩ ⟨by decide, by decide⟩ (zX_ok E) hz hK hP hS (fun _ h => h) 1 rfl rfl rfl hl.1 rfl (Nat.le_of_ble_eq_true rfl) ⟨Nat.zero_le _, Nat.zero_le _⟩ d_X_shrink_5 (fun r1 x1 H locs hw hP _ _ hS => ?_)
    obtain ⟨hr1, hx1⟩ := hw
    subst hr1 hx1
    have hP : va_P E.D classes (wXe E x.rs x.rv x.dp x.col x.siz x.srt x.val x.fre x.gry x.most x.fc x.gc x.us x.ob x.wh x.ph x.sw x.md x.made x.full) H := hP
    refine r_ifeq (tgt := 31) hx hb d_X_shrink_8 (by decide) (by omega) (fun c_8 => ?_) (fun c_8 => absurd c_8 (by omega))
    refine lv_iconst (v := -1) hx hb d_X_shrink_31 (by decide) ?_
    exact hend _ _ (XS.mk x.rs x.rv x.dp x.col x.siz x.srt x.val x.fre x.gry x.most x.fc x.gc x.us x.ob x.wh x.ph x.sw x.md x.made x.full) _ _ _ hP hS d_X_shrink_32 (OBJ.n hno ⟨rfl, rfl⟩)
end
section
/-! the invariant through registers, writes, shrinking and new objects -/
theorem va_up_id {α : Type} (f : Nat → α) (k : Nat) : va_up f k (f k) = f := by
  funext j
  by_cases q : j = k
  · rw [q, va_up_self]
  · rw [va_up_ne _ _ q]
theorem Inv.roots {x : XS} (h : Inv x) {rs : Nat → Nat} {rv : Nat → Int32} {dp : Nat} (h2 : ∀ i, rs i ≤ 2) (hd : dp ≤ 50) (hr : RL rs rv dp (Lv x.col x.wh)) (made full : Int32) : Inv (XS.mk rs rv dp x.col x.siz x.srt x.val x.fre x.gry x.most x.fc x.gc x.us x.ob x.wh x.ph x.sw x.md made full) := by
  obtain ⟨⟨t1, t2, t3, t4, t5, t6, t7⟩, h1, h2', h3, h4, h5, h6, h7⟩ := id h
  exact ⟨⟨t1, t2, t3, h2, hd, t6, t7⟩, h1, h2', h3, h4, h5, hr, h7⟩
theorem tch_cases (ph : Nat) (g : GT) (s : Nat) : (ph = 1 ∧ g.1 s = 4 ∧ tch ph g s = (va_up g.1 s 3, va_up g.2.1 g.2.2 s, g.2.2 + 1)) ∨ (¬ (ph = 1 ∧ g.1 s = 4) ∧ tch ph g s = g) := by
  by_cases q : ph = 1 ∧ g.1 s = 4
  · exact Or.inl ⟨q.1, q.2, if_pos q⟩
  · exact Or.inr ⟨q, if_neg q⟩
theorem tch_all {ph : Nat} {g : GT} {s wh : Nat} (hs : s < 1600) (hg : GS g) (h4 : ∀ i, g.1 i ≤ 4) (hw : wh = 1 ∨ wh = 2) : GS (tch ph g s) ∧ (∀ i, (tch ph g s).1 i ≤ 4) ∧ (∀ i, i ≠ s → (tch ph g s).1 i = g.1 i) ∧ (∀ i, Lv (tch ph g s).1 wh i ↔ Lv g.1 wh i) ∧ (∀ i, (tch ph g s).1 i = 0 ↔ g.1 i = 0) ∧ (ph = 1 → (tch ph g s).1 s ≠ 4) ∧ (∀ i, g.1 i = 3 ∨ g.1 i = 4 → (tch ph g s).1 i = 3 ∨ (tch ph g s).1 i = 4) ∧ (ph ≠ 1 → tch ph g s = g) ∧ (∀ i, (tch ph g s).1 i = g.1 i ∨ (tch ph g s).1 i = 3) := by
  rcases tch_cases ph g s with ⟨q1, q2, e⟩ | ⟨q, e⟩
  · rw [e]
    refine ⟨hg.push hs (by omega), fun i => ?_, fun i hi => va_up_ne _ _ hi, fun i => ?_, fun i => ?_, fun _ => ?_, fun i hi => ?_, fun z => absurd q1 z, fun i => ?_⟩
    · show va_up g.1 s 3 i ≤ 4
      by_cases z : i = s
      · rw [z, va_up_self]; omega
      · rw [va_up_ne _ _ z]; exact h4 i
    · show Lv (va_up g.1 s 3) wh i ↔ _
      unfold Lv
      by_cases z : i = s
      · rw [z, va_up_self]; omega
      · rw [va_up_ne _ _ z]
    · show va_up g.1 s 3 i = 0 ↔ _
      by_cases z : i = s
      · rw [z, va_up_self]; omega
      · rw [va_up_ne _ _ z]
    · show va_up g.1 s 3 s ≠ 4
      rw [va_up_self]; omega
    · show va_up g.1 s 3 i = 3 ∨ va_up g.1 s 3 i = 4
      by_cases z : i = s
      · rw [z, va_up_self]; exact Or.inl rfl
      · rw [va_up_ne _ _ z]; exact hi
    · show va_up g.1 s 3 i = g.1 i ∨ va_up g.1 s 3 i = 3
      by_cases z : i = s
      · rw [z, va_up_self]; exact Or.inr rfl
      · rw [va_up_ne _ _ z]; exact Or.inl rfl
  · rw [e]
    exact ⟨hg, h4, fun _ _ => rfl, fun _ => Iff.rfl, fun _ => Iff.rfl, fun z y => q ⟨z, y⟩, fun _ z => z, fun _ => rfl, fun _ => Or.inl rfl⟩
/-- contents of a living object are written, and it is touched -/
theorem Inv.write {x : XS} (h : Inv x) {o n : Nat} {srt : Nat → Nat} {val : Nat → Int32} (ho : Lv x.col x.wh o) (hn : n ≤ 20) (hsr : ∀ i, srt i ≤ 2) (hout : ∀ s k, s ≠ o → k < 20 → srt (20 * s + k) = x.srt (20 * s + k) ∧ val (20 * s + k) = x.val (20 * s + k)) (hin : ∀ k, k < n → srt (20 * o + k) = 2 → ∃ v, v < 1600 ∧ val (20 * o + k) = nI v ∧ Lv x.col x.wh v) : Inv (XS.mk x.rs x.rv x.dp ((tch x.ph x.G o).1) (va_up x.siz o n) srt val x.fre ((tch x.ph x.G o).2.1) x.most x.fc ((tch x.ph x.G o).2.2) (x.us - x.siz o + n) x.ob x.wh x.ph x.sw x.md x.made x.full) := by
  obtain ⟨⟨t1, t2, t3, t4, t5, t6, t7⟩, h1, h2, h3, h4, h5, h6, h7⟩ := id h
  obtain ⟨a1, a2, a3, a4, a5, a6, a7, a8, a9⟩ := tch_all (ph := x.ph) (g := x.G) (wh := x.wh) ho.1 h1 t1 t7
  have e0 : ∀ s, s < 1600 → ((tch x.ph x.G o).1 s = 0 ↔ x.col s = 0) := fun s _ => a5 s
  refine ⟨⟨a2, fun i => ?_, hsr, t4, t5, t6, t7⟩, a1, h2.congr e0, ((h3.size ho.1 ho.2.1).2).congr e0, h4.congr e0, fun s hs k hk ht => ?_, h6.iff a4, ?_⟩
  · show va_up x.siz o n i ≤ 20
    by_cases z : i = o
    · rw [z, va_up_self]; exact hn
    · rw [va_up_ne _ _ z]; exact t2 i
  · have hk : k < va_up x.siz o n s := hk
    have ht : srt (20 * s + k) = 2 := ht
    show ∃ v, v < 1600 ∧ val (20 * s + k) = nI v ∧ Lv (tch x.ph x.G o).1 x.wh v
    have hs := (a4 s).mp hs
    by_cases z : s = o
    · subst z
      rw [va_up_self] at hk
      obtain ⟨v, q1, q2, q3⟩ := hin k hk ht
      exact ⟨v, q1, q2, (a4 v).mpr q3⟩
    · rw [va_up_ne _ _ z] at hk
      have h20 := t2 s
      obtain ⟨e1, e2⟩ := hout s k z (by omega)
      rw [e1] at ht
      rw [e2]
      obtain ⟨v, q1, q2, q3⟩ := h5 s hs k hk ht
      exact ⟨v, q1, q2, (a4 v).mpr q3⟩
  · rcases h7 with ⟨q1, q2⟩ | ⟨q1, q2, q3⟩ | ⟨q1, q2, q3, q4⟩
    · have e := a8 (by omega)
      refine Or.inl ⟨q1, ?_⟩
      show ∀ s, s < 1600 → (tch x.ph x.G o).1 s = 0 ∨ (tch x.ph x.G o).1 s = x.wh
      rw [e]
      exact q2
    · refine Or.inr (Or.inl ⟨q1, fun s hs => ?_, fun s hs hc k hk ht v hv he => ?_⟩)
      · show (tch x.ph x.G o).1 s ≠ 3 - x.wh
        have b1 := q2 s hs
        rcases a9 s with e | e
        · rw [e]; exact b1
        · rw [e]; omega
      · have hc : (tch x.ph x.G o).1 s = 4 := hc
        have hk : k < va_up x.siz o n s := hk
        have ht : srt (20 * s + k) = 2 := ht
        have he : val (20 * s + k) = nI v := he
        have z : s ≠ o := fun e => a6 q1 (by rw [e] at hc; exact hc)
        rw [va_up_ne _ _ z] at hk
        have h20 := t2 s
        obtain ⟨e1, e2⟩ := hout s k z (by omega)
        rw [e1] at ht
        rw [e2] at he
        exact a7 v (q3 s hs ((a3 s z).symm.trans hc) k hk ht v hv he)
    · have e := a8 (by omega)
      refine Or.inr (Or.inr ⟨q1, q2, ?_, ?_⟩)
      · show ∀ s, s < 1600 → (tch x.ph x.G o).1 s ≠ 3
        rw [e]
        exact q3
      · show ∀ s, s < x.sw → (tch x.ph x.G o).1 s = 0 ∨ (tch x.ph x.G o).1 s = x.wh
        rw [e]
        exact q4
theorem lay_out {α : Type} {f : Nat → α} {o k : Nat} {c : α} (hk : k < 20) : ∀ s j, s ≠ o → j < 20 → va_up f (20 * o + k) c (20 * s + j) = f (20 * s + j) := fun s j hs hj => va_up_ne _ _ (by omega)
theorem Inv.reg {x : XS} (h : Inv x) {b : Nat} (hb : b < 10) (h2 : x.rs b = 2) : ∃ v, v < 1600 ∧ x.rv b = nI v ∧ Lv x.col x.wh v := h.2.2.2.2.2.2.1 b (by omega) h2
theorem Inv.lay {x : XS} (h : Inv x) {o k b : Nat} (ho : Lv x.col x.wh o) (hk : k < x.siz o) (hb : b < 10) : Inv (layX x o k b) := by
  have h20 := h.1.2.1 o
  have hw := h.write (o := o) (n := x.siz o) (srt := va_up x.srt (20 * o + k) (x.rs b)) (val := va_up x.val (20 * o + k) (x.rv b)) ho h20 (fun i => by
    by_cases q : i = 20 * o + k
    · rw [q, va_up_self]; exact h.1.2.2.2.1 b
    · rw [va_up_ne _ _ q]; exact h.1.2.2.1 i) (fun s j hs hj => ⟨lay_out (by omega) s j hs hj, lay_out (by omega) s j hs hj⟩) (fun j hj ht => by
    by_cases q : j = k
    · subst q
      rw [va_up_self] at ht ⊢
      exact h.reg hb ht
    · rw [va_up_ne _ _ (by omega)] at ht ⊢
      exact h.2.2.2.2.2.1 o ho j hj ht)
  have e := (h.2.2.2.1.size (n := 0) ho.1 ho.2.1).1
  rw [va_up_id, Nat.sub_add_cancel (by omega)] at hw
  exact hw
def growX (x : XS) (o : Nat) : XS := XS.mk x.rs x.rv x.dp x.col (va_up x.siz o (x.siz o + 1)) x.srt x.val x.fre x.gry x.most x.fc x.gc (x.us + 1) x.ob x.wh x.ph x.sw x.md x.made x.full
theorem Inv.grow {x : XS} (h : Inv x) {o b : Nat} (ho : Lv x.col x.wh o) (hk : x.siz o < 20) (hb : b < 10) : Inv (layX (growX x o) o (x.siz o) b) := by
  have hw := h.write (o := o) (n := x.siz o + 1) (srt := va_up x.srt (20 * o + x.siz o) (x.rs b)) (val := va_up x.val (20 * o + x.siz o) (x.rv b)) ho (by omega) (fun i => by
    by_cases q : i = 20 * o + x.siz o
    · rw [q, va_up_self]; exact h.1.2.2.2.1 b
    · rw [va_up_ne _ _ q]; exact h.1.2.2.1 i) (fun s j hs hj => ⟨lay_out (by omega) s j hs hj, lay_out (by omega) s j hs hj⟩) (fun j hj ht => by
    by_cases q : j = x.siz o
    · subst q
      rw [va_up_self] at ht ⊢
      exact h.reg hb ht
    · rw [va_up_ne _ _ (by omega)] at ht ⊢
      exact h.2.2.2.2.2.1 o ho j (by omega) ht)
  have e := (h.2.2.2.1.size (n := 0) ho.1 ho.2.1).1
  rw [show x.us - x.siz o + (x.siz o + 1) = x.us + 1 by omega] at hw
  exact hw
theorem Inv.shrink {x : XS} (h : Inv x) {v : Nat} (ho : Lv x.col x.wh v) (h0 : x.siz v ≠ 0) : Inv (XS.mk x.rs x.rv x.dp x.col (va_up x.siz v (x.siz v - 1)) x.srt x.val x.fre x.gry x.most x.fc x.gc (x.us - 1) x.ob x.wh x.ph x.sw x.md x.made x.full) := by
  obtain ⟨⟨t1, t2, t3, t4, t5, t6, t7⟩, h1, h2, h3, h4, h5, h6, h7⟩ := id h
  have hle : ∀ s, va_up x.siz v (x.siz v - 1) s ≤ x.siz s := fun s => by
    by_cases z : s = v
    · rw [z, va_up_self]; omega
    · rw [va_up_ne _ _ z]; exact Nat.le_refl _
  have hu := h3.size (n := x.siz v - 1) ho.1 ho.2.1
  rw [show x.us - x.siz v + (x.siz v - 1) = x.us - 1 by have := hu.1; omega] at hu
  refine ⟨⟨t1, fun i => Nat.le_trans (hle i) (t2 i), t3, t4, t5, t6, t7⟩, h1, h2, hu.2, h4, fun s hs k hk ht => h5 s hs k (Nat.lt_of_lt_of_le hk (hle s)) ht, h6, ?_⟩
  rcases h7 with q | ⟨q1, q2, q3⟩ | q
  · exact Or.inl q
  · exact Or.inr (Or.inl ⟨q1, q2, fun s hs hc k hk ht w hw he => q3 s hs hc k (Nat.lt_of_lt_of_le hk (hle s)) ht w hw he⟩)
  · exact Or.inr (Or.inr q)
def fillN {α : Type} (f : Nat → α) (o k : Nat) (c : α) : Nat → α := fun i => if 20 * o ≤ i ∧ i < 20 * o + k then c else f i
theorem fill_0 {α : Type} (f : Nat → α) (o : Nat) (c : α) : fillN f o 0 c = f := by
  funext i
  unfold fillN
  rw [if_neg (by omega)]
theorem fill_s {α : Type} (f : Nat → α) (o k : Nat) (c : α) : va_up (fillN f o k c) (20 * o + k) c = fillN f o (k + 1) c := by
  funext i
  by_cases q : i = 20 * o + k
  · rw [q, va_up_self]
    unfold fillN
    rw [if_pos (by omega)]
  · rw [va_up_ne _ _ q]
    unfold fillN
    by_cases q2 : 20 * o ≤ i ∧ i < 20 * o + k
    · rw [if_pos q2, if_pos (by omega)]
    · rw [if_neg q2, if_neg (by omega)]
theorem fill_in {α : Type} {f : Nat → α} {o k : Nat} {c : α} {j : Nat} (hj : j < k) : fillN f o k c (20 * o + j) = c := if_pos (by omega)
theorem fill_out {α : Type} {f : Nat → α} {o k : Nat} {c : α} (hk : k ≤ 20) {s j : Nat} (hs : s ≠ o) (hj : j < 20) : fillN f o k c (20 * s + j) = f (20 * s + j) := if_neg (by omega)
theorem fill_le {f : Nat → Nat} {o k c : Nat} (hf : ∀ i, f i ≤ 2) (hc : c ≤ 2) (i : Nat) : fillN f o k c i ≤ 2 := by
  unfold fillN
  split
  · exact hc
  · exact hf i
def gN (x : XS) (o k : Nat) : GT := if k = 0 then (va_up x.col o (if x.ph = 1 then 4 else x.wh), x.gry, x.gc) else tch x.ph (va_up x.col o (if x.ph = 1 then 4 else x.wh), x.gry, x.gc) o
theorem gN_0 (x : XS) (o : Nat) : gN x o 0 = (va_up x.col o (if x.ph = 1 then 4 else x.wh), x.gry, x.gc) := if_pos rfl
theorem gN_s (x : XS) (o k : Nat) : tch x.ph (gN x o k) o = gN x o (k + 1) := by
  by_cases q : k = 0
  · subst q
    rw [gN_0]
    exact (if_neg (by omega)).symm
  · have e : gN x o k = gN x o (k + 1) := (if_neg q).trans (if_neg (by omega)).symm
    rw [e]
    unfold gN
    rw [if_neg (by omega)]
    generalize (va_up x.col o (if x.ph = 1 then 4 else x.wh), x.gry, x.gc) = g
    rcases tch_cases x.ph g o with ⟨q1, q2, e⟩ | ⟨q, e⟩
    · rw [e]
      exact if_neg (fun z => by
        have z2 : va_up g.1 o 3 o = 4 := z.2
        rw [va_up_self] at z2
        exact absurd z2 (by decide))
    · rw [e]
      exact e
theorem GS.recol {g : GT} (h : GS g) {o c : Nat} (ho : o < 1600) (h3 : g.1 o ≠ 3) (hc : c ≠ 3) : GS (va_up g.1 o c, g.2.1, g.2.2) := by
  refine ⟨fun i hi => ?_, h.2.1, fun s hs e => ?_⟩
  · have h1 := h.1 i hi
    refine ⟨h1.1, ?_⟩
    show va_up g.1 o c (g.2.1 i) = 3
    rw [va_up_ne _ _ (fun e => h3 (by rw [← e]; exact h1.2))]
    exact h1.2
  · have e : va_up g.1 o c s = 3 := e
    by_cases q : s = o
    · rw [q, va_up_self] at e; exact absurd e hc
    · rw [va_up_ne _ _ q] at e
      exact h.2.2 s hs e
theorem gN_all {x : XS} (h : Inv x) {o : Nat} (ho : o < 1600) (hc : x.col o = 0) (k : Nat) : GS (gN x o k) ∧ (∀ s, s ≠ o → (gN x o k).1 s = x.col s) ∧ (x.ph = 1 → (gN x o k).1 o = if k = 0 then 4 else 3) ∧ (x.ph ≠ 1 → (gN x o k).1 o = x.wh) ∧ (∀ i, (gN x o k).1 i ≤ 4) := by
  have hw := h.1.2.2.2.2.2.2
  have c3 : (if x.ph = 1 then 4 else x.wh) ≠ 3 := by split <;> omega
  have c4 : (if x.ph = 1 then 4 else x.wh) ≤ 4 := by split <;> omega
  have g1 : GS (va_up x.col o (if x.ph = 1 then 4 else x.wh), x.gry, x.gc) := GS.recol (g := x.G) h.2.1 ho (show x.col o ≠ 3 by omega) c3
  have l4 : ∀ i, va_up x.col o (if x.ph = 1 then 4 else x.wh) i ≤ 4 := fun i => by
    by_cases q : i = o
    · rw [q, va_up_self]; exact c4
    · rw [va_up_ne _ _ q]; exact h.1.1 i
  obtain ⟨b1, b2, b3, b4, b5, b6, b7, b8, b9⟩ := tch_all (ph := x.ph) (g := (va_up x.col o (if x.ph = 1 then 4 else x.wh), x.gry, x.gc)) (wh := x.wh) ho g1 l4 hw
  by_cases q : k = 0
  · subst q
    rw [gN_0]
    refine ⟨g1, fun s hs => va_up_ne _ _ hs, fun hp => ?_, fun hp => ?_, l4⟩
    · show va_up x.col o (if x.ph = 1 then 4 else x.wh) o = _
      rw [va_up_self, if_pos hp, if_pos rfl]
    · show va_up x.col o (if x.ph = 1 then 4 else x.wh) o = _
      rw [va_up_self, if_neg hp]
  · rw [show gN x o k = tch x.ph (va_up x.col o (if x.ph = 1 then 4 else x.wh), x.gry, x.gc) o from if_neg q]
    refine ⟨b1, fun s hs => (b3 s hs).trans (va_up_ne _ _ hs), fun hp => ?_, fun hp => ?_, b2⟩
    · rw [if_neg q]
      have z1 := b6 hp
      rcases b9 o with z | z
      · rw [z] at z1
        have z2 : va_up x.col o (if x.ph = 1 then 4 else x.wh) o ≠ 4 := z1
        rw [va_up_self, if_pos hp] at z2
        exact absurd rfl z2
      · exact z
    · rw [b8 hp]
      show va_up x.col o (if x.ph = 1 then 4 else x.wh) o = _
      rw [va_up_self, if_neg hp]
def newX (x : XS) (o n a b : Nat) : XS := XS.mk (va_up x.rs a 2) (va_up x.rv a (nI o)) x.dp ((gN x o n).1) (va_up x.siz o n) (fillN x.srt o n (x.rs b)) (fillN x.val o n (x.rv b)) x.fre ((gN x o n).2.1) x.most (x.fc - 1) ((gN x o n).2.2) (x.us + (2 + n)) (x.ob + 1) x.wh x.ph x.sw x.md (x.made + nI 1) x.full
theorem Inv.fcpos {x : XS} (h : Inv x) (hu : x.us + 2 ≤ x.most) : 0 < x.fc ∧ x.fre (x.fc - 1) < 1600 ∧ x.col (x.fre (x.fc - 1)) = 0 := by
  have h0 : 0 < x.fc := by
    rcases Nat.eq_zero_or_pos x.fc with q | q
    · exfalso
      have hus : x.us = _ := h.2.2.2.1
      have := sumTo_ge (f := fun s => if x.col s = 0 then 0 else 2 + x.siz s) (c := 2) (n := 1600) (fun i hi => by
        have : x.col i ≠ 0 := fun z => by
          obtain ⟨j, hj, -⟩ := h.2.2.1.2.2 i hi z
          omega
        rw [if_neg this]
        omega)
      have hm := h.1.2.2.2.2.2.1
      omega
    · exact q
  exact ⟨h0, (h.2.2.1.1 _ (by omega)).1, (h.2.2.1.1 _ (by omega)).2⟩
theorem Inv.new {x : XS} (h : Inv x) {o n a b : Nat} (h0 : 0 < x.fc) (ho : o = x.fre (x.fc - 1)) (hn : n ≤ 20) (ha : a < 10) (hb : b < 10) : Inv (newX x o n a b) ∧ ∀ s, Lv (newX x o n a b).col (newX x o n a b).wh s ↔ Lv x.col x.wh s ∨ s = o := by
  obtain ⟨⟨t1, t2, t3, t4, t5, t6, t7⟩, h1, h2, h3, h4, h5, h6, h7⟩ := id h
  have ho1 : o < 1600 := by rw [ho]; exact (h2.1 _ (by omega)).1
  have hc : x.col o = 0 := by rw [ho]; exact (h2.1 _ (by omega)).2
  obtain ⟨g1, g2, g3, g4, g5⟩ := gN_all h ho1 hc n
  have go : (gN x o n).1 o ≠ 0 ∧ (gN x o n).1 o ≠ 3 - x.wh := by
    by_cases hp : x.ph = 1
    · rw [g3 hp]
      split <;> omega
    · rw [g4 hp]
      omega
  have el : ∀ s, Lv (gN x o n).1 x.wh s ↔ Lv x.col x.wh s ∨ s = o := fun s => by
    unfold Lv
    by_cases q : s = o
    · subst q
      exact ⟨fun _ => Or.inr rfl, fun _ => ⟨ho1, go.1, go.2⟩⟩
    · rw [g2 s q]
      exact ⟨fun z => Or.inl z, fun z => z.elim id (fun e => absurd e q)⟩
  have e0 : ∀ s, s < 1600 → ((gN x o n).1 s = 0 ↔ va_up x.col o ((gN x o n).1 o) s = 0) := fun s _ => by
    by_cases q : s = o
    · rw [q, va_up_self]
    · rw [va_up_ne _ _ q, g2 s q]
  have hnew : ∀ k, k < n → fillN x.srt o n (x.rs b) (20 * o + k) = 2 → ∃ v, v < 1600 ∧ fillN x.val o n (x.rv b) (20 * o + k) = nI v ∧ Lv (gN x o n).1 x.wh v := fun k hk ht => by
    rw [fill_in hk] at ht ⊢
    obtain ⟨v, q1, q2, q3⟩ := h.reg hb ht
    exact ⟨v, q1, q2, (el v).mpr (Or.inl q3)⟩
  refine ⟨⟨⟨g5, fun i => ?_, fill_le t3 (t4 b), fun i => ?_, t5, t6, t7⟩, g1, (by rw [ho] at e0 ⊢; exact ((h2.make h0 (by rw [← ho]; exact go.1)).congr e0)), (h3.make ho1 hc go.1).congr e0, (h4.make ho1 hc go.1).congr e0, fun s hs k hk ht => ?_, fun k hk ht => ?_, ?_⟩, el⟩
  · show va_up x.siz o n i ≤ 20
    by_cases z : i = o
    · rw [z, va_up_self]; exact hn
    · rw [va_up_ne _ _ z]; exact t2 i
  · show va_up x.rs a 2 i ≤ 2
    by_cases z : i = a
    · rw [z, va_up_self]; exact Nat.le_refl _
    · rw [va_up_ne _ _ z]; exact t4 i
  · have hk : k < va_up x.siz o n s := hk
    have ht : fillN x.srt o n (x.rs b) (20 * s + k) = 2 := ht
    show ∃ v, v < 1600 ∧ fillN x.val o n (x.rv b) (20 * s + k) = nI v ∧ Lv (gN x o n).1 x.wh v
    by_cases z : s = o
    · subst z
      rw [va_up_self] at hk
      exact hnew k hk ht
    · rw [va_up_ne _ _ z] at hk
      have h20 := t2 s
      rw [fill_out hn z (by omega)] at ht ⊢
      have hs := ((el s).mp hs).elim id (fun e => absurd e z)
      obtain ⟨v, q1, q2, q3⟩ := h5 s hs k hk ht
      exact ⟨v, q1, q2, (el v).mpr (Or.inl q3)⟩
  · have ht : va_up x.rs a 2 k = 2 := ht
    show ∃ v, v < 1600 ∧ va_up x.rv a (nI o) k = nI v ∧ Lv (gN x o n).1 x.wh v
    by_cases z : k = a
    · subst z
      rw [va_up_self]
      exact ⟨o, ho1, rfl, (el o).mpr (Or.inr rfl)⟩
    · rw [va_up_ne _ _ z] at ht ⊢
      obtain ⟨v, q1, q2, q3⟩ := h6 k hk ht
      exact ⟨v, q1, q2, (el v).mpr (Or.inl q3)⟩
  · rcases h7 with ⟨q1, q2⟩ | ⟨q1, q2, q3⟩ | ⟨q1, q2, q3, q4⟩
    · refine Or.inl ⟨q1, fun s hs => ?_⟩
      show (gN x o n).1 s = 0 ∨ (gN x o n).1 s = x.wh
      by_cases z : s = o
      · rw [z]; exact Or.inr (g4 (by omega))
      · rw [g2 s z]; exact q2 s hs
    · refine Or.inr (Or.inl ⟨q1, fun s hs => ?_, fun s hs hc4 k hk ht v hv he => ?_⟩)
      · show (gN x o n).1 s ≠ 3 - x.wh
        by_cases z : s = o
        · rw [z]; exact go.2
        · rw [g2 s z]; exact q2 s hs
      · have hc4 : (gN x o n).1 s = 4 := hc4
        have hk : k < va_up x.siz o n s := hk
        have ht : fillN x.srt o n (x.rs b) (20 * s + k) = 2 := ht
        have he : fillN x.val o n (x.rv b) (20 * s + k) = nI v := he
        show (gN x o n).1 v = 3 ∨ (gN x o n).1 v = 4
        by_cases z : s = o
        · subst z
          exfalso
          rw [va_up_self] at hk
          rw [g3 q1, if_neg (by omega)] at hc4
          omega
        · rw [va_up_ne _ _ z] at hk
          have h20 := t2 s
          rw [fill_out hn z (by omega)] at ht he
          rw [g2 s z] at hc4
          have := q3 s hs hc4 k hk ht v hv he
          rw [g2 v (fun e => by rw [e, hc] at this; omega)]
          exact this
    · refine Or.inr (Or.inr ⟨q1, q2, fun s hs => ?_, fun s hs => ?_⟩)
      · show (gN x o n).1 s ≠ 3
        by_cases z : s = o
        · rw [z, g4 (by omega)]; omega
        · rw [g2 s z]; exact q3 s hs
      · show (gN x o n).1 s = 0 ∨ (gN x o n).1 s = x.wh
        by_cases z : s = o
        · rw [z]; exact Or.inr (g4 (by omega))
        · rw [g2 s z]; exact q4 s hs
end
section
/-! SliceHeap.make, grow, count -/
theorem Shr.cRq {x y : XS} (h : Shr x y) : cR y = cR x := by
  unfold cR
  rw [h.rx]
theorem ix_big {w : Int32} {n : Nat} (hn : n < 2 ^ 31) (h : nI n ≤ w) : (n : Int) ≤ w.toInt := by
  rw [Int32.le_iff_toInt_le, nI_toInt hn] at h
  exact h
theorem ix_nlt {w : Int32} {n : Nat} (hn : n < 2 ^ 31) (h : nI n ≤ w) : ¬ w < 0 := by
  have := ix_big hn h
  rw [Int32.lt_iff_toInt_lt, Int32.toInt_zero]
  omega
theorem ix_nle {w : Int32} {n m : Nat} (hn : n < 2 ^ 31) (hm : m < n) (h : nI n ≤ w) : ¬ w ≤ nI m := by
  have := ix_big hn h
  rw [Int32.le_iff_toInt_le, nI_toInt (by omega)]
  omega
theorem ix_sw {w : Int32} {n : Nat} (hn : n < 2 ^ 31) (h : w < 0 ∨ nI n ≤ w) : w.toInt < 0 ∨ (n : Int) - 1 < w.toInt := by
  rcases h with h | h
  · rw [Int32.lt_iff_toInt_lt, Int32.toInt_zero] at h
    exact Or.inl h
  · have := ix_big hn h
    omega
set_option maxHeartbeats 4000000 in
set_option maxRecDepth 100000 in
theorem c_X_make (l : Launch) (E : KX) (x : XS) (r u t : Int32) (h : Inv x) : Xi l E y_X_make w_X_make rm_X_make [.ref (E.ad 0), .int r, .int u, .int t] x (fun q x' => IX r 10 (fun a => IX t 10 (fun b => IX u 21 (fun n => ∃ y : XS, Inv y ∧ Shr x y ∧ ((q = nI 0 ∧ x' = XS.mk y.rs y.rv y.dp y.col y.siz y.srt y.val y.fre y.gry y.most y.fc y.gc y.us y.ob y.wh y.ph y.sw y.md y.made (y.full + nI 1) ∧ x.most < sR x + (2 + n)) ∨ (q = nI 1 ∧ sR x + (2 + n) ≤ x.most ∧ Inv x' ∧ ∃ o, 0 < y.fc ∧ o = y.fre (y.fc - 1) ∧ Shr (newX y o n a b) x'))) (q = -1 ∧ x' = x)) (q = -1 ∧ x' = x)) (q = -1 ∧ x' = x)) := by
  rcases ix_cases r (n := 10) (by decide) with ⟨a, ha, rfl⟩ | hr
  · rcases ix_cases t (n := 10) (by decide) with ⟨b, hb', rfl⟩ | hr
    · rcases ix_cases u (n := 21) (by decide) with ⟨n, hn, rfl⟩ | hr
      · refine r_meti (by decide) (Nat.le_of_ble_eq_true rfl) ?_
        intro p e s m args below meth c Q ls hx hb S hK hz hend hl hP hS
        have hts := S.2.2.2.2
        have hown := S.2.2.2.1
        refine lv_iload_n hx hb d_X_make_0 rfl (lv_at hl 1 rfl) ?_
        refine r_calls S (c_R_is1 l a ha) kc_R_is k0_R km_X_47 kt_R_is hd_R_is ⟨rfl, rfl⟩ ⟨by decide, by decide⟩ rfl hl.1 rfl (Nat.le_of_ble_eq_true rfl) ⟨Nat.zero_le _, Nat.zero_le _⟩ d_X_make_1 ?_
        refine r_ifeq (tgt := 24) hx hb d_X_make_4 (by decide) (by omega) (fun c_4 => absurd c_4 (by omega)) (fun c_4 => ?_)
        refine lv_iload_n hx hb d_X_make_7 rfl (lv_at hl 3 rfl) ?_
        refine r_calls S (c_R_is1 l b hb') kc_R_is k0_R km_X_47 kt_R_is hd_R_is ⟨rfl, rfl⟩ ⟨by decide, by decide⟩ rfl hl.1 rfl (Nat.le_of_ble_eq_true rfl) ⟨Nat.zero_le _, Nat.zero_le _⟩ d_X_make_8 ?_
        refine r_ifeq (tgt := 24) hx hb d_X_make_11 (by decide) (by omega) (fun c_11 => absurd c_11 (by omega)) (fun c_11 => ?_)
        refine lv_iload_n hx hb d_X_make_14 rfl (lv_at hl 2 rfl) ?_
        refine lv_if_lt (tgt := 24) hx hb d_X_make_15 (by decide) (fun c_15 => absurd c_15 (nI_pos (by omega))) (fun c_15 => ?_)
        refine lv_iload_n hx hb d_X_make_18 rfl (lv_at hl 2 rfl) ?_
        refine lv_bipush (v := nI 20) hx hb d_X_make_19 (by decide) ?_
        refine r_le (tgt := 26) hx hb d_X_make_21 (by decide) (by omega) (by omega) (fun c_21 => ?_) (fun c_21 => absurd c_21 (by omega))
        refine lv_aload_n hx hb d_X_make_26 rfl (lv_at hl 0 rfl) ?_
        refine lv_iconst (v := nI 2) hx hb d_X_make_27 (by decide) ?_
        refine lv_iload_n hx hb d_X_make_28 rfl (lv_at hl 2 rfl) ?_
        refine r_add hx hb d_X_make_29 ?_
        refine r_calli S (c_X_room l E x (2 + n) h (by omega)) kc_X_room k0_X km_X_50 ki_X_room ks_X_room hd_X_room ⟨rfl, rfl⟩ ⟨by decide, by decide⟩ (zX_ok E) hz hK hP hS (fun _ h => h) 0 rfl rfl rfl hl.1 rfl (Nat.le_of_ble_eq_true rfl) ⟨Nat.zero_le _, Nat.zero_le _⟩ d_X_make_30 (fun q1 x1 H locs hw hP _ _ hS => ?_)
        obtain ⟨y, hy, hsh, hor⟩ := hw
        rcases hor with ⟨rfl, hxe, hus, hsr⟩ | ⟨rfl, hxe, hsr⟩
        · rw [hxe] at hP
          obtain ⟨f0, f1, f2⟩ := hy.fcpos (by omega)
          obtain ⟨ov, hov⟩ : ∃ z, z = y.fre (y.fc - 1) := ⟨_, rfl⟩
          rw [← hov] at f1 f2
          have loop : ∀ (i k : Nat), i + k = n → ∀ (H : Heap) (locs : List Loc) (ls : Array Slot), va_P E.D classes (wXe E y.rs y.rv y.dp ((gN y ov k).1) (va_up y.siz ov n) (fillN y.srt ov k (y.rs b)) (fillN y.val ov k (y.rv b)) y.fre ((gN y ov k).2.1) y.most (y.fc - 1) ((gN y ov k).2.2) (y.us + (2 + n)) (y.ob + 1) y.wh y.ph y.sw y.md y.made y.full) H → va_S (AX E) s.heap H locs → lv_has ls 6 [(0, .ref (E.ad 0)), (1, .int (nI a)), (2, .int (nI n)), (3, .int (nI b)), (4, .int (nI ov)), (5, .int (nI k))] → W p l e rm_X_make s m args below meth c H locs 0 0 Q (F0 m 51 ls []) := by
            intro i
            induction i with
            | zero =>
              intro k hk H locs ls hP hS hl
              have hk : k = n := by omega
              subst hk
              refine lv_iload hx hb d_X_make_51 (lv_at hl 5 rfl) ?_
              refine lv_iload_n hx hb d_X_make_53 rfl (lv_at hl 2 rfl) ?_
              refine r_ge (tgt := 72) hx hb d_X_make_54 (by decide) (by omega) (by omega) (fun c_54 => ?_) (fun c_54 => absurd c_54 (by omega))
              refine lv_aload_n hx hb d_X_make_72 rfl (lv_at hl 0 rfl) ?_
              refine r_get hx hb hts hown hK hP 0 rfl rfl in_X 0 (by decide) kf_X_10 rfl d_X_make_73 ?_
              refine lv_iload_n hx hb d_X_make_76 rfl (lv_at hl 1 rfl) ?_
              refine lv_iconst (v := nI 2) hx hb d_X_make_77 (by decide) ?_
              refine lv_iload hx hb d_X_make_78 (lv_at hl 4 rfl) ?_
              refine r_callv S (c_R_set l E (XS.mk y.rs y.rv y.dp ((gN y ov k).1) (va_up y.siz ov k) (fillN y.srt ov k (y.rs b)) (fillN y.val ov k (y.rv b)) y.fre ((gN y ov k).2.1) y.most (y.fc - 1) ((gN y ov k).2.2) (y.us + (2 + k)) (y.ob + 1) y.wh y.ph y.sw y.md y.made y.full) a 2 (nI ov) (by omega) (by omega)) kc_R_set k0_R km_X_61 ki_R_set ks_R_set hd_R_set ⟨rfl, rfl⟩ ⟨by decide, by decide⟩ (zX_ok E) hz hK hP hS (fun _ h => h) 1 rfl rfl rfl hl.1 rfl (Nat.le_of_ble_eq_true rfl) ⟨Nat.zero_le _, Nat.zero_le _⟩ d_X_make_80 (fun x1 H locs hw hP _ _ hS => ?_)
              simp only [XS.mk_rs, XS.mk_rv, XS.mk_dp, XS.mk_col, XS.mk_siz, XS.mk_srt, XS.mk_val, XS.mk_fre, XS.mk_gry, XS.mk_most, XS.mk_fc, XS.mk_gc, XS.mk_us, XS.mk_ob, XS.mk_wh, XS.mk_ph, XS.mk_sw, XS.mk_md, XS.mk_made, XS.mk_full] at hw
              subst hw
              have hP : va_P E.D classes (wXe E (va_up y.rs a 2) (va_up y.rv a (nI ov)) y.dp ((gN y ov k).1) (va_up y.siz ov k) (fillN y.srt ov k (y.rs b)) (fillN y.val ov k (y.rv b)) y.fre ((gN y ov k).2.1) y.most (y.fc - 1) ((gN y ov k).2.2) (y.us + (2 + k)) (y.ob + 1) y.wh y.ph y.sw y.md y.made y.full) H := hP
              refine lv_aload_n hx hb d_X_make_83 rfl (lv_at hl 0 rfl) ?_
              refine lv_dup hx hb d_X_make_84 rfl ?_
              refine r_get hx hb hts hown hK hP 0 rfl rfl in_X 2 (by decide) kf_X_64 rfl d_X_make_85 ?_
              refine lv_iconst (v := nI 1) hx hb d_X_make_88 (by decide) ?_
              refine lv_iadd hx hb d_X_make_89 ?_
              refine r_put (ws' := wXe E (va_up y.rs a 2) (va_up y.rv a (nI ov)) y.dp ((gN y ov k).1) (va_up y.siz ov k) (fillN y.srt ov k (y.rs b)) (fillN y.val ov k (y.rv b)) y.fre ((gN y ov k).2.1) y.most (y.fc - 1) ((gN y ov k).2.2) (y.us + (2 + k)) (y.ob + 1) y.wh y.ph y.sw y.md (y.made + nI 1) y.full) hx hb hts hown hK hP (wX_D hz.1) hS 0 rfl rfl in_X t_X t_X_ok n_X 2 (by decide) kf_X_64 rfl rfl (Nat.le_of_ble_eq_true rfl) rfl d_X_make_90 (fun H locs hP hS => ?_)
              refine lv_aload_n hx hb d_X_make_93 rfl (lv_at hl 0 rfl) ?_
              refine r_get hx hb hts hown hK hP 0 rfl rfl in_X 1 (by decide) kf_X_21 rfl d_X_make_94 ?_
              refine r_callv S (c_H_slice l E (XS.mk (va_up y.rs a 2) (va_up y.rv a (nI ov)) y.dp ((gN y ov k).1) (va_up y.siz ov k) (fillN y.srt ov k (y.rs b)) (fillN y.val ov k (y.rv b)) y.fre ((gN y ov k).2.1) y.most (y.fc - 1) ((gN y ov k).2.2) (y.us + (2 + k)) (y.ob + 1) y.wh y.ph y.sw y.md (y.made + nI 1) y.full) (hy.new f0 hov (by omega) ha hb').1) kc_H_slice k0_H km_X_67 ki_H_slice ks_H_slice hd_H_slice ⟨rfl, rfl⟩ ⟨by decide, by decide⟩ (zX_ok E) hz hK hP hS (fun _ h => h) 4 rfl rfl rfl hl.1 rfl (Nat.le_of_ble_eq_true rfl) ⟨Nat.zero_le _, Nat.zero_le _⟩ d_X_make_97 (fun x3 H locs hw3 hP _ _ hS => ?_)
              refine lv_iconst (v := nI 1) hx hb d_X_make_100 (by decide) ?_
              exact hend _ _ (XS.mk x3.rs x3.rv x3.dp x3.col x3.siz x3.srt x3.val x3.fre x3.gry x3.most x3.fc x3.gc x3.us x3.ob x3.wh x3.ph x3.sw x3.md x3.made x3.full) _ _ _ hP hS d_X_make_101 (IX.y (by decide) ha (IX.y (by decide) hb' (IX.y (by decide) hn ⟨y, hy, hsh, Or.inr ⟨rfl, hsr, hw3.1, ov, f0, hov, hw3.2⟩⟩)))
            | succ i ih =>
              intro k hk H locs ls hP hS hl
              have gk := gN_all hy f1 f2 k
              refine lv_iload hx hb d_X_make_51 (lv_at hl 5 rfl) ?_
              refine lv_iload_n hx hb d_X_make_53 rfl (lv_at hl 2 rfl) ?_
              refine r_ge (tgt := 72) hx hb d_X_make_54 (by decide) (by omega) (by omega) (fun c_54 => absurd c_54 (by omega)) (fun c_54 => ?_)
              refine lv_aload_n hx hb d_X_make_57 rfl (lv_at hl 0 rfl) ?_
              refine lv_iload hx hb d_X_make_58 (lv_at hl 4 rfl) ?_
              refine lv_iload hx hb d_X_make_60 (lv_at hl 5 rfl) ?_
              refine lv_iload_n hx hb d_X_make_62 rfl (lv_at hl 3 rfl) ?_
              refine r_callv S (c_X_lay l E (XS.mk y.rs y.rv y.dp ((gN y ov k).1) (va_up y.siz ov n) (fillN y.srt ov k (y.rs b)) (fillN y.val ov k (y.rv b)) y.fre ((gN y ov k).2.1) y.most (y.fc - 1) ((gN y ov k).2.2) (y.us + (2 + n)) (y.ob + 1) y.wh y.ph y.sw y.md y.made y.full) ov k b f1 (by omega) hb' (hy.1.2.2.2.1 b) gk.1 gk.2.2.2.2 hy.ph2) kc_X_lay k0_X km_X_57 ki_X_lay ks_X_lay hd_X_lay ⟨rfl, rfl⟩ ⟨by decide, by decide⟩ (zX_ok E) hz hK hP hS (fun _ h => h) 0 rfl rfl rfl hl.1 rfl (Nat.le_of_ble_eq_true rfl) ⟨Nat.zero_le _, Nat.zero_le _⟩ d_X_make_63 (fun x1 H locs hw hP _ _ hS => ?_)
              subst hw
              have hP : va_P E.D classes (wXe E y.rs y.rv y.dp ((tch y.ph (gN y ov k) ov).1) (va_up y.siz ov n) (va_up (fillN y.srt ov k (y.rs b)) (20 * ov + k) (y.rs b)) (va_up (fillN y.val ov k (y.rv b)) (20 * ov + k) (y.rv b)) y.fre ((tch y.ph (gN y ov k) ov).2.1) y.most (y.fc - 1) ((tch y.ph (gN y ov k) ov).2.2) (y.us + (2 + n)) (y.ob + 1) y.wh y.ph y.sw y.md y.made y.full) H := hP
              rw [fill_s, fill_s, gN_s] at hP
              refine r_inc hx hb d_X_make_66 hl 5 rfl (by decide) rfl (fun ls hl => ?_)
              refine lv_goto (tgt := 51) hx hb d_X_make_69 (by decide) ?_
              exact ih (k + 1) (by omega) _ _ _ hP hS (lv_sub hl [1, 2, 3, 4, 5, 0] rfl)
          refine r_ifne (tgt := 38) hx hb d_X_make_33 (by decide) (by omega) (fun c_33 => ?_) (fun c_33 => absurd c_33 (by omega))
          refine lv_aload_n hx hb d_X_make_38 rfl (lv_at hl 0 rfl) ?_
          refine r_get hx hb hts hown hK hP 0 rfl rfl in_X 1 (by decide) kf_X_21 rfl d_X_make_39 ?_
          refine lv_iload_n hx hb d_X_make_42 rfl (lv_at hl 2 rfl) ?_
          refine r_calli S (c_H_make l E y n (by omega) f0 hy.2.2.1.le (by rw [← hov]; exact f1) hy.1.2.2.2.2.2.2 hy.ph2) kc_H_make k0_H km_X_53 ki_H_make ks_H_make hd_H_make ⟨rfl, rfl⟩ ⟨by decide, by decide⟩ (zX_ok E) hz hK hP hS (fun _ h => h) 4 rfl rfl rfl hl.1 rfl (Nat.le_of_ble_eq_true rfl) ⟨Nat.zero_le _, Nat.zero_le _⟩ d_X_make_43 (fun o1 x2 H locs hw2 hP _ _ hS => ?_)
          rw [← hov] at hw2
          obtain ⟨ho1, hx2⟩ := hw2
          subst ho1
          rw [hx2] at hP
          have hP : va_P E.D classes (wXe E y.rs y.rv y.dp (va_up y.col ov (if y.ph = 1 then 4 else y.wh)) (va_up y.siz ov n) y.srt y.val y.fre y.gry y.most (y.fc - 1) y.gc (y.us + (2 + n)) (y.ob + 1) y.wh y.ph y.sw y.md y.made y.full) H := hP
          refine lv_istore hx hb d_X_make_46 hl (by decide) rfl (fun ls hl => ?_)
          refine lv_iconst (v := nI 0) hx hb d_X_make_48 (by decide) ?_
          refine lv_istore hx hb d_X_make_49 hl (by decide) rfl (fun ls hl => ?_)
          exact loop n 0 (by omega) _ _ _ (by rw [fill_0, fill_0, gN_0]; exact hP) hS (lv_sub hl [2, 3, 4, 5, 1, 0] rfl)
        · rw [hxe] at hP
          refine r_ifne (tgt := 38) hx hb d_X_make_33 (by decide) (by omega) (fun c_33 => absurd c_33 (by omega)) (fun c_33 => ?_)
          refine lv_iconst (v := nI 0) hx hb d_X_make_36 (by decide) ?_
          exact hend _ _ (XS.mk y.rs y.rv y.dp y.col y.siz y.srt y.val y.fre y.gry y.most y.fc y.gc y.us y.ob y.wh y.ph y.sw y.md y.made (y.full + nI 1)) _ _ _ hP hS d_X_make_37 (IX.y (by decide) ha (IX.y (by decide) hb' (IX.y (by decide) hn ⟨y, hy, hsh, Or.inl ⟨rfl, rfl, hsr⟩⟩)))
      · rcases id hr with hr2 | hr2
        · refine r_meti (by decide) (Nat.le_of_ble_eq_true rfl) ?_
          intro p e s m args below meth c Q ls hx hb S hK hz hend hl hP hS
          have hts := S.2.2.2.2
          have hown := S.2.2.2.1
          refine lv_iload_n hx hb d_X_make_0 rfl (lv_at hl 1 rfl) ?_
          refine r_calls S (c_R_is1 l a ha) kc_R_is k0_R km_X_47 kt_R_is hd_R_is ⟨rfl, rfl⟩ ⟨by decide, by decide⟩ rfl hl.1 rfl (Nat.le_of_ble_eq_true rfl) ⟨Nat.zero_le _, Nat.zero_le _⟩ d_X_make_1 ?_
          refine r_ifeq (tgt := 24) hx hb d_X_make_4 (by decide) (by omega) (fun c_4 => absurd c_4 (by omega)) (fun c_4 => ?_)
          refine lv_iload_n hx hb d_X_make_7 rfl (lv_at hl 3 rfl) ?_
          refine r_calls S (c_R_is1 l b hb') kc_R_is k0_R km_X_47 kt_R_is hd_R_is ⟨rfl, rfl⟩ ⟨by decide, by decide⟩ rfl hl.1 rfl (Nat.le_of_ble_eq_true rfl) ⟨Nat.zero_le _, Nat.zero_le _⟩ d_X_make_8 ?_
          refine r_ifeq (tgt := 24) hx hb d_X_make_11 (by decide) (by omega) (fun c_11 => absurd c_11 (by omega)) (fun c_11 => ?_)
          refine lv_iload_n hx hb d_X_make_14 rfl (lv_at hl 2 rfl) ?_
          refine lv_if_lt (tgt := 24) hx hb d_X_make_15 (by decide) (fun c_15 => ?_) (fun c_15 => absurd c_15 (fun q => q hr2))
          refine lv_iconst (v := -1) hx hb d_X_make_24 (by decide) ?_
          exact hend _ _ (XS.mk x.rs x.rv x.dp x.col x.siz x.srt x.val x.fre x.gry x.most x.fc x.gc x.us x.ob x.wh x.ph x.sw x.md x.made x.full) _ _ _ hP hS d_X_make_25 (IX.y (by decide) ha (IX.y (by decide) hb' (IX.n (by decide) hr ⟨rfl, rfl⟩)))
        · refine r_meti (by decide) (Nat.le_of_ble_eq_true rfl) ?_
          intro p e s m args below meth c Q ls hx hb S hK hz hend hl hP hS
          have hts := S.2.2.2.2
          have hown := S.2.2.2.1
          refine lv_iload_n hx hb d_X_make_0 rfl (lv_at hl 1 rfl) ?_
          refine r_calls S (c_R_is1 l a ha) kc_R_is k0_R km_X_47 kt_R_is hd_R_is ⟨rfl, rfl⟩ ⟨by decide, by decide⟩ rfl hl.1 rfl (Nat.le_of_ble_eq_true rfl) ⟨Nat.zero_le _, Nat.zero_le _⟩ d_X_make_1 ?_
          refine r_ifeq (tgt := 24) hx hb d_X_make_4 (by decide) (by omega) (fun c_4 => absurd c_4 (by omega)) (fun c_4 => ?_)
          refine lv_iload_n hx hb d_X_make_7 rfl (lv_at hl 3 rfl) ?_
          refine r_calls S (c_R_is1 l b hb') kc_R_is k0_R km_X_47 kt_R_is hd_R_is ⟨rfl, rfl⟩ ⟨by decide, by decide⟩ rfl hl.1 rfl (Nat.le_of_ble_eq_true rfl) ⟨Nat.zero_le _, Nat.zero_le _⟩ d_X_make_8 ?_
          refine r_ifeq (tgt := 24) hx hb d_X_make_11 (by decide) (by omega) (fun c_11 => absurd c_11 (by omega)) (fun c_11 => ?_)
          refine lv_iload_n hx hb d_X_make_14 rfl (lv_at hl 2 rfl) ?_
          refine lv_if_lt (tgt := 24) hx hb d_X_make_15 (by decide) (fun c_15 => absurd c_15 (ix_nlt (by decide) hr2)) (fun c_15 => ?_)
          refine lv_iload_n hx hb d_X_make_18 rfl (lv_at hl 2 rfl) ?_
          refine lv_bipush (v := nI 20) hx hb d_X_make_19 (by decide) ?_
          refine lv_icmp_le (tgt := 26) hx hb d_X_make_21 (by decide) (fun c_21 => absurd c_21 (ix_nle (by decide) (by decide) hr2)) (fun c_21 => ?_)
          refine lv_iconst (v := -1) hx hb d_X_make_24 (by decide) ?_
          exact hend _ _ (XS.mk x.rs x.rv x.dp x.col x.siz x.srt x.val x.fre x.gry x.most x.fc x.gc x.us x.ob x.wh x.ph x.sw x.md x.made x.full) _ _ _ hP hS d_X_make_25 (IX.y (by decide) ha (IX.y (by decide) hb' (IX.n (by decide) hr ⟨rfl, rfl⟩)))
    · refine r_meti (by decide) (Nat.le_of_ble_eq_true rfl) ?_
      intro p e s m args below meth c Q ls hx hb S hK hz hend hl hP hS
      have hts := S.2.2.2.2
      have hown := S.2.2.2.1
      refine lv_iload_n hx hb d_X_make_0 rfl (lv_at hl 1 rfl) ?_
      refine r_calls S (c_R_is1 l a ha) kc_R_is k0_R km_X_47 kt_R_is hd_R_is ⟨rfl, rfl⟩ ⟨by decide, by decide⟩ rfl hl.1 rfl (Nat.le_of_ble_eq_true rfl) ⟨Nat.zero_le _, Nat.zero_le _⟩ d_X_make_1 ?_
      refine r_ifeq (tgt := 24) hx hb d_X_make_4 (by decide) (by omega) (fun c_4 => absurd c_4 (by omega)) (fun c_4 => ?_)
      refine lv_iload_n hx hb d_X_make_7 rfl (lv_at hl 3 rfl) ?_
      refine r_calls S (c_R_is0 l t hr) kc_R_is k0_R km_X_47 kt_R_is hd_R_is ⟨rfl, rfl⟩ ⟨by decide, by decide⟩ rfl hl.1 rfl (Nat.le_of_ble_eq_true rfl) ⟨Nat.zero_le _, Nat.zero_le _⟩ d_X_make_8 ?_
      refine r_ifeq (tgt := 24) hx hb d_X_make_11 (by decide) (by omega) (fun c_11 => ?_) (fun c_11 => absurd c_11 (by omega))
      refine lv_iconst (v := -1) hx hb d_X_make_24 (by decide) ?_
      exact hend _ _ (XS.mk x.rs x.rv x.dp x.col x.siz x.srt x.val x.fre x.gry x.most x.fc x.gc x.us x.ob x.wh x.ph x.sw x.md x.made x.full) _ _ _ hP hS d_X_make_25 (IX.y (by decide) ha (IX.n (by decide) hr ⟨rfl, rfl⟩))
  · refine r_meti (by decide) (Nat.le_of_ble_eq_true rfl) ?_
    intro p e s m args below meth c Q ls hx hb S hK hz hend hl hP hS
    have hts := S.2.2.2.2
    have hown := S.2.2.2.1
    refine lv_iload_n hx hb d_X_make_0 rfl (lv_at hl 1 rfl) ?_
    refine r_calls S (c_R_is0 l r hr) kc_R_is k0_R km_X_47 kt_R_is hd_R_is ⟨rfl, rfl⟩ ⟨by decide, by decide⟩ rfl hl.1 rfl (Nat.le_of_ble_eq_true rfl) ⟨Nat.zero_le _, Nat.zero_le _⟩ d_X_make_1 ?_
    refine r_ifeq (tgt := 24) hx hb d_X_make_4 (by decide) (by omega) (fun c_4 => ?_) (fun c_4 => absurd c_4 (by omega))
    refine lv_iconst (v := -1) hx hb d_X_make_24 (by decide) ?_
    exact hend _ _ (XS.mk x.rs x.rv x.dp x.col x.siz x.srt x.val x.fre x.gry x.most x.fc x.gc x.us x.ob x.wh x.ph x.sw x.md x.made x.full) _ _ _ hP hS d_X_make_25 (IX.n (by decide) hr ⟨rfl, rfl⟩)
end
section
set_option maxHeartbeats 4000000 in
set_option maxRecDepth 100000 in
theorem c_X_grow (l : Launch) (E : KX) (x : XS) (r t : Int32) (h : Inv x) : Xi l E y_X_grow w_X_grow rm_X_grow [.ref (E.ad 0), .int r, .int t] x (fun q x' => IX t 10 (fun b => OBJ x.rs x.rv 1600 r (fun j v => (x.siz v = 20 → q = -1 ∧ x' = x) ∧ (x.siz v ≠ 20 → ∃ y : XS, Inv y ∧ Shr x y ∧ ((q = nI 0 ∧ x' = XS.mk y.rs y.rv y.dp y.col y.siz y.srt y.val y.fre y.gry y.most y.fc y.gc y.us y.ob y.wh y.ph y.sw y.md y.made (y.full + nI 1) ∧ x.most < sR x + 1) ∨ (q = nI (x.siz v + 1) ∧ sR x + 1 ≤ x.most ∧ Inv x' ∧ Shr (layX (growX y v) v (y.siz v) b) x')))) (q = -1 ∧ x' = x)) (q = -1 ∧ x' = x)) := by
  rcases ix_cases t (n := 10) (by decide) with ⟨b, hb', rfl⟩ | hr
  · rcases ob_cases h.ro r with ⟨j, v, hj, rfl, h2, hv, he⟩ | hno
    · have hs := h.1.2.1 v
      by_cases h0 : x.siz v = 20
      · refine r_meti (by decide) (Nat.le_of_ble_eq_true rfl) ?_
        intro p e s m args below meth c Q ls hx hb S hK hz hend hl hP hS
        have hts := S.2.2.2.2
        have hown := S.2.2.2.1
        refine lv_iload_n hx hb d_X_grow_0 rfl (lv_at hl 2 rfl) ?_
        refine r_calls S (c_R_is1 l b hb') kc_R_is k0_R km_X_47 kt_R_is hd_R_is ⟨rfl, rfl⟩ ⟨by decide, by decide⟩ rfl hl.1 rfl (Nat.le_of_ble_eq_true rfl) ⟨Nat.zero_le _, Nat.zero_le _⟩ d_X_grow_1 ?_
        refine r_ifeq (tgt := 40) hx hb d_X_grow_4 (by decide) (by omega) (fun c_4 => absurd c_4 (by omega)) (fun c_4 => ?_)
        refine lv_aload_n hx hb d_X_grow_7 rfl (lv_at hl 0 rfl) ?_
        refine r_get hx hb hts hown hK hP 0 rfl rfl in_X 0 (by decide) kf_X_10 rfl d_X_grow_8 ?_
        refine lv_iload_n hx hb d_X_grow_11 rfl (lv_at hl 1 rfl) ?_
        refine r_calli S (c_R_hasObjY l E (XS.mk x.rs x.rv x.dp x.col x.siz x.srt x.val x.fre x.gry x.most x.fc x.gc x.us x.ob x.wh x.ph x.sw x.md x.made x.full) j hj h2) kc_R_hasObject k0_R km_X_70 ki_R_hasObject ks_R_hasObject hd_R_hasObject ⟨rfl, rfl⟩ ⟨by decide, by decide⟩ (zX_ok E) hz hK hP hS (fun _ h => h) 1 rfl rfl rfl hl.1 rfl (Nat.le_of_ble_eq_true rfl) ⟨Nat.zero_le _, Nat.zero_le _⟩ d_X_grow_12 (fun r1 x1 H locs hw hP _ _ hS => ?_)
        obtain ⟨hr1, hx1⟩ := hw
        subst hr1 hx1
        have hP : va_P E.D classes (wXe E x.rs x.rv x.dp x.col x.siz x.srt x.val x.fre x.gry x.most x.fc x.gc x.us x.ob x.wh x.ph x.sw x.md x.made x.full) H := hP
        refine r_ifeq (tgt := 40) hx hb d_X_grow_15 (by decide) (by omega) (fun c_15 => absurd c_15 (by omega)) (fun c_15 => ?_)
        refine lv_aload_n hx hb d_X_grow_18 rfl (lv_at hl 0 rfl) ?_
        refine r_get hx hb hts hown hK hP 0 rfl rfl in_X 1 (by decide) kf_X_21 rfl d_X_grow_19 ?_
        refine r_getN hx hb hts hown hz.2 hK hP 4 rfl rfl in_H 1 (by decide) 3 rfl rfl d_X_grow_22 ?_
        refine lv_aload_n hx hb d_X_grow_25 rfl (lv_at hl 0 rfl) ?_
        refine r_get hx hb hts hown hK hP 0 rfl rfl in_X 0 (by decide) kf_X_10 rfl d_X_grow_26 ?_
        refine r_getN hx hb hts hown hz.2 hK hP 1 rfl rfl in_R 1 (by decide) 1 rfl rfl d_X_grow_29 ?_
        refine lv_iload_n hx hb d_X_grow_32 rfl (lv_at hl 1 rfl) ?_
        refine r_iald hx hb hK hP 3 1 rfl rfl (by decide) (by omega) d_X_grow_33 ?_
        refine r_top (he) ?_
        refine r_bald hx hb hK hP 6 0 rfl rfl (by decide) (by omega) d_X_grow_34 ?_
        refine lv_bipush (v := nI 20) hx hb d_X_grow_35 (by decide) ?_
        refine r_ne (tgt := 42) hx hb d_X_grow_37 (by decide) (by omega) (by omega) (fun c_37 => absurd c_37 (fun q => q h0)) (fun c_37 => ?_)
        refine lv_iconst (v := -1) hx hb d_X_grow_40 (by decide) ?_
        exact hend _ _ (XS.mk x.rs x.rv x.dp x.col x.siz x.srt x.val x.fre x.gry x.most x.fc x.gc x.us x.ob x.wh x.ph x.sw x.md x.made x.full) _ _ _ hP hS d_X_grow_41 (IX.y (by decide) hb' (OBJ.y (by decide) hj h2 hv he ⟨fun _ => ⟨rfl, rfl⟩, fun z => absurd h0 z⟩))
      · refine r_meti (by decide) (Nat.le_of_ble_eq_true rfl) ?_
        intro p e s m args below meth c Q ls hx hb S hK hz hend hl hP hS
        have hts := S.2.2.2.2
        have hown := S.2.2.2.1
        refine lv_iload_n hx hb d_X_grow_0 rfl (lv_at hl 2 rfl) ?_
        refine r_calls S (c_R_is1 l b hb') kc_R_is k0_R km_X_47 kt_R_is hd_R_is ⟨rfl, rfl⟩ ⟨by decide, by decide⟩ rfl hl.1 rfl (Nat.le_of_ble_eq_true rfl) ⟨Nat.zero_le _, Nat.zero_le _⟩ d_X_grow_1 ?_
        refine r_ifeq (tgt := 40) hx hb d_X_grow_4 (by decide) (by omega) (fun c_4 => absurd c_4 (by omega)) (fun c_4 => ?_)
        refine lv_aload_n hx hb d_X_grow_7 rfl (lv_at hl 0 rfl) ?_
        refine r_get hx hb hts hown hK hP 0 rfl rfl in_X 0 (by decide) kf_X_10 rfl d_X_grow_8 ?_
        refine lv_iload_n hx hb d_X_grow_11 rfl (lv_at hl 1 rfl) ?_
        refine r_calli S (c_R_hasObjY l E (XS.mk x.rs x.rv x.dp x.col x.siz x.srt x.val x.fre x.gry x.most x.fc x.gc x.us x.ob x.wh x.ph x.sw x.md x.made x.full) j hj h2) kc_R_hasObject k0_R km_X_70 ki_R_hasObject ks_R_hasObject hd_R_hasObject ⟨rfl, rfl⟩ ⟨by decide, by decide⟩ (zX_ok E) hz hK hP hS (fun _ h => h) 1 rfl rfl rfl hl.1 rfl (Nat.le_of_ble_eq_true rfl) ⟨Nat.zero_le _, Nat.zero_le _⟩ d_X_grow_12 (fun r1 x1 H locs hw hP _ _ hS => ?_)
        obtain ⟨hr1, hx1⟩ := hw
        subst hr1 hx1
        have hP : va_P E.D classes (wXe E x.rs x.rv x.dp x.col x.siz x.srt x.val x.fre x.gry x.most x.fc x.gc x.us x.ob x.wh x.ph x.sw x.md x.made x.full) H := hP
        refine r_ifeq (tgt := 40) hx hb d_X_grow_15 (by decide) (by omega) (fun c_15 => absurd c_15 (by omega)) (fun c_15 => ?_)
        refine lv_aload_n hx hb d_X_grow_18 rfl (lv_at hl 0 rfl) ?_
        refine r_get hx hb hts hown hK hP 0 rfl rfl in_X 1 (by decide) kf_X_21 rfl d_X_grow_19 ?_
        refine r_getN hx hb hts hown hz.2 hK hP 4 rfl rfl in_H 1 (by decide) 3 rfl rfl d_X_grow_22 ?_
        refine lv_aload_n hx hb d_X_grow_25 rfl (lv_at hl 0 rfl) ?_
        refine r_get hx hb hts hown hK hP 0 rfl rfl in_X 0 (by decide) kf_X_10 rfl d_X_grow_26 ?_
        refine r_getN hx hb hts hown hz.2 hK hP 1 rfl rfl in_R 1 (by decide) 1 rfl rfl d_X_grow_29 ?_
        refine lv_iload_n hx hb d_X_grow_32 rfl (lv_at hl 1 rfl) ?_
        refine r_iald hx hb hK hP 3 1 rfl rfl (by decide) (by omega) d_X_grow_33 ?_
        refine r_top (he) ?_
        refine r_bald hx hb hK hP 6 0 rfl rfl (by decide) (by omega) d_X_grow_34 ?_
        refine lv_bipush (v := nI 20) hx hb d_X_grow_35 (by decide) ?_
        refine r_ne (tgt := 42) hx hb d_X_grow_37 (by decide) (by omega) (by omega) (fun c_37 => ?_) (fun c_37 => absurd c_37 h0)
        refine lv_aload_n hx hb d_X_grow_42 rfl (lv_at hl 0 rfl) ?_
        refine lv_iconst (v := nI 1) hx hb d_X_grow_43 (by decide) ?_
        refine r_calli S (c_X_room l E x 1 h (by omega)) kc_X_room k0_X km_X_50 ki_X_room ks_X_room hd_X_room ⟨rfl, rfl⟩ ⟨by decide, by decide⟩ (zX_ok E) hz hK hP hS (fun _ h => h) 0 rfl rfl rfl hl.1 rfl (Nat.le_of_ble_eq_true rfl) ⟨Nat.zero_le _, Nat.zero_le _⟩ d_X_grow_44 (fun q1 x1 H locs hw hP _ _ hS => ?_)
        obtain ⟨y, hy, hsh, hor⟩ := hw
        rcases hor with ⟨rfl, hxe, hus, hsr⟩ | ⟨rfl, hxe, hsr⟩
        · rw [hxe] at hP
          have he' : y.rv j = nI v := by rw [hsh.2.1]; exact he
          have hsz : y.siz v = x.siz v := by rw [hsh.2.2.2.1]
          have hlv : Lv y.col y.wh v := by
            obtain ⟨v', q1, q2, q3⟩ := hy.reg hj (by rw [hsh.1]; exact h2)
            rw [(nI_eq (by omega) (by omega)).mp (he'.symm.trans q2)]
            exact q3
          refine r_ifne (tgt := 52) hx hb d_X_grow_47 (by decide) (by omega) (fun c_47 => ?_) (fun c_47 => absurd c_47 (by omega))
          refine lv_aload_n hx hb d_X_grow_52 rfl (lv_at hl 0 rfl) ?_
          refine r_get hx hb hts hown hK hP 0 rfl rfl in_X 0 (by decide) kf_X_10 rfl d_X_grow_53 ?_
          refine r_getN hx hb hts hown hz.2 hK hP 1 rfl rfl in_R 1 (by decide) 1 rfl rfl d_X_grow_56 ?_
          refine lv_iload_n hx hb d_X_grow_59 rfl (lv_at hl 1 rfl) ?_
          refine r_iald hx hb hK hP 3 1 rfl rfl (by decide) (by omega) d_X_grow_60 ?_
          refine r_top (he') ?_
          refine lv_istore_n hx hb d_X_grow_61 rfl hl (by decide) rfl (fun ls hl => ?_)
          refine lv_aload_n hx hb d_X_grow_62 rfl (lv_at hl 1 rfl) ?_
          refine r_get hx hb hts hown hK hP 0 rfl rfl in_X 1 (by decide) kf_X_21 rfl d_X_grow_63 ?_
          refine r_getN hx hb hts hown hz.2 hK hP 4 rfl rfl in_H 1 (by decide) 3 rfl rfl d_X_grow_66 ?_
          refine lv_iload_n hx hb d_X_grow_69 rfl (lv_at hl 0 rfl) ?_
          refine r_bald hx hb hK hP 6 0 rfl rfl (by decide) (by omega) d_X_grow_70 ?_
          refine lv_istore hx hb d_X_grow_71 hl (by decide) rfl (fun ls hl => ?_)
          refine lv_aload_n hx hb d_X_grow_73 rfl (lv_at hl 2 rfl) ?_
          refine r_get hx hb hts hown hK hP 0 rfl rfl in_X 1 (by decide) kf_X_21 rfl d_X_grow_74 ?_
          refine r_getN hx hb hts hown hz.2 hK hP 4 rfl rfl in_H 1 (by decide) 3 rfl rfl d_X_grow_77 ?_
          refine lv_iload_n hx hb d_X_grow_80 rfl (lv_at hl 1 rfl) ?_
          refine lv_iload hx hb d_X_grow_81 (lv_at hl 0 rfl) ?_
          refine lv_iconst (v := nI 1) hx hb d_X_grow_83 (by decide) ?_
          refine r_add hx hb d_X_grow_84 ?_
          refine r_i2b hx hb (by omega) d_X_grow_85 ?_
          refine r_bast (ws' := wXe E y.rs y.rv y.dp y.col (va_up y.siz v (y.siz v + 1)) y.srt y.val y.fre y.gry y.most y.fc y.gc y.us y.ob y.wh y.ph y.sw y.md y.made y.full) hx hb hK hP (wX_D hz.1) hS 6 0 rfl rfl (by decide) (by omega) (by omega) rfl d_X_grow_86 (fun H locs hP hS => ?_)
          refine lv_aload_n hx hb d_X_grow_87 rfl (lv_at hl 2 rfl) ?_
          refine r_get hx hb hts hown hK hP 0 rfl rfl in_X 1 (by decide) kf_X_21 rfl d_X_grow_88 ?_
          refine lv_dup hx hb d_X_grow_91 rfl ?_
          refine r_getN hx hb hts hown hz.2 hK hP 4 rfl rfl in_H 10 (by decide) 6 rfl rfl d_X_grow_92 ?_
          refine lv_iconst (v := nI 1) hx hb d_X_grow_95 (by decide) ?_
          refine r_add hx hb d_X_grow_96 ?_
          refine r_putN (ws' := wXe E y.rs y.rv y.dp y.col (va_up y.siz v (y.siz v + 1)) y.srt y.val y.fre y.gry y.most y.fc y.gc (y.us + 1) y.ob y.wh y.ph y.sw y.md y.made y.full) hx hb hts hown hz.2 hK hP (wX_D hz.1) hS 4 rfl rfl in_H t_H t_H_ok n_H 10 (by decide) 6 rfl rfl rfl (Nat.le_of_ble_eq_true rfl) rfl d_X_grow_97 (fun H locs hP hS => ?_)
          refine lv_aload_n hx hb d_X_grow_100 rfl (lv_at hl 2 rfl) ?_
          refine lv_iload_n hx hb d_X_grow_101 rfl (lv_at hl 1 rfl) ?_
          refine lv_iload hx hb d_X_grow_102 (lv_at hl 0 rfl) ?_
          refine lv_iload_n hx hb d_X_grow_104 rfl (lv_at hl 4 rfl) ?_
          refine r_callv S (c_X_lay l E (XS.mk y.rs y.rv y.dp y.col (va_up y.siz v (y.siz v + 1)) y.srt y.val y.fre y.gry y.most y.fc y.gc (y.us + 1) y.ob y.wh y.ph y.sw y.md y.made y.full) v (y.siz v) b hv (by omega) hb' (hy.1.2.2.2.1 b) hy.2.1 hy.1.1 hy.ph2) kc_X_lay k0_X km_X_57 ki_X_lay ks_X_lay hd_X_lay ⟨rfl, rfl⟩ ⟨by decide, by decide⟩ (zX_ok E) hz hK hP hS (fun _ h => h) 0 rfl rfl rfl hl.1 rfl (Nat.le_of_ble_eq_true rfl) ⟨Nat.zero_le _, Nat.zero_le _⟩ d_X_grow_105 (fun x1 H locs hw hP _ _ hS => ?_)
          have hx1 : x1 = layX (growX y v) v (y.siz v) b := hw
          rw [hx1] at hP
          have hP : va_P E.D classes (wXe E ((layX (growX y v) v (y.siz v) b).rs) ((layX (growX y v) v (y.siz v) b).rv) ((layX (growX y v) v (y.siz v) b).dp) ((layX (growX y v) v (y.siz v) b).col) ((layX (growX y v) v (y.siz v) b).siz) ((layX (growX y v) v (y.siz v) b).srt) ((layX (growX y v) v (y.siz v) b).val) ((layX (growX y v) v (y.siz v) b).fre) ((layX (growX y v) v (y.siz v) b).gry) ((layX (growX y v) v (y.siz v) b).most) ((layX (growX y v) v (y.siz v) b).fc) ((layX (growX y v) v (y.siz v) b).gc) ((layX (growX y v) v (y.siz v) b).us) ((layX (growX y v) v (y.siz v) b).ob) ((layX (growX y v) v (y.siz v) b).wh) ((layX (growX y v) v (y.siz v) b).ph) ((layX (growX y v) v (y.siz v) b).sw) ((layX (growX y v) v (y.siz v) b).md) ((layX (growX y v) v (y.siz v) b).made) ((layX (growX y v) v (y.siz v) b).full)) H := hP
          refine lv_aload_n hx hb d_X_grow_108 rfl (lv_at hl 2 rfl) ?_
          refine r_get hx hb hts hown hK hP 0 rfl rfl in_X 1 (by decide) kf_X_21 rfl d_X_grow_109 ?_
          refine r_callv S (c_H_slice l E (layX (growX y v) v (y.siz v) b) (hy.grow hlv (by omega) hb')) kc_H_slice k0_H km_X_67 ki_H_slice ks_H_slice hd_H_slice ⟨rfl, rfl⟩ ⟨by decide, by decide⟩ (zX_ok E) hz hK hP hS (fun _ h => h) 4 rfl rfl rfl hl.1 rfl (Nat.le_of_ble_eq_true rfl) ⟨Nat.zero_le _, Nat.zero_le _⟩ d_X_grow_112 (fun x3 H locs hw3 hP _ _ hS => ?_)
          refine lv_iload hx hb d_X_grow_115 (lv_at hl 0 rfl) ?_
          refine lv_iconst (v := nI 1) hx hb d_X_grow_117 (by decide) ?_
          refine r_add hx hb d_X_grow_118 ?_
          exact hend _ _ (XS.mk x3.rs x3.rv x3.dp x3.col x3.siz x3.srt x3.val x3.fre x3.gry x3.most x3.fc x3.gc x3.us x3.ob x3.wh x3.ph x3.sw x3.md x3.made x3.full) _ _ _ hP hS d_X_grow_119 (IX.y (by decide) hb' (OBJ.y (by decide) hj h2 hv he ⟨fun z => absurd z h0, fun _ => ⟨y, hy, hsh, Or.inr ⟨by rw [hsz], hsr, hw3.1, hw3.2⟩⟩⟩))
        · rw [hxe] at hP
          refine r_ifne (tgt := 52) hx hb d_X_grow_47 (by decide) (by omega) (fun c_47 => absurd c_47 (by omega)) (fun c_47 => ?_)
          refine lv_iconst (v := nI 0) hx hb d_X_grow_50 (by decide) ?_
          exact hend _ _ (XS.mk y.rs y.rv y.dp y.col y.siz y.srt y.val y.fre y.gry y.most y.fc y.gc y.us y.ob y.wh y.ph y.sw y.md y.made (y.full + nI 1)) _ _ _ hP hS d_X_grow_51 (IX.y (by decide) hb' (OBJ.y (by decide) hj h2 hv he ⟨fun z => absurd z h0, fun _ => ⟨y, hy, hsh, Or.inl ⟨rfl, rfl, hsr⟩⟩⟩))
    · refine r_meti (by decide) (Nat.le_of_ble_eq_true rfl) ?_
      intro p e s m args below meth c Q ls hx hb S hK hz hend hl hP hS
      have hts := S.2.2.2.2
      have hown := S.2.2.2.1
      refine lv_iload_n hx hb d_X_grow_0 rfl (lv_at hl 2 rfl) ?_
      refine r_calls S (c_R_is1 l b hb') kc_R_is k0_R km_X_47 kt_R_is hd_R_is ⟨rfl, rfl⟩ ⟨by decide, by decide⟩ rfl hl.1 rfl (Nat.le_of_ble_eq_true rfl) ⟨Nat.zero_le _, Nat.zero_le _⟩ d_X_grow_1 ?_
      refine r_ifeq (tgt := 40) hx hb d_X_grow_4 (by decide) (by omega) (fun c_4 => absurd c_4 (by omega)) (fun c_4 => ?_)
      refine lv_aload_n hx hb d_X_grow_7 rfl (lv_at hl 0 rfl) ?_
      refine r_get hx hb hts hown hK hP 0 rfl rfl in_X 0 (by decide) kf_X_10 rfl d_X_grow_8 ?_
      refine lv_iload_n hx hb d_X_grow_11 rfl (lv_at hl 1 rfl) ?_
      refine r_calli S (c_R_hasObjN l E (XS.mk x.rs x.rv x.dp x.col x.siz x.srt x.val x.fre x.gry x.most x.fc x.gc x.us x.ob x.wh x.ph x.sw x.md x.made x.full) r h.1.2.2.2.1 hno) kc_R_hasObject k0_R km_X_70 ki_R_hasObject ks_R_hasObject hd_R_hasObject ⟨rfl, rfl⟩ ⟨by decide, by decide⟩ (zX_ok E) hz hK hP hS (fun _ h => h) 1 rfl rfl rfl hl.1 rfl (Nat.le_of_ble_eq_true rfl) ⟨Nat.zero_le _, Nat.zero_le _⟩ d_X_grow_12 (fun r1 x1 H locs hw hP _ _ hS => ?_)
      obtain ⟨hr1, hx1⟩ := hw
      subst hr1 hx1
      have hP : va_P E.D classes (wXe E x.rs x.rv x.dp x.col x.siz x.srt x.val x.fre x.gry x.most x.fc x.gc x.us x.ob x.wh x.ph x.sw x.md x.made x.full) H := hP
      refine r_ifeq (tgt := 40) hx hb d_X_grow_15 (by decide) (by omega) (fun c_15 => ?_) (fun c_15 => absurd c_15 (by omega))
      refine lv_iconst (v := -1) hx hb d_X_grow_40 (by decide) ?_
      exact hend _ _ (XS.mk x.rs x.rv x.dp x.col x.siz x.srt x.val x.fre x.gry x.most x.fc x.gc x.us x.ob x.wh x.ph x.sw x.md x.made x.full) _ _ _ hP hS d_X_grow_41 (IX.y (by decide) hb' (OBJ.n hno ⟨rfl, rfl⟩))
  · refine r_meti (by decide) (Nat.le_of_ble_eq_true rfl) ?_
    intro p e s m args below meth c Q ls hx hb S hK hz hend hl hP hS
    have hts := S.2.2.2.2
    have hown := S.2.2.2.1
    refine lv_iload_n hx hb d_X_grow_0 rfl (lv_at hl 2 rfl) ?_
    refine r_calls S (c_R_is0 l t hr) kc_R_is k0_R km_X_47 kt_R_is hd_R_is ⟨rfl, rfl⟩ ⟨by decide, by decide⟩ rfl hl.1 rfl (Nat.le_of_ble_eq_true rfl) ⟨Nat.zero_le _, Nat.zero_le _⟩ d_X_grow_1 ?_
    refine r_ifeq (tgt := 40) hx hb d_X_grow_4 (by decide) (by omega) (fun c_4 => ?_) (fun c_4 => absurd c_4 (by omega))
    refine lv_iconst (v := -1) hx hb d_X_grow_40 (by decide) ?_
    exact hend _ _ (XS.mk x.rs x.rv x.dp x.col x.siz x.srt x.val x.fre x.gry x.most x.fc x.gc x.us x.ob x.wh x.ph x.sw x.md x.made x.full) _ _ _ hP hS d_X_grow_41 (IX.n (by decide) hr ⟨rfl, rfl⟩)
end
section
set_option maxHeartbeats 4000000 in
set_option maxRecDepth 100000 in
theorem c_X_count (l : Launch) (E : KX) (x : XS) (u : Int32) (h : Inv x) : Xi l E y_X_count w_X_count rm_X_count [.ref (E.ad 0), .int u] x (fun q x' => IX u 5 (fun n => (n = 0 → Inv x' ∧ Shr x x' ∧ q = nI (sR x)) ∧ (n = 1 → Inv x' ∧ Shr x x' ∧ q = nI (cR x)) ∧ (n = 2 → x' = x ∧ q = nI x.dp) ∧ (n = 3 → x' = x ∧ q = x.made) ∧ (n = 4 → x' = x ∧ q = x.full)) (q = -1 ∧ x' = x)) := by
  rcases ix_cases u (n := 5) (by decide) with ⟨n, hn, rfl⟩ | hr
  · rcases (show n = 0 ∨ n = 1 ∨ n = 2 ∨ n = 3 ∨ n = 4 by omega) with rfl | rfl | rfl | rfl | rfl
    · refine r_meti (by decide) (Nat.le_of_ble_eq_true rfl) ?_
      intro p e s m args below meth c Q ls hx hb S hK hz hend hl hP hS
      have hts := S.2.2.2.2
      have hown := S.2.2.2.1
      refine lv_iload_n hx hb d_X_count_0 rfl (lv_at hl 1 rfl) ?_
      refine lv_tableIn (tgt := 36) hx hb d_X_count_1 (by decide) (by decide) rfl (by decide) ?_
      refine lv_aload_n hx hb d_X_count_36 rfl (lv_at hl 0 rfl) ?_
      refine r_get hx hb hts hown hK hP 0 rfl rfl in_X 1 (by decide) kf_X_21 rfl d_X_count_37 ?_
      refine r_callv S (c_H_all l E x h) kc_H_all k0_H km_X_86 ki_H_all ks_H_all hd_H_all ⟨rfl, rfl⟩ ⟨by decide, by decide⟩ (zX_ok E) hz hK hP hS (fun _ h => h) 4 rfl rfl rfl hl.1 rfl (Nat.le_of_ble_eq_true rfl) ⟨Nat.zero_le _, Nat.zero_le _⟩ d_X_count_40 (fun x1 H locs hw hP _ _ hS => ?_)
      have hsum := hw.1.sR_eq (by rw [hw.2.1.rx]; exact hw.2.2)
      rw [hw.2.1.sRq, hw.2.1.cRq] at hsum
      refine lv_iload_n hx hb d_X_count_43 rfl (lv_at hl 1 rfl) ?_
      refine r_ifne (tgt := 57) hx hb d_X_count_44 (by decide) (by omega) (fun c_44 => absurd c_44 (by omega)) (fun c_44 => ?_)
      refine lv_aload_n hx hb d_X_count_47 rfl (lv_at hl 0 rfl) ?_
      refine r_get hx hb hts hown hK hP 0 rfl rfl in_X 1 (by decide) kf_X_21 rfl d_X_count_48 ?_
      refine r_getN hx hb hts hown hz.2 hK hP 4 rfl rfl in_H 10 (by decide) 6 rfl rfl d_X_count_51 ?_
      refine r_top (congrArg nI hsum.1) ?_
      refine lv_goto (tgt := 64) hx hb d_X_count_54 (by decide) ?_
      exact hend _ _ (XS.mk x1.rs x1.rv x1.dp x1.col x1.siz x1.srt x1.val x1.fre x1.gry x1.most x1.fc x1.gc x1.us x1.ob x1.wh x1.ph x1.sw x1.md x1.made x1.full) _ _ _ hP hS d_X_count_64 (IX.y (by decide) hn ⟨fun _ => ⟨hw.1, hw.2.1, rfl⟩, fun z => absurd z (by decide), fun z => absurd z (by decide), fun z => absurd z (by decide), fun z => absurd z (by decide)⟩)
    · refine r_meti (by decide) (Nat.le_of_ble_eq_true rfl) ?_
      intro p e s m args below meth c Q ls hx hb S hK hz hend hl hP hS
      have hts := S.2.2.2.2
      have hown := S.2.2.2.1
      refine lv_iload_n hx hb d_X_count_0 rfl (lv_at hl 1 rfl) ?_
      refine lv_tableIn (tgt := 36) hx hb d_X_count_1 (by decide) (by decide) rfl (by decide) ?_
      refine lv_aload_n hx hb d_X_count_36 rfl (lv_at hl 0 rfl) ?_
      refine r_get hx hb hts hown hK hP 0 rfl rfl in_X 1 (by decide) kf_X_21 rfl d_X_count_37 ?_
      refine r_callv S (c_H_all l E x h) kc_H_all k0_H km_X_86 ki_H_all ks_H_all hd_H_all ⟨rfl, rfl⟩ ⟨by decide, by decide⟩ (zX_ok E) hz hK hP hS (fun _ h => h) 4 rfl rfl rfl hl.1 rfl (Nat.le_of_ble_eq_true rfl) ⟨Nat.zero_le _, Nat.zero_le _⟩ d_X_count_40 (fun x1 H locs hw hP _ _ hS => ?_)
      have hsum := hw.1.sR_eq (by rw [hw.2.1.rx]; exact hw.2.2)
      rw [hw.2.1.sRq, hw.2.1.cRq] at hsum
      refine lv_iload_n hx hb d_X_count_43 rfl (lv_at hl 1 rfl) ?_
      refine r_ifne (tgt := 57) hx hb d_X_count_44 (by decide) (by omega) (fun c_44 => ?_) (fun c_44 => absurd c_44 (by omega))
      refine lv_aload_n hx hb d_X_count_57 rfl (lv_at hl 0 rfl) ?_
      refine r_get hx hb hts hown hK hP 0 rfl rfl in_X 1 (by decide) kf_X_21 rfl d_X_count_58 ?_
      refine r_getN hx hb hts hown hz.2 hK hP 4 rfl rfl in_H 11 (by decide) 7 rfl rfl d_X_count_61 ?_
      refine r_top (congrArg nI hsum.2) ?_
      exact hend _ _ (XS.mk x1.rs x1.rv x1.dp x1.col x1.siz x1.srt x1.val x1.fre x1.gry x1.most x1.fc x1.gc x1.us x1.ob x1.wh x1.ph x1.sw x1.md x1.made x1.full) _ _ _ hP hS d_X_count_64 (IX.y (by decide) hn ⟨fun z => absurd z (by decide), fun _ => ⟨hw.1, hw.2.1, rfl⟩, fun z => absurd z (by decide), fun z => absurd z (by decide), fun z => absurd z (by decide)⟩)
    · refine r_meti (by decide) (Nat.le_of_ble_eq_true rfl) ?_
      intro p e s m args below meth c Q ls hx hb S hK hz hend hl hP hS
      have hts := S.2.2.2.2
      have hown := S.2.2.2.1
      refine lv_iload_n hx hb d_X_count_0 rfl (lv_at hl 1 rfl) ?_
      refine lv_tableIn (tgt := 65) hx hb d_X_count_1 (by decide) (by decide) rfl (by decide) ?_
      refine lv_aload_n hx hb d_X_count_65 rfl (lv_at hl 0 rfl) ?_
      refine r_get hx hb hts hown hK hP 0 rfl rfl in_X 0 (by decide) kf_X_10 rfl d_X_count_66 ?_
      refine r_getN hx hb hts hown hz.2 hK hP 1 rfl rfl in_R 2 (by decide) 2 rfl rfl d_X_count_69 ?_
      exact hend _ _ (XS.mk x.rs x.rv x.dp x.col x.siz x.srt x.val x.fre x.gry x.most x.fc x.gc x.us x.ob x.wh x.ph x.sw x.md x.made x.full) _ _ _ hP hS d_X_count_72 (IX.y (by decide) hn ⟨fun z => absurd z (by decide), fun z => absurd z (by decide), fun _ => ⟨rfl, rfl⟩, fun z => absurd z (by decide), fun z => absurd z (by decide)⟩)
    · refine r_meti (by decide) (Nat.le_of_ble_eq_true rfl) ?_
      intro p e s m args below meth c Q ls hx hb S hK hz hend hl hP hS
      have hts := S.2.2.2.2
      have hown := S.2.2.2.1
      refine lv_iload_n hx hb d_X_count_0 rfl (lv_at hl 1 rfl) ?_
      refine lv_tableIn (tgt := 73) hx hb d_X_count_1 (by decide) (by decide) rfl (by decide) ?_
      refine lv_aload_n hx hb d_X_count_73 rfl (lv_at hl 0 rfl) ?_
      refine r_get hx hb hts hown hK hP 0 rfl rfl in_X 2 (by decide) kf_X_64 rfl d_X_count_74 ?_
      exact hend _ _ (XS.mk x.rs x.rv x.dp x.col x.siz x.srt x.val x.fre x.gry x.most x.fc x.gc x.us x.ob x.wh x.ph x.sw x.md x.made x.full) _ _ _ hP hS d_X_count_77 (IX.y (by decide) hn ⟨fun z => absurd z (by decide), fun z => absurd z (by decide), fun z => absurd z (by decide), fun _ => ⟨rfl, rfl⟩, fun z => absurd z (by decide)⟩)
    · refine r_meti (by decide) (Nat.le_of_ble_eq_true rfl) ?_
      intro p e s m args below meth c Q ls hx hb S hK hz hend hl hP hS
      have hts := S.2.2.2.2
      have hown := S.2.2.2.1
      refine lv_iload_n hx hb d_X_count_0 rfl (lv_at hl 1 rfl) ?_
      refine lv_tableIn (tgt := 78) hx hb d_X_count_1 (by decide) (by decide) rfl (by decide) ?_
      refine lv_aload_n hx hb d_X_count_78 rfl (lv_at hl 0 rfl) ?_
      refine r_get hx hb hts hown hK hP 0 rfl rfl in_X 3 (by decide) kf_X_29 rfl d_X_count_79 ?_
      exact hend _ _ (XS.mk x.rs x.rv x.dp x.col x.siz x.srt x.val x.fre x.gry x.most x.fc x.gc x.us x.ob x.wh x.ph x.sw x.md x.made x.full) _ _ _ hP hS d_X_count_82 (IX.y (by decide) hn ⟨fun z => absurd z (by decide), fun z => absurd z (by decide), fun z => absurd z (by decide), fun z => absurd z (by decide), fun _ => ⟨rfl, rfl⟩⟩)
  · refine r_meti (by decide) (Nat.le_of_ble_eq_true rfl) ?_
    intro p e s m args below meth c Q ls hx hb S hK hz hend hl hP hS
    have hts := S.2.2.2.2
    have hown := S.2.2.2.1
    refine lv_iload_n hx hb d_X_count_0 rfl (lv_at hl 1 rfl) ?_
    refine lv_tableOut (tgt := 83) hx hb d_X_count_1 (ix_sw (by decide) hr) (by decide) ?_
    refine lv_iconst (v := -1) hx hb d_X_count_83 (by decide) ?_
    exact hend _ _ (XS.mk x.rs x.rv x.dp x.col x.siz x.srt x.val x.fre x.gry x.most x.fc x.gc x.us x.ob x.wh x.ph x.sw x.md x.made x.full) _ _ _ hP hS d_X_count_84 (IX.n (by decide) hr ⟨rfl, rfl⟩)
end
section
/-! the model: its invariant, what it reaches, and the rounds of goOver -/
def MI (x : MS) : Prop := (∀ i, x.kin i ≤ 2) ∧ (∀ i, x.msz i ≤ 20) ∧ x.st ≤ 50 ∧ x.cel ≤ 3000 ∧ (∀ i, x.rch i ≤ 1) ∧ x.mm ≤ 520 ∧ (∀ k, k < 10 + x.st → x.kin k = 2 → ∃ a, a < x.mm ∧ x.mv k = nI a) ∧ (∀ a, a < x.mm → ∀ i, i < x.msz a → x.kin (60 + 20 * a + i) = 2 → ∃ b, b < x.mm ∧ x.mv (60 + 20 * a + i) = nI b)
def RM (x : MS) (a : Nat) : Prop := ∀ Q : Nat → Prop, (∀ k b, k < 10 + x.st → x.kin k = 2 → b < x.mm → x.mv k = nI b → Q b) → (∀ a i b, Q a → i < x.msz a → x.kin (60 + 20 * a + i) = 2 → b < x.mm → x.mv (60 + 20 * a + i) = nI b → Q b) → Q a
theorem RM.root {x : MS} {k b : Nat} (hk : k < 10 + x.st) (ht : x.kin k = 2) (hb : b < x.mm) (he : x.mv k = nI b) : RM x b := fun _ h1 _ => h1 k b hk ht hb he
theorem RM.step {x : MS} {a i b : Nat} (h : RM x a) (hi : i < x.msz a) (ht : x.kin (60 + 20 * a + i) = 2) (hb : b < x.mm) (he : x.mv (60 + 20 * a + i) = nI b) : RM x b := fun Q h1 h2 => h2 a i b (h Q h1 h2) hi ht hb he
theorem RM.lt {x : MS} {a : Nat} (h : RM x a) : a < x.mm := h (fun a => a < x.mm) (fun _ _ _ _ hb _ => hb) (fun _ _ _ _ _ _ hb _ => hb)
def rc1 (f : Nat → Nat) (t a : Nat) : Nat → Nat := if t = 2 ∧ f a = 0 then va_up f a 1 else f
def SND (x : MS) (f : Nat → Nat) : Prop := (∀ i, f i ≤ 1) ∧ ∀ a, a < x.mm → f a = 1 → RM x a
def RT (x : MS) (f : Nat → Nat) (k : Nat) : Prop := ∀ j, j < k → x.kin j = 2 → ∀ a, a < x.mm → x.mv j = nI a → f a = 1
def C1 (x : MS) (f : Nat → Nat) (k i : Nat) : Prop := f k = 1 → ∀ j, j < i → x.kin (60 + 20 * k + j) = 2 → ∀ b, b < x.mm → x.mv (60 + 20 * k + j) = nI b → f b = 1
def ZC (x : MS) (f : Nat → Nat) : Nat := sumTo (fun a => 1 - f a) x.mm
def RE (x : MS) (f0 f : Nat → Nat) (m k i : Nat) : Prop := SND x f ∧ RT x f (10 + x.st) ∧ ((m = 0 ∧ f = f0 ∧ (∀ j, j < k → C1 x f j (x.msz j)) ∧ C1 x f k i) ∨ (m = 1 ∧ ZC x f < ZC x f0))
def RD (x : MS) (f0 f : Nat → Nat) (m k : Nat) : Prop := SND x f ∧ RT x f (10 + x.st) ∧ ((m = 0 ∧ f = f0 ∧ ∀ j, j < k → C1 x f j (x.msz j)) ∨ (m = 1 ∧ ZC x f < ZC x f0))
theorem rc1_y {f : Nat → Nat} {t a : Nat} (h : t = 2 ∧ f a = 0) : rc1 f t a = va_up f a 1 := if_pos h
theorem rc1_n {f : Nat → Nat} {t a : Nat} (h : ¬ (t = 2 ∧ f a = 0)) : rc1 f t a = f := if_neg h
theorem rc1_keep {f : Nat → Nat} {t a i : Nat} (h : f i = 1) : rc1 f t a i = 1 := by
  by_cases q : t = 2 ∧ f a = 0
  · rw [rc1_y q]
    by_cases z : i = a
    · rw [z, va_up_self]
    · rw [va_up_ne _ _ z]; exact h
  · rw [rc1_n q]; exact h
theorem rc1_hit {f : Nat → Nat} {t a : Nat} (ht : t = 2) (h1 : ∀ i, f i ≤ 1) : rc1 f t a a = 1 := by
  by_cases q : t = 2 ∧ f a = 0
  · rw [rc1_y q, va_up_self]
  · rw [rc1_n q]
    have := h1 a
    have : f a ≠ 0 := fun z => q ⟨ht, z⟩
    omega
theorem SND.rcw {x : MS} {f : Nat → Nat} {t a : Nat} (h : SND x f) (hr : t = 2 → RM x a) : SND x (rc1 f t a) := by
  by_cases q : t = 2 ∧ f a = 0
  · rw [rc1_y q]
    refine ⟨fun i => ?_, fun i hi e => ?_⟩
    · by_cases z : i = a
      · rw [z, va_up_self]; exact Nat.le_refl _
      · rw [va_up_ne _ _ z]; exact h.1 i
    · by_cases z : i = a
      · rw [z]; exact hr q.1
      · rw [va_up_ne _ _ z] at e; exact h.2 i hi e
  · rw [rc1_n q]; exact h
theorem RT.rcw {x : MS} {f : Nat → Nat} {t a k : Nat} (h : RT x f k) : RT x (rc1 f t a) k := fun j hj ht b hb he => rc1_keep (h j hj ht b hb he)
theorem RT.next {x : MS} {f : Nat → Nat} {k : Nat} (h : RT x f k) (hs : ∀ i, f i ≤ 1) (hmm : x.mm ≤ 520) : RT x (rc1 f (x.kin k) (x.mv k).toNatClampNeg) (k + 1) := fun j hj ht b hb he => by
  by_cases z : j = k
  · subst z
    rw [he, nI_clamp (by omega)]
    exact rc1_hit ht hs
  · exact rc1_keep (h j (by omega) ht b hb he)
theorem ZC.rcw {x : MS} {f : Nat → Nat} {t a : Nat} (hq : t = 2 ∧ f a = 0) (ha : a < x.mm) : ZC x (rc1 f t a) < ZC x f := by
  rw [rc1_y hq]
  refine sumTo_lt ha (fun i _ => ?_) ?_
  · by_cases z : i = a
    · rw [z, va_up_self]; omega
    · rw [va_up_ne _ _ z]; exact Nat.le_refl _
  · rw [va_up_self, hq.2]; decide
theorem RE.step {x : MS} (hx : MI x) {f0 f : Nat → Nat} {m k i : Nat} (h : RE x f0 f m k i) (hk : k < x.mm) (hi : i < x.msz k) (hf : f k = 1) : RE x f0 (rc1 f (x.kin (60 + 20 * k + i)) (x.mv (60 + 20 * k + i)).toNatClampNeg) (if x.kin (60 + 20 * k + i) = 2 ∧ f (x.mv (60 + 20 * k + i)).toNatClampNeg = 0 then 1 else m) k (i + 1) := by
  obtain ⟨h1, h2, h3⟩ := h
  have hmm := hx.2.2.2.2.2.1
  have hc : x.kin (60 + 20 * k + i) = 2 → (x.mv (60 + 20 * k + i)).toNatClampNeg < x.mm ∧ x.mv (60 + 20 * k + i) = nI (x.mv (60 + 20 * k + i)).toNatClampNeg := fun ht => by
    obtain ⟨b, hb, he⟩ := hx.2.2.2.2.2.2.2 k hk i hi ht
    rw [he, nI_clamp (by omega)]
    exact ⟨hb, rfl⟩
  have hr : x.kin (60 + 20 * k + i) = 2 → RM x (x.mv (60 + 20 * k + i)).toNatClampNeg := fun ht => (h1.2 k hk hf).step hi ht (hc ht).1 (hc ht).2
  refine ⟨h1.rcw hr, h2.rcw, ?_⟩
  by_cases q : x.kin (60 + 20 * k + i) = 2 ∧ f (x.mv (60 + 20 * k + i)).toNatClampNeg = 0
  · rw [if_pos q]
    refine Or.inr ⟨rfl, Nat.lt_of_lt_of_le (ZC.rcw q (hc q.1).1) ?_⟩
    rcases h3 with ⟨-, e, -⟩ | ⟨-, e⟩
    · rw [e]; exact Nat.le_refl _
    · exact Nat.le_of_lt e
  · rw [if_neg q, rc1_n q]
    rcases h3 with ⟨e1, e2, e3, e4⟩ | e
    · refine Or.inl ⟨e1, e2, e3, fun _ j hj ht b hb he => ?_⟩
      by_cases z : j = i
      · subst z
        have h5 : ¬ f (x.mv (60 + 20 * k + j)).toNatClampNeg = 0 := fun y => q ⟨ht, y⟩
        rw [he, nI_clamp (by omega)] at h5
        have := h1.1 b
        omega
      · exact e4 hf j (by omega) ht b hb he
    · exact Or.inr e
theorem RE.done {x : MS} {f0 f : Nat → Nat} {m k i : Nat} (h : RE x f0 f m k i) (hi : x.msz k ≤ i ∨ f k = 0) : RD x f0 f m (k + 1) := by
  obtain ⟨h1, h2, h3⟩ := h
  refine ⟨h1, h2, ?_⟩
  rcases h3 with ⟨e1, e2, e3, e4⟩ | e
  · refine Or.inl ⟨e1, e2, fun j hj => ?_⟩
    by_cases z : j = k
    · subst z
      intro hf j' hj' ht b hb he
      rcases hi with q | q
      · exact e4 hf j' (by omega) ht b hb he
      · omega
    · exact e3 j (by omega)
  · exact Or.inr e
theorem RD.re {x : MS} {f0 f : Nat → Nat} {m k : Nat} (h : RD x f0 f m k) : RE x f0 f m k 0 := by
  obtain ⟨h1, h2, h3⟩ := h
  refine ⟨h1, h2, ?_⟩
  rcases h3 with ⟨e1, e2, e3⟩ | e
  · exact Or.inl ⟨e1, e2, e3, fun _ j hj => absurd hj (Nat.not_lt_zero j)⟩
  · exact Or.inr e
theorem RD.start {x : MS} {f : Nat → Nat} (h1 : SND x f) (h2 : RT x f (10 + x.st)) : RD x f f 0 0 := ⟨h1, h2, Or.inl ⟨rfl, rfl, fun j hj => absurd hj (Nat.not_lt_zero j)⟩⟩
/-- the flags are what is reached -/
theorem reach_all {x : MS} {f : Nat → Nat} (h1 : SND x f) (h2 : RT x f (10 + x.st)) (h3 : ∀ j, j < x.mm → C1 x f j (x.msz j)) : ∀ a, a < x.mm → (f a = 1 ↔ RM x a) := by
  intro a ha
  refine ⟨h1.2 a ha, fun hr => ?_⟩
  exact (hr (fun a => a < x.mm ∧ f a = 1) (fun k b hk ht hb he => ⟨hb, h2 k hk ht b hb he⟩) (fun a i b hq hi ht hb he => ⟨hb, h3 a hq.1 hq.2 i hi ht b hb he⟩)).2
noncomputable def sM (x : MS) : Nat := sumTo (fun a => @ite Nat (RM x a) (Classical.propDecidable _) (2 + x.msz a) 0) x.mm
noncomputable def cM (x : MS) : Nat := sumTo (fun a => @ite Nat (RM x a) (Classical.propDecidable _) 1 0) x.mm
theorem sM_eq {x : MS} {f : Nat → Nat} (h : ∀ a, a < x.mm → (f a = 1 ↔ RM x a)) : sumTo (fun a => if f a = 1 then 2 + x.msz a else 0) x.mm = sM x ∧ sumTo (fun a => if f a = 1 then 1 else 0) x.mm = cM x := by
  constructor
  · refine sumTo_congr (fun i hi => ?_)
    by_cases q : f i = 1
    · rw [if_pos q, if_pos ((h i hi).mp q)]
    · rw [if_neg q, if_neg (fun z => q ((h i hi).mpr z))]
  · refine sumTo_congr (fun i hi => ?_)
    by_cases q : f i = 1
    · rw [if_pos q, if_pos ((h i hi).mp q)]
    · rw [if_neg q, if_neg (fun z => q ((h i hi).mpr z))]
theorem MI.le {x : MS} (h : MI x) {g : Nat → Nat} {k : Nat} (hk : k ≤ x.mm) (hg : ∀ i, g i ≤ 22) : sumTo g k ≤ 11440 := by
  have h1 := sumTo_le_mul (f := g) (c := 22) (n := k) (fun i _ => hg i)
  have := h.2.2.2.2.2.1
  omega
def zr (f : Nat → Nat) (k : Nat) : Nat → Nat := fun i => if i < k then 0 else f i
theorem zr_0 (f : Nat → Nat) : zr f 0 = f := by
  funext i
  exact if_neg (Nat.not_lt_zero i)
theorem zr_s (f : Nat → Nat) (k : Nat) : va_up (zr f k) k 0 = zr f (k + 1) := by
  funext i
  unfold zr
  by_cases q : i = k
  · rw [q, va_up_self, if_pos (by omega)]
  · rw [va_up_ne _ _ q]
    by_cases q2 : i < k
    · rw [if_pos q2, if_pos (show i < k + 1 by omega)]
    · rw [if_neg q2, if_neg (show ¬ i < k + 1 by omega)]
theorem zr_le {f : Nat → Nat} (h : ∀ i, f i ≤ 1) (k i : Nat) : zr f k i ≤ 1 := by
  unfold zr
  split
  · omega
  · exact h i
theorem zr_snd {x : MS} (h : MI x) : SND x (zr x.rch x.mm) := ⟨zr_le h.2.2.2.2.1 x.mm, fun a ha e => by
  unfold zr at e
  rw [if_pos ha] at e
  exact absurd e (by decide)⟩
end
section
/-! SliceHeapModel's private methods -/
set_option maxHeartbeats 4000000 in
set_option maxRecDepth 100000 in
theorem c_M_placeOf (l : Launch) (a k : Nat) : Ms l y_M_placeOf w_M_placeOf rm_M_placeOf [.int (nI a), .int (nI k)] (nI (60 + 20 * a + k)) := by
  refine r_metsi (by decide) (Nat.le_of_ble_eq_true rfl) ?_
  intro p e s m args below meth c Q ls hx hb S hend hl
  refine lv_bipush (v := nI 60) hx hb d_M_placeOf_0 (by decide) ?_
  refine lv_bipush (v := nI 20) hx hb d_M_placeOf_2 (by decide) ?_
  refine lv_iload_n hx hb d_M_placeOf_4 rfl (lv_at hl 0 rfl) ?_
  refine r_mul hx hb d_M_placeOf_5 ?_
  refine r_add hx hb d_M_placeOf_6 ?_
  refine lv_iload_n hx hb d_M_placeOf_7 rfl (lv_at hl 1 rfl) ?_
  refine r_add hx hb d_M_placeOf_8 ?_
  exact hend _ _ d_M_placeOf_9
set_option maxHeartbeats 4000000 in
set_option maxRecDepth 100000 in
theorem c_M_move (l : Launch) (E : KX) (x : MS) (i j : Nat) (hi : i < 10460) (hj : j < 10460) (hk : x.kin j ≤ 2) : Yv l E y_M_move w_M_move rm_M_move [.ref (E.ad 11), .int (nI i), .int (nI j)] x (fun x' => x' = MS.mk x.cel (va_up x.kin i (x.kin j)) (va_up x.mv i (x.mv j)) x.st x.mm x.msz x.rch x.full) := by
  refine r_metv (by decide) (Nat.le_of_ble_eq_true rfl) ?_
  intro p e s m args below meth c Q ls hx hb S hK hz hend hl hP hS
  have hts := S.2.2.2.2
  have hown := S.2.2.2.1
  refine lv_aload_n hx hb d_M_move_0 rfl (lv_at hl 0 rfl) ?_
  refine r_get hx hb hts hown hK hP 0 rfl rfl in_M 1 (by decide) kf_M_7 rfl d_M_move_1 ?_
  refine lv_iload_n hx hb d_M_move_4 rfl (lv_at hl 1 rfl) ?_
  refine lv_aload_n hx hb d_M_move_5 rfl (lv_at hl 0 rfl) ?_
  refine r_get hx hb hts hown hK hP 0 rfl rfl in_M 1 (by decide) kf_M_7 rfl d_M_move_6 ?_
  refine lv_iload_n hx hb d_M_move_9 rfl (lv_at hl 2 rfl) ?_
  refine r_bald hx hb hK hP 1 0 rfl rfl (by decide) (by omega) d_M_move_10 ?_
  refine r_bast (ws' := wMe E x.cel (va_up x.kin i (x.kin j)) x.mv x.st x.mm x.msz x.rch x.full) hx hb hK hP (wM_D hz) hS 1 0 rfl rfl (by decide) (by omega) (by omega) rfl d_M_move_11 (fun H locs hP hS => ?_)
  refine lv_aload_n hx hb d_M_move_12 rfl (lv_at hl 0 rfl) ?_
  refine r_get hx hb hts hown hK hP 0 rfl rfl in_M 2 (by decide) kf_M_13 rfl d_M_move_13 ?_
  refine lv_iload_n hx hb d_M_move_16 rfl (lv_at hl 1 rfl) ?_
  refine lv_aload_n hx hb d_M_move_17 rfl (lv_at hl 0 rfl) ?_
  refine r_get hx hb hts hown hK hP 0 rfl rfl in_M 2 (by decide) kf_M_13 rfl d_M_move_18 ?_
  refine lv_iload_n hx hb d_M_move_21 rfl (lv_at hl 2 rfl) ?_
  refine r_iald hx hb hK hP 2 1 rfl rfl (by decide) (by omega) d_M_move_22 ?_
  refine r_vast (ws' := wMe E x.cel (va_up x.kin i (x.kin j)) (va_up x.mv i (x.mv j)) x.st x.mm x.msz x.rch x.full) hx hb hK hP (wM_D hz) hS 2 1 rfl rfl (by decide) (by omega) rfl d_M_move_23 (fun H locs hP hS => ?_)
  exact hend _ _ (MS.mk x.cel (va_up x.kin i (x.kin j)) (va_up x.mv i (x.mv j)) x.st x.mm x.msz x.rch x.full) _ _ hP hS d_M_move_24 rfl
set_option maxHeartbeats 4000000 in
set_option maxRecDepth 100000 in
theorem c_M_empty (l : Launch) (E : KX) (x : MS) (i : Nat) (hi : i < 10460) : Yv l E y_M_empty w_M_empty rm_M_empty [.ref (E.ad 11), .int (nI i)] x (fun x' => x' = MS.mk x.cel (va_up x.kin i 0) (va_up x.mv i (nI 0)) x.st x.mm x.msz x.rch x.full) := by
  refine r_metv (by decide) (Nat.le_of_ble_eq_true rfl) ?_
  intro p e s m args below meth c Q ls hx hb S hK hz hend hl hP hS
  have hts := S.2.2.2.2
  have hown := S.2.2.2.1
  refine lv_aload_n hx hb d_M_empty_0 rfl (lv_at hl 0 rfl) ?_
  refine r_get hx hb hts hown hK hP 0 rfl rfl in_M 1 (by decide) kf_M_7 rfl d_M_empty_1 ?_
  refine lv_iload_n hx hb d_M_empty_4 rfl (lv_at hl 1 rfl) ?_
  refine lv_iconst (v := nI 0) hx hb d_M_empty_5 (by decide) ?_
  refine r_bast (ws' := wMe E x.cel (va_up x.kin i 0) x.mv x.st x.mm x.msz x.rch x.full) hx hb hK hP (wM_D hz) hS 1 0 rfl rfl (by decide) (by omega) (by omega) rfl d_M_empty_6 (fun H locs hP hS => ?_)
  refine lv_aload_n hx hb d_M_empty_7 rfl (lv_at hl 0 rfl) ?_
  refine r_get hx hb hts hown hK hP 0 rfl rfl in_M 2 (by decide) kf_M_13 rfl d_M_empty_8 ?_
  refine lv_iload_n hx hb d_M_empty_11 rfl (lv_at hl 1 rfl) ?_
  refine lv_iconst (v := nI 0) hx hb d_M_empty_12 (by decide) ?_
  refine r_vast (ws' := wMe E x.cel (va_up x.kin i 0) (va_up x.mv i (nI 0)) x.st x.mm x.msz x.rch x.full) hx hb hK hP (wM_D hz) hS 2 1 rfl rfl (by decide) (by omega) rfl d_M_empty_13 (fun H locs hP hS => ?_)
  exact hend _ _ (MS.mk x.cel (va_up x.kin i 0) (va_up x.mv i (nI 0)) x.st x.mm x.msz x.rch x.full) _ _ hP hS d_M_empty_14 rfl
set_option maxHeartbeats 4000000 in
set_option maxRecDepth 100000 in
theorem c_M_hasObjY (l : Launch) (E : KX) (x : MS) (j : Nat) (hj : j < 10) (h2 : x.kin j = 2) : Yi l E y_M_hasObject w_M_hasObject rm_M_hasObject [.ref (E.ad 11), .int (nI j)] x (fun r x' => r = nI 1 ∧ x' = x) := by
  refine r_metz (by decide) (Nat.le_of_ble_eq_true rfl) ?_
  intro p e s m args below meth c Q ls hx hb S hK hz hend hl hP hS
  have hts := S.2.2.2.2
  have hown := S.2.2.2.1
  refine lv_iload_n hx hb d_M_hasObject_0 rfl (lv_at hl 1 rfl) ?_
  refine r_calls S (c_M_isRegister1 l j hj) kc_M_isRegister k0_M km_M_28 kt_M_isRegister hd_M_isRegister ⟨rfl, rfl⟩ ⟨by decide, by decide⟩ rfl hl.1 rfl (Nat.le_of_ble_eq_true rfl) ⟨Nat.zero_le _, Nat.zero_le _⟩ d_M_hasObject_1 ?_
  refine r_ifeq (tgt := 21) hx hb d_M_hasObject_4 (by decide) (by omega) (fun c_4 => absurd c_4 (by omega)) (fun c_4 => ?_)
  refine lv_aload_n hx hb d_M_hasObject_7 rfl (lv_at hl 0 rfl) ?_
  refine r_get hx hb hts hown hK hP 0 rfl rfl in_M 1 (by decide) kf_M_7 rfl d_M_hasObject_8 ?_
  refine lv_iload_n hx hb d_M_hasObject_11 rfl (lv_at hl 1 rfl) ?_
  refine r_bald hx hb hK hP 1 0 rfl rfl (by decide) (by omega) d_M_hasObject_12 ?_
  refine lv_iconst (v := nI 2) hx hb d_M_hasObject_13 (by decide) ?_
  refine r_ne (tgt := 21) hx hb d_M_hasObject_14 (by decide) (by omega) (by omega) (fun c_14 => absurd c_14 (fun q => q h2)) (fun c_14 => ?_)
  refine lv_iconst (v := nI 1) hx hb d_M_hasObject_17 (by decide) ?_
  refine lv_goto (tgt := 22) hx hb d_M_hasObject_18 (by decide) ?_
  exact hend _ _ (MS.mk x.cel x.kin x.mv x.st x.mm x.msz x.rch x.full) _ _ _ (by decide) hP hS d_M_hasObject_22 ⟨rfl, rfl⟩
set_option maxHeartbeats 4000000 in
set_option maxRecDepth 100000 in
theorem c_M_hasObjN (l : Launch) (E : KX) (x : MS) (r : Int32) (ht : ∀ i, x.kin i ≤ 2) (h : NOB x.kin r) : Yi l E y_M_hasObject w_M_hasObject rm_M_hasObject [.ref (E.ad 11), .int r] x (fun r x' => r = nI 0 ∧ x' = x) := by
  rcases h with h | ⟨j, hj, rfl, h2⟩
  · refine r_metz (by decide) (Nat.le_of_ble_eq_true rfl) ?_
    intro p e s m args below meth c Q ls hx hb S hK hz hend hl hP hS
    have hts := S.2.2.2.2
    have hown := S.2.2.2.1
    refine lv_iload_n hx hb d_M_hasObject_0 rfl (lv_at hl 1 rfl) ?_
    refine r_calls S (c_M_isRegister0 l r h) kc_M_isRegister k0_M km_M_28 kt_M_isRegister hd_M_isRegister ⟨rfl, rfl⟩ ⟨by decide, by decide⟩ rfl hl.1 rfl (Nat.le_of_ble_eq_true rfl) ⟨Nat.zero_le _, Nat.zero_le _⟩ d_M_hasObject_1 ?_
    refine r_ifeq (tgt := 21) hx hb d_M_hasObject_4 (by decide) (by omega) (fun c_4 => ?_) (fun c_4 => absurd c_4 (by omega))
    refine lv_iconst (v := nI 0) hx hb d_M_hasObject_21 (by decide) ?_
    exact hend _ _ (MS.mk x.cel x.kin x.mv x.st x.mm x.msz x.rch x.full) _ _ _ (by decide) hP hS d_M_hasObject_22 ⟨rfl, rfl⟩
  · have h3 := ht j
    refine r_metz (by decide) (Nat.le_of_ble_eq_true rfl) ?_
    intro p e s m args below meth c Q ls hx hb S hK hz hend hl hP hS
    have hts := S.2.2.2.2
    have hown := S.2.2.2.1
    refine lv_iload_n hx hb d_M_hasObject_0 rfl (lv_at hl 1 rfl) ?_
    refine r_calls S (c_M_isRegister1 l j hj) kc_M_isRegister k0_M km_M_28 kt_M_isRegister hd_M_isRegister ⟨rfl, rfl⟩ ⟨by decide, by decide⟩ rfl hl.1 rfl (Nat.le_of_ble_eq_true rfl) ⟨Nat.zero_le _, Nat.zero_le _⟩ d_M_hasObject_1 ?_
    refine r_ifeq (tgt := 21) hx hb d_M_hasObject_4 (by decide) (by omega) (fun c_4 => absurd c_4 (by omega)) (fun c_4 => ?_)
    refine lv_aload_n hx hb d_M_hasObject_7 rfl (lv_at hl 0 rfl) ?_
    refine r_get hx hb hts hown hK hP 0 rfl rfl in_M 1 (by decide) kf_M_7 rfl d_M_hasObject_8 ?_
    refine lv_iload_n hx hb d_M_hasObject_11 rfl (lv_at hl 1 rfl) ?_
    refine r_bald hx hb hK hP 1 0 rfl rfl (by decide) (by omega) d_M_hasObject_12 ?_
    refine lv_iconst (v := nI 2) hx hb d_M_hasObject_13 (by decide) ?_
    refine r_ne (tgt := 21) hx hb d_M_hasObject_14 (by decide) (by omega) (by omega) (fun c_14 => ?_) (fun c_14 => absurd c_14 h2)
    refine lv_iconst (v := nI 0) hx hb d_M_hasObject_21 (by decide) ?_
    exact hend _ _ (MS.mk x.cel x.kin x.mv x.st x.mm x.msz x.rch x.full) _ _ _ (by decide) hP hS d_M_hasObject_22 ⟨rfl, rfl⟩
set_option maxHeartbeats 4000000 in
set_option maxRecDepth 100000 in
theorem c_M_reach (l : Launch) (E : KX) (x : MS) (i : Nat) (hi : i < 10460) (hk : x.kin i ≤ 2) (hv : x.kin i = 2 → ∃ a, a < 520 ∧ x.mv i = nI a) (hr : ∀ i, x.rch i ≤ 1) : Yi l E y_M_reach w_M_reach rm_M_reach [.ref (E.ad 11), .int (nI i)] x (fun r x' => r = nI (if x.kin i = 2 ∧ x.rch (x.mv i).toNatClampNeg = 0 then 1 else 0) ∧ x' = MS.mk x.cel x.kin x.mv x.st x.mm x.msz (rc1 x.rch (x.kin i) (x.mv i).toNatClampNeg) x.full) := by
  by_cases h2 : x.kin i = 2
  · obtain ⟨a, ha, he⟩ := hv h2
    have hra := hr a
    by_cases h0 : x.rch a = 0
    · refine r_metz (by decide) (Nat.le_of_ble_eq_true rfl) ?_
      intro p e s m args below meth c Q ls hx hb S hK hz hend hl hP hS
      have hts := S.2.2.2.2
      have hown := S.2.2.2.1
      refine lv_aload_n hx hb d_M_reach_0 rfl (lv_at hl 0 rfl) ?_
      refine r_get hx hb hts hown hK hP 0 rfl rfl in_M 1 (by decide) kf_M_7 rfl d_M_reach_1 ?_
      refine lv_iload_n hx hb d_M_reach_4 rfl (lv_at hl 1 rfl) ?_
      refine r_bald hx hb hK hP 1 0 rfl rfl (by decide) (by omega) d_M_reach_5 ?_
      refine lv_iconst (v := nI 2) hx hb d_M_reach_6 (by decide) ?_
      refine r_ne (tgt := 24) hx hb d_M_reach_7 (by decide) (by omega) (by omega) (fun c_7 => absurd c_7 (fun q => q h2)) (fun c_7 => ?_)
      refine lv_aload_n hx hb d_M_reach_10 rfl (lv_at hl 0 rfl) ?_
      refine r_get hx hb hts hown hK hP 0 rfl rfl in_M 6 (by decide) kf_M_20 rfl d_M_reach_11 ?_
      refine lv_aload_n hx hb d_M_reach_14 rfl (lv_at hl 0 rfl) ?_
      refine r_get hx hb hts hown hK hP 0 rfl rfl in_M 2 (by decide) kf_M_13 rfl d_M_reach_15 ?_
      refine lv_iload_n hx hb d_M_reach_18 rfl (lv_at hl 1 rfl) ?_
      refine r_iald hx hb hK hP 2 1 rfl rfl (by decide) (by omega) d_M_reach_19 ?_
      refine r_top (he) ?_
      refine r_zald hx hb hK hP 4 2 rfl rfl (by decide) (by omega) d_M_reach_20 ?_
      refine r_ifeq (tgt := 26) hx hb d_M_reach_21 (by decide) (by omega) (fun c_21 => ?_) (fun c_21 => absurd c_21 (by omega))
      refine lv_aload_n hx hb d_M_reach_26 rfl (lv_at hl 0 rfl) ?_
      refine r_get hx hb hts hown hK hP 0 rfl rfl in_M 6 (by decide) kf_M_20 rfl d_M_reach_27 ?_
      refine lv_aload_n hx hb d_M_reach_30 rfl (lv_at hl 0 rfl) ?_
      refine r_get hx hb hts hown hK hP 0 rfl rfl in_M 2 (by decide) kf_M_13 rfl d_M_reach_31 ?_
      refine lv_iload_n hx hb d_M_reach_34 rfl (lv_at hl 1 rfl) ?_
      refine r_iald hx hb hK hP 2 1 rfl rfl (by decide) (by omega) d_M_reach_35 ?_
      refine r_top (he) ?_
      refine lv_iconst (v := nI 1) hx hb d_M_reach_36 (by decide) ?_
      refine r_zast (ws' := wMe E x.cel x.kin x.mv x.st x.mm x.msz (va_up x.rch a 1) x.full) hx hb hK hP (wM_D hz) hS 4 2 rfl rfl (by decide) (by omega) (by omega) rfl d_M_reach_37 (fun H locs hP hS => ?_)
      refine lv_iconst (v := nI 1) hx hb d_M_reach_38 (by decide) ?_
      exact hend _ _ (MS.mk x.cel x.kin x.mv x.st x.mm x.msz (va_up x.rch a 1) x.full) _ _ _ (by decide) hP hS d_M_reach_39 ⟨by rw [he, nI_clamp (by omega), if_pos ⟨h2, h0⟩], by rw [he, nI_clamp (by omega), rc1_y ⟨h2, h0⟩]⟩
    · refine r_metz (by decide) (Nat.le_of_ble_eq_true rfl) ?_
      intro p e s m args below meth c Q ls hx hb S hK hz hend hl hP hS
      have hts := S.2.2.2.2
      have hown := S.2.2.2.1
      refine lv_aload_n hx hb d_M_reach_0 rfl (lv_at hl 0 rfl) ?_
      refine r_get hx hb hts hown hK hP 0 rfl rfl in_M 1 (by decide) kf_M_7 rfl d_M_reach_1 ?_
      refine lv_iload_n hx hb d_M_reach_4 rfl (lv_at hl 1 rfl) ?_
      refine r_bald hx hb hK hP 1 0 rfl rfl (by decide) (by omega) d_M_reach_5 ?_
      refine lv_iconst (v := nI 2) hx hb d_M_reach_6 (by decide) ?_
      refine r_ne (tgt := 24) hx hb d_M_reach_7 (by decide) (by omega) (by omega) (fun c_7 => absurd c_7 (fun q => q h2)) (fun c_7 => ?_)
      refine lv_aload_n hx hb d_M_reach_10 rfl (lv_at hl 0 rfl) ?_
      refine r_get hx hb hts hown hK hP 0 rfl rfl in_M 6 (by decide) kf_M_20 rfl d_M_reach_11 ?_
      refine lv_aload_n hx hb d_M_reach_14 rfl (lv_at hl 0 rfl) ?_
      refine r_get hx hb hts hown hK hP 0 rfl rfl in_M 2 (by decide) kf_M_13 rfl d_M_reach_15 ?_
      refine lv_iload_n hx hb d_M_reach_18 rfl (lv_at hl 1 rfl) ?_
      refine r_iald hx hb hK hP 2 1 rfl rfl (by decide) (by omega) d_M_reach_19 ?_
      refine r_top (he) ?_
      refine r_zald hx hb hK hP 4 2 rfl rfl (by decide) (by omega) d_M_reach_20 ?_
      refine r_ifeq (tgt := 26) hx hb d_M_reach_21 (by decide) (by omega) (fun c_21 => absurd c_21 (by omega)) (fun c_21 => ?_)
      refine lv_iconst (v := nI 0) hx hb d_M_reach_24 (by decide) ?_
      exact hend _ _ (MS.mk x.cel x.kin x.mv x.st x.mm x.msz x.rch x.full) _ _ _ (by decide) hP hS d_M_reach_25 ⟨by rw [he, nI_clamp (by omega), if_neg (fun q => h0 q.2)], by rw [he, nI_clamp (by omega), rc1_n (fun q => h0 q.2)]⟩
  · refine r_metz (by decide) (Nat.le_of_ble_eq_true rfl) ?_
    intro p e s m args below meth c Q ls hx hb S hK hz hend hl hP hS
    have hts := S.2.2.2.2
    have hown := S.2.2.2.1
    refine lv_aload_n hx hb d_M_reach_0 rfl (lv_at hl 0 rfl) ?_
    refine r_get hx hb hts hown hK hP 0 rfl rfl in_M 1 (by decide) kf_M_7 rfl d_M_reach_1 ?_
    refine lv_iload_n hx hb d_M_reach_4 rfl (lv_at hl 1 rfl) ?_
    refine r_bald hx hb hK hP 1 0 rfl rfl (by decide) (by omega) d_M_reach_5 ?_
    refine lv_iconst (v := nI 2) hx hb d_M_reach_6 (by decide) ?_
    refine r_ne (tgt := 24) hx hb d_M_reach_7 (by decide) (by omega) (by omega) (fun c_7 => ?_) (fun c_7 => absurd c_7 h2)
    refine lv_iconst (v := nI 0) hx hb d_M_reach_24 (by decide) ?_
    exact hend _ _ (MS.mk x.cel x.kin x.mv x.st x.mm x.msz x.rch x.full) _ _ _ (by decide) hP hS d_M_reach_25 ⟨by rw [if_neg (fun q => h2 q.1)], by rw [rc1_n (fun q => h2 q.1)]⟩
end
section
set_option maxHeartbeats 4000000 in
set_option maxRecDepth 100000 in
theorem c_M_goOver (l : Launch) (E : KX) (x : MS)  (h : MI x) : Yv l E y_M_goOver w_M_goOver rm_M_goOver [.ref (E.ad 11)] x (fun x' => ∃ f : Nat → Nat, (∀ i, f i ≤ 1) ∧ (∀ a, a < x.mm → (f a = 1 ↔ RM x a)) ∧ x' = MS.mk x.cel x.kin x.mv x.st x.mm x.msz f x.full) := by
  refine r_metv (by decide) (Nat.le_of_ble_eq_true rfl) ?_
  intro p e s m args below meth c Q ls hx hb S hK hz hend hl hP hS
  have hts := S.2.2.2.2
  have hown := S.2.2.2.1
  have hmm := h.2.2.2.2.2.1
  have hkin := h.1
  have hmsz := h.2.1
  have loopC : ∀ (n : Nat), ∀ (f : Nat → Nat) (mo : Nat), SND x f → RT x f (10 + x.st) → (mo = 1 ∧ ZC x f < n ∨ mo = 0 ∧ ∀ j, j < x.mm → C1 x f j (x.msz j)) → ∀ (H : Heap) (locs : List Loc) (ls : Array Slot), va_P E.D classes (wMe E x.cel x.kin x.mv x.st x.mm x.msz f x.full) H → va_S (AM E) s.heap H locs → lv_has ls 4 [(0, .ref (E.ad 11)), (1, .int (nI mo))] → W p l e rm_M_goOver s m args below meth c H locs 0 0 Q (F0 m 50 ls []) := by
    intro n
    induction n with
    | zero =>
      intro f mo hs hrt hor H locs ls hP hS hl
      have hm0 : mo = 0 := by omega
      subst hm0
      have hcl := hor.elim (fun q => absurd q.1 (by decide)) (fun q => q.2)
      refine lv_iload_n hx hb d_M_goOver_50 rfl (lv_at hl 1 rfl) ?_
      refine r_ifeq (tgt := 124) hx hb d_M_goOver_51 (by decide) (by omega) (fun c_51 => ?_) (fun c_51 => absurd c_51 (by omega))
      exact hend _ _ (MS.mk x.cel x.kin x.mv x.st x.mm x.msz f x.full) _ _ hP hS d_M_goOver_124 ⟨f, hs.1, reach_all hs hrt hcl, rfl⟩
    | succ n ihC =>
      intro f0 mo hs hrt hor H locs ls hP hS hl
      rcases Nat.eq_zero_or_pos mo with hm0 | hm1
      · subst hm0
        have hcl := hor.elim (fun q => absurd q.1 (by decide)) (fun q => q.2)
        refine lv_iload_n hx hb d_M_goOver_50 rfl (lv_at hl 1 rfl) ?_
        refine r_ifeq (tgt := 124) hx hb d_M_goOver_51 (by decide) (by omega) (fun c_51 => ?_) (fun c_51 => absurd c_51 (by omega))
        exact hend _ _ (MS.mk x.cel x.kin x.mv x.st x.mm x.msz f0 x.full) _ _ hP hS d_M_goOver_124 ⟨f0, hs.1, reach_all hs hrt hcl, rfl⟩
      · have hm1 : mo = 1 := by omega
        have hzc : ZC x f0 < n + 1 := by omega
        subst hm1
        have loopD : ∀ (d k : Nat), d + k = x.mm → ∀ (f : Nat → Nat) (mr : Nat), RD x f0 f mr k → ∀ (H : Heap) (locs : List Loc) (ls : Array Slot), va_P E.D classes (wMe E x.cel x.kin x.mv x.st x.mm x.msz f x.full) H → va_S (AM E) s.heap H locs → lv_has ls 4 [(0, .ref (E.ad 11)), (1, .int (nI mr)), (2, .int (nI k))] → W p l e rm_M_goOver s m args below meth c H locs 0 0 Q (F0 m 58 ls []) := by
          intro d
          induction d with
          | zero =>
            intro k hk f mr hrd H locs ls hP hS hl
            have hk : k = x.mm := by omega
            subst hk
            refine lv_iload_n hx hb d_M_goOver_58 rfl (lv_at hl 2 rfl) ?_
            refine lv_aload_n hx hb d_M_goOver_59 rfl (lv_at hl 0 rfl) ?_
            refine r_get hx hb hts hown hK hP 0 rfl rfl in_M 4 (by decide) kf_M_32 rfl d_M_goOver_60 ?_
            refine r_ge (tgt := 121) hx hb d_M_goOver_63 (by decide) (by omega) (by omega) (fun c_63 => ?_) (fun c_63 => absurd c_63 (by omega))
            refine lv_goto (tgt := 50) hx hb d_M_goOver_121 (by decide) ?_
            exact ihC f mr hrd.1 hrd.2.1 (hrd.2.2.elim (fun q => Or.inr ⟨q.1, q.2.2⟩) (fun q => Or.inl ⟨q.1, by omega⟩)) _ _ _ hP hS (lv_sub hl [0, 1] rfl)
          | succ d ihD =>
            intro k hk f mr hrd H locs ls hP hS hl
            have loopE : ∀ (d2 i : Nat), 20 < d2 + i → i ≤ 20 → ∀ (f : Nat → Nat) (mr : Nat), RE x f0 f mr k i → ∀ (H : Heap) (locs : List Loc) (ls : Array Slot), va_P E.D classes (wMe E x.cel x.kin x.mv x.st x.mm x.msz f x.full) H → va_S (AM E) s.heap H locs → lv_has ls 4 [(0, .ref (E.ad 11)), (1, .int (nI mr)), (2, .int (nI k)), (3, .int (nI i))] → W p l e rm_M_goOver s m args below meth c H locs 0 0 Q (F0 m 68 ls []) := by
              intro d2
              induction d2 with
              | zero => intro i h1 h2; exact absurd h1 (by omega)
              | succ d2 ihE =>
                intro i hd2 hi20 f mr hre H locs ls hP hS hl
                have hk20 := hmsz k
                have hf1 := hre.1.1 k
                have hmr : mr ≤ 1 := by
                  rcases hre.2.2 with q | q
                  · omega
                  · omega
                refine lv_iload_n hx hb d_M_goOver_68 rfl (lv_at hl 3 rfl) ?_
                refine lv_aload_n hx hb d_M_goOver_69 rfl (lv_at hl 0 rfl) ?_
                refine r_get hx hb hts hown hK hP 0 rfl rfl in_M 5 (by decide) kf_M_17 rfl d_M_goOver_70 ?_
                refine lv_iload_n hx hb d_M_goOver_73 rfl (lv_at hl 2 rfl) ?_
                refine r_iald hx hb hK hP 3 1 rfl rfl (by decide) (by omega) d_M_goOver_74 ?_
                refine r_ge (tgt := 115) hx hb d_M_goOver_75 (by decide) (by omega) (by omega) (fun c_75 => ?_) (fun c_75 => ?_)
                · have hdn := hre.done (Or.inl c_75)
                  refine r_inc hx hb d_M_goOver_115 hl 2 rfl (by decide) rfl (fun ls hl => ?_)
                  refine lv_goto (tgt := 58) hx hb d_M_goOver_118 (by decide) ?_
                  exact ihD (k + 1) (by omega) f mr hdn _ _ _ hP hS (lv_sub hl [1, 2, 0] rfl)
                · refine lv_aload_n hx hb d_M_goOver_78 rfl (lv_at hl 0 rfl) ?_
                  refine r_get hx hb hts hown hK hP 0 rfl rfl in_M 6 (by decide) kf_M_20 rfl d_M_goOver_79 ?_
                  refine lv_iload_n hx hb d_M_goOver_82 rfl (lv_at hl 2 rfl) ?_
                  refine r_zald hx hb hK hP 4 2 rfl rfl (by decide) (by omega) d_M_goOver_83 ?_
                  refine r_ifeq (tgt := 115) hx hb d_M_goOver_84 (by decide) (by omega) (fun c_84 => ?_) (fun c_84 => ?_)
                  · have hdn := hre.done (Or.inr c_84)
                    refine r_inc hx hb d_M_goOver_115 hl 2 rfl (by decide) rfl (fun ls hl => ?_)
                    refine lv_goto (tgt := 58) hx hb d_M_goOver_118 (by decide) ?_
                    exact ihD (k + 1) (by omega) f mr hdn _ _ _ hP hS (lv_sub hl [1, 2, 0] rfl)
                  · refine lv_aload_n hx hb d_M_goOver_87 rfl (lv_at hl 0 rfl) ?_
                    refine lv_iload_n hx hb d_M_goOver_88 rfl (lv_at hl 2 rfl) ?_
                    refine lv_iload_n hx hb d_M_goOver_89 rfl (lv_at hl 3 rfl) ?_
                    refine r_calls S (c_M_placeOf l k i) kc_M_placeOf k0_M km_M_41 kt_M_placeOf hd_M_placeOf ⟨rfl, rfl⟩ ⟨by decide, by decide⟩ rfl hl.1 rfl (Nat.le_of_ble_eq_true rfl) ⟨Nat.zero_le _, Nat.zero_le _⟩ d_M_goOver_90 ?_
                    have hst := hre.step h (by omega) c_75 (by omega)
                    have hkp := hkin (60 + 20 * k + i)
                    refine r_calli S (c_M_reach l E (MS.mk x.cel x.kin x.mv x.st x.mm x.msz f x.full) (60 + 20 * k + i) (by omega) hkp (fun ht => by obtain ⟨b, hb1, hb2⟩ := h.2.2.2.2.2.2.2 k (by omega) i c_75 ht; exact ⟨b, by omega, hb2⟩) hre.1.1) kc_M_reach k0_M km_M_38 ki_M_reach ks_M_reach hd_M_reach ⟨rfl, rfl⟩ ⟨by decide, by decide⟩ (zM_ok E) hz hK hP hS (fun _ h => h) 0 rfl rfl rfl hl.1 rfl (Nat.le_of_ble_eq_true rfl) ⟨Nat.zero_le _, Nat.zero_le _⟩ d_M_goOver_93 (fun q1 x1 H locs hw hP _ _ hS => ?_)
                    obtain ⟨hq1, hx1⟩ := hw
                    have hq1 : q1 = nI (if x.kin (60 + 20 * k + i) = 2 ∧ f (x.mv (60 + 20 * k + i)).toNatClampNeg = 0 then 1 else 0) := hq1
                    have hx1 : x1 = MS.mk x.cel x.kin x.mv x.st x.mm x.msz (rc1 f (x.kin (60 + 20 * k + i)) (x.mv (60 + 20 * k + i)).toNatClampNeg) x.full := hx1
                    rw [hx1] at hP
                    subst hq1
                    by_cases hcd : x.kin (60 + 20 * k + i) = 2 ∧ f (x.mv (60 + 20 * k + i)).toNatClampNeg = 0
                    · rw [if_pos hcd]
                      rw [if_pos hcd] at hst
                      have hP : va_P E.D classes (wMe E x.cel x.kin x.mv x.st x.mm x.msz (rc1 f (x.kin (60 + 20 * k + i)) (x.mv (60 + 20 * k + i)).toNatClampNeg) x.full) H := hP
                      refine r_ifne (tgt := 103) hx hb d_M_goOver_96 (by decide) (by omega) (fun c_96 => ?_) (fun c_96 => absurd c_96 (by decide))
                      refine lv_iconst (v := nI 1) hx hb d_M_goOver_103 (by decide) ?_
                      refine lv_goto (tgt := 108) hx hb d_M_goOver_104 (by decide) ?_
                      refine lv_istore_n hx hb d_M_goOver_108 rfl hl (by decide) rfl (fun ls hl => ?_)
                      refine r_inc hx hb d_M_goOver_109 hl 3 rfl (by decide) rfl (fun ls hl => ?_)
                      refine lv_goto (tgt := 68) hx hb d_M_goOver_112 (by decide) ?_
                      exact ihE (i + 1) (by omega) (by omega) _ 1 hst _ _ _ hP hS (lv_sub hl [2, 1, 3, 0] rfl)
                    · rw [if_neg hcd]
                      rw [if_neg hcd] at hst
                      have hP : va_P E.D classes (wMe E x.cel x.kin x.mv x.st x.mm x.msz (rc1 f (x.kin (60 + 20 * k + i)) (x.mv (60 + 20 * k + i)).toNatClampNeg) x.full) H := hP
                      refine r_ifne (tgt := 103) hx hb d_M_goOver_96 (by decide) (by omega) (fun c_96 => absurd c_96 (by decide)) (fun c_96 => ?_)
                      refine lv_iload_n hx hb d_M_goOver_99 rfl (lv_at hl 1 rfl) ?_
                      refine r_ifeq (tgt := 107) hx hb d_M_goOver_100 (by decide) (by omega) (fun c_100 => ?_) (fun c_100 => ?_)
                      · refine lv_iconst (v := nI 0) hx hb d_M_goOver_107 (by decide) ?_
                        refine r_top (show nI 0 = nI mr by rw [c_100]) ?_
                        refine lv_istore_n hx hb d_M_goOver_108 rfl hl (by decide) rfl (fun ls hl => ?_)
                        refine r_inc hx hb d_M_goOver_109 hl 3 rfl (by decide) rfl (fun ls hl => ?_)
                        refine lv_goto (tgt := 68) hx hb d_M_goOver_112 (by decide) ?_
                        exact ihE (i + 1) (by omega) (by omega) _ mr hst _ _ _ hP hS (lv_sub hl [2, 1, 3, 0] rfl)
                      · refine lv_iconst (v := nI 1) hx hb d_M_goOver_103 (by decide) ?_
                        refine r_top (show nI 1 = nI mr by rw [show mr = 1 by omega]) ?_
                        refine lv_goto (tgt := 108) hx hb d_M_goOver_104 (by decide) ?_
                        refine lv_istore_n hx hb d_M_goOver_108 rfl hl (by decide) rfl (fun ls hl => ?_)
                        refine r_inc hx hb d_M_goOver_109 hl 3 rfl (by decide) rfl (fun ls hl => ?_)
                        refine lv_goto (tgt := 68) hx hb d_M_goOver_112 (by decide) ?_
                        exact ihE (i + 1) (by omega) (by omega) _ mr hst _ _ _ hP hS (lv_sub hl [2, 1, 3, 0] rfl)
            refine lv_iload_n hx hb d_M_goOver_58 rfl (lv_at hl 2 rfl) ?_
            refine lv_aload_n hx hb d_M_goOver_59 rfl (lv_at hl 0 rfl) ?_
            refine r_get hx hb hts hown hK hP 0 rfl rfl in_M 4 (by decide) kf_M_32 rfl d_M_goOver_60 ?_
            refine r_ge (tgt := 121) hx hb d_M_goOver_63 (by decide) (by omega) (by omega) (fun c_63 => absurd c_63 (by omega)) (fun c_63 => ?_)
            refine lv_iconst (v := nI 0) hx hb d_M_goOver_66 (by decide) ?_
            refine lv_istore_n hx hb d_M_goOver_67 rfl hl (by decide) rfl (fun ls hl => ?_)
            exact loopE 21 0 (by omega) (by omega) f mr hrd.re _ _ _ hP hS (lv_sub hl [1, 2, 3, 0] rfl)
        refine lv_iload_n hx hb d_M_goOver_50 rfl (lv_at hl 1 rfl) ?_
        refine r_ifeq (tgt := 124) hx hb d_M_goOver_51 (by decide) (by omega) (fun c_51 => absurd c_51 (by omega)) (fun c_51 => ?_)
        refine lv_iconst (v := nI 0) hx hb d_M_goOver_54 (by decide) ?_
        refine lv_istore_n hx hb d_M_goOver_55 rfl hl (by decide) rfl (fun ls hl => ?_)
        refine lv_iconst (v := nI 0) hx hb d_M_goOver_56 (by decide) ?_
        refine lv_istore_n hx hb d_M_goOver_57 rfl hl (by decide) rfl (fun ls hl => ?_)
        exact loopD x.mm 0 (by omega) f0 0 (RD.start hs hrt) _ _ _ hP hS (lv_sub hl [2, 1, 0] rfl)
  have loopB : ∀ (n k : Nat), n + k = 10 + x.st → ∀ (f : Nat → Nat), SND x f → RT x f k → ∀ (H : Heap) (locs : List Loc) (ls : Array Slot), va_P E.D classes (wMe E x.cel x.kin x.mv x.st x.mm x.msz f x.full) H → va_S (AM E) s.heap H locs → lv_has ls 4 [(0, .ref (E.ad 11)), (1, .int (nI k))] → W p l e rm_M_goOver s m args below meth c H locs 0 0 Q (F0 m 25 ls []) := by
    have hst := h.2.2.1
    intro n
    induction n with
    | zero =>
      intro k hk f hs hrt H locs ls hP hS hl
      have hk : k = 10 + x.st := by omega
      subst hk
      refine lv_iload_n hx hb d_M_goOver_25 rfl (lv_at hl 1 rfl) ?_
      refine lv_bipush (v := nI 10) hx hb d_M_goOver_26 (by decide) ?_
      refine lv_aload_n hx hb d_M_goOver_28 rfl (lv_at hl 0 rfl) ?_
      refine r_get hx hb hts hown hK hP 0 rfl rfl in_M 3 (by decide) kf_M_35 rfl d_M_goOver_29 ?_
      refine r_add hx hb d_M_goOver_32 ?_
      refine r_ge (tgt := 48) hx hb d_M_goOver_33 (by decide) (by omega) (by omega) (fun c_33 => ?_) (fun c_33 => absurd c_33 (by omega))
      refine lv_iconst (v := nI 1) hx hb d_M_goOver_48 (by decide) ?_
      refine lv_istore_n hx hb d_M_goOver_49 rfl hl (by decide) rfl (fun ls hl => ?_)
      exact loopC _ f 1 hs hrt (Or.inl ⟨rfl, Nat.lt_succ_self _⟩) _ _ _ hP hS (lv_sub hl [1, 0] rfl)
    | succ n ih =>
      intro k hk f hs hrt H locs ls hP hS hl
      refine lv_iload_n hx hb d_M_goOver_25 rfl (lv_at hl 1 rfl) ?_
      refine lv_bipush (v := nI 10) hx hb d_M_goOver_26 (by decide) ?_
      refine lv_aload_n hx hb d_M_goOver_28 rfl (lv_at hl 0 rfl) ?_
      refine r_get hx hb hts hown hK hP 0 rfl rfl in_M 3 (by decide) kf_M_35 rfl d_M_goOver_29 ?_
      refine r_add hx hb d_M_goOver_32 ?_
      refine r_ge (tgt := 48) hx hb d_M_goOver_33 (by decide) (by omega) (by omega) (fun c_33 => absurd c_33 (by omega)) (fun c_33 => ?_)
      refine lv_aload_n hx hb d_M_goOver_36 rfl (lv_at hl 0 rfl) ?_
      refine lv_iload_n hx hb d_M_goOver_37 rfl (lv_at hl 1 rfl) ?_
      have hro := h.2.2.2.2.2.2.1 k (by omega)
      refine r_calli S (c_M_reach l E (MS.mk x.cel x.kin x.mv x.st x.mm x.msz f x.full) k (by omega) (hkin k) (fun ht => by obtain ⟨b, hb1, hb2⟩ := hro ht; exact ⟨b, by omega, hb2⟩) hs.1) kc_M_reach k0_M km_M_38 ki_M_reach ks_M_reach hd_M_reach ⟨rfl, rfl⟩ ⟨by decide, by decide⟩ (zM_ok E) hz hK hP hS (fun _ h => h) 0 rfl rfl rfl hl.1 rfl (Nat.le_of_ble_eq_true rfl) ⟨Nat.zero_le _, Nat.zero_le _⟩ d_M_goOver_38 (fun q1 x1 H locs hw hP _ _ hS => ?_)
      have hx1 : x1 = MS.mk x.cel x.kin x.mv x.st x.mm x.msz (rc1 f (x.kin k) (x.mv k).toNatClampNeg) x.full := hw.2
      rw [hx1] at hP
      have hP : va_P E.D classes (wMe E x.cel x.kin x.mv x.st x.mm x.msz (rc1 f (x.kin k) (x.mv k).toNatClampNeg) x.full) H := hP
      refine lv_pop hx hb d_M_goOver_41 rfl ?_
      refine r_inc hx hb d_M_goOver_42 hl 1 rfl (by decide) rfl (fun ls hl => ?_)
      refine lv_goto (tgt := 25) hx hb d_M_goOver_45 (by decide) ?_
      exact ih (k + 1) (by omega) _ (hs.rcw (fun ht => by
        obtain ⟨b, hb1, hb2⟩ := hro ht
        rw [hb2, nI_clamp (by omega)]
        exact RM.root (by omega) ht hb1 hb2)) (hrt.next hs.1 hmm) _ _ _ hP hS (lv_sub hl [1, 0] rfl)
  have loopA : ∀ (n k : Nat), n + k = x.mm → ∀ (H : Heap) (locs : List Loc) (ls : Array Slot), va_P E.D classes (wMe E x.cel x.kin x.mv x.st x.mm x.msz (zr x.rch k) x.full) H → va_S (AM E) s.heap H locs → lv_has ls 4 [(0, .ref (E.ad 11)), (1, .int (nI k))] → W p l e rm_M_goOver s m args below meth c H locs 0 0 Q (F0 m 2 ls []) := by
    intro n
    induction n with
    | zero =>
      intro k hk H locs ls hP hS hl
      have hk : k = x.mm := by omega
      subst hk
      refine lv_iload_n hx hb d_M_goOver_2 rfl (lv_at hl 1 rfl) ?_
      refine lv_aload_n hx hb d_M_goOver_3 rfl (lv_at hl 0 rfl) ?_
      refine r_get hx hb hts hown hK hP 0 rfl rfl in_M 4 (by decide) kf_M_32 rfl d_M_goOver_4 ?_
      refine r_ge (tgt := 23) hx hb d_M_goOver_7 (by decide) (by omega) (by omega) (fun c_7 => ?_) (fun c_7 => absurd c_7 (by omega))
      refine lv_iconst (v := nI 0) hx hb d_M_goOver_23 (by decide) ?_
      refine lv_istore_n hx hb d_M_goOver_24 rfl hl (by decide) rfl (fun ls hl => ?_)
      exact loopB (10 + x.st) 0 (by omega) _ (zr_snd h) (fun j hj => absurd hj (Nat.not_lt_zero j)) _ _ _ hP hS (lv_sub hl [1, 0] rfl)
    | succ n ih =>
      intro k hk H locs ls hP hS hl
      refine lv_iload_n hx hb d_M_goOver_2 rfl (lv_at hl 1 rfl) ?_
      refine lv_aload_n hx hb d_M_goOver_3 rfl (lv_at hl 0 rfl) ?_
      refine r_get hx hb hts hown hK hP 0 rfl rfl in_M 4 (by decide) kf_M_32 rfl d_M_goOver_4 ?_
      refine r_ge (tgt := 23) hx hb d_M_goOver_7 (by decide) (by omega) (by omega) (fun c_7 => absurd c_7 (by omega)) (fun c_7 => ?_)
      refine lv_aload_n hx hb d_M_goOver_10 rfl (lv_at hl 0 rfl) ?_
      refine r_get hx hb hts hown hK hP 0 rfl rfl in_M 6 (by decide) kf_M_20 rfl d_M_goOver_11 ?_
      refine lv_iload_n hx hb d_M_goOver_14 rfl (lv_at hl 1 rfl) ?_
      refine lv_iconst (v := nI 0) hx hb d_M_goOver_15 (by decide) ?_
      refine r_zast (ws' := wMe E x.cel x.kin x.mv x.st x.mm x.msz (va_up (zr x.rch k) k 0) x.full) hx hb hK hP (wM_D hz) hS 4 2 rfl rfl (by decide) (by omega) (by omega) rfl d_M_goOver_16 (fun H locs hP hS => ?_)
      refine r_inc hx hb d_M_goOver_17 hl 1 rfl (by decide) rfl (fun ls hl => ?_)
      refine lv_goto (tgt := 2) hx hb d_M_goOver_20 (by decide) ?_
      rw [zr_s] at hP
      exact ih (k + 1) (by omega) _ _ _ hP hS (lv_sub hl [1, 0] rfl)
  refine lv_iconst (v := nI 0) hx hb d_M_goOver_0 (by decide) ?_
  refine lv_istore_n hx hb d_M_goOver_1 rfl hl (by decide) rfl (fun ls hl => ?_)
  exact loopA x.mm 0 (by omega) _ _ _ (by rw [zr_0]; exact hP) hS (lv_sub hl [1, 0] rfl)
end
section
/-! SliceHeapModel: reachable, hasRoom, and the public methods -/
def sF (f msz : Nat → Nat) (k : Nat) : Nat := sumTo (fun a => if f a = 1 then 2 + msz a else 0) k
def cF (f : Nat → Nat) (k : Nat) : Nat := sumTo (fun a => if f a = 1 then 1 else 0) k
theorem sF_1 {f msz : Nat → Nat} {k : Nat} (h : f k = 1) : sF f msz (k + 1) = sF f msz k + 2 + msz k := by
  unfold sF
  simp only [sumTo, if_pos h]
  omega
theorem sF_0 {f msz : Nat → Nat} {k : Nat} (h : f k ≠ 1) : sF f msz (k + 1) = sF f msz k := by
  unfold sF
  simp only [sumTo, if_neg h]
  omega
theorem cF_1 {f : Nat → Nat} {k : Nat} (h : f k = 1) : cF f (k + 1) = cF f k + 1 := by
  unfold cF
  simp only [sumTo, if_pos h]
theorem cF_0 {f : Nat → Nat} {k : Nat} (h : f k ≠ 1) : cF f (k + 1) = cF f k := by
  unfold cF
  simp only [sumTo, if_neg h]
  omega
theorem MI.sM_le {x : MS} (h : MI x) : sM x ≤ 11440 := h.le (Nat.le_refl _) (fun i => by
  have := h.2.1 i
  split <;> omega)
def fillM {α : Type} (f : Nat → α) (a k : Nat) (c : α) : Nat → α := fun i => if 60 + 20 * a ≤ i ∧ i < 60 + 20 * a + k then c else f i
theorem fillM_0 {α : Type} (f : Nat → α) (a : Nat) (c : α) : fillM f a 0 c = f := by
  funext i
  unfold fillM
  rw [if_neg (by omega)]
theorem fillM_s {α : Type} (f : Nat → α) (a k : Nat) (c : α) : va_up (fillM f a k c) (60 + 20 * a + k) c = fillM f a (k + 1) c := by
  funext i
  by_cases q : i = 60 + 20 * a + k
  · rw [q, va_up_self]
    unfold fillM
    rw [if_pos (by omega)]
  · rw [va_up_ne _ _ q]
    unfold fillM
    by_cases q2 : 60 + 20 * a ≤ i ∧ i < 60 + 20 * a + k
    · rw [if_pos q2, if_pos (by omega)]
    · rw [if_neg q2, if_neg (by omega)]
theorem fillM_lo {α : Type} {f : Nat → α} {a k i : Nat} {c : α} (h : i < 60) : fillM f a k c i = f i := if_neg (by omega)
theorem fillM_in {α : Type} {f : Nat → α} {a k j : Nat} {c : α} (hj : j < k) : fillM f a k c (60 + 20 * a + j) = c := if_pos (by omega)
theorem fillM_out {α : Type} {f : Nat → α} {a k : Nat} {c : α} (hk : k ≤ 20) {s j : Nat} (hs : s ≠ a) (hj : j < 20) : fillM f a k c (60 + 20 * s + j) = f (60 + 20 * s + j) := if_neg (by omega)
def newM (x : MS) (f : Nat → Nat) (n a b : Nat) : MS := MS.mk x.cel (va_up (fillM x.kin x.mm n (x.kin b)) a 2) (va_up (fillM x.mv x.mm n (x.mv b)) a (nI x.mm)) x.st (x.mm + 1) (va_up x.msz x.mm n) f x.full
theorem ix_ne {u : Int32} {n m : Nat} (hn : n < 2 ^ 31) (hm : m < n) (h : u < 0 ∨ nI n ≤ u) : u ≠ nI m := fun e => ix_no hn hm (by rw [← e]; exact h)
theorem MI.ro {x : MS} (h : MI x) : ∀ k, k < 10 → x.kin k = 2 → ∃ v, v < x.mm ∧ x.mv k = nI v := fun k hk h2 => h.2.2.2.2.2.2.1 k (by omega) h2
set_option maxHeartbeats 4000000 in
set_option maxRecDepth 100000 in
theorem c_M_reachable (l : Launch) (E : KX) (x : MS)  (h : MI x) : Yi l E y_M_reachable w_M_reachable rm_M_reachable [.ref (E.ad 11)] x (fun q x' => q = nI (sM x) ∧ ∃ f : Nat → Nat, (∀ i, f i ≤ 1) ∧ (∀ a, a < x.mm → (f a = 1 ↔ RM x a)) ∧ x' = MS.mk x.cel x.kin x.mv x.st x.mm x.msz f x.full) := by
  refine r_meti (by decide) (Nat.le_of_ble_eq_true rfl) ?_
  intro p e s m args below meth c Q ls hx hb S hK hz hend hl hP hS
  have hts := S.2.2.2.2
  have hown := S.2.2.2.1
  have hmm := h.2.2.2.2.2.1
  have loop : ∀ (f : Nat → Nat), (∀ i, f i ≤ 1) → (∀ a, a < x.mm → (f a = 1 ↔ RM x a)) → ∀ (n k : Nat), n + k = x.mm → ∀ (H : Heap) (locs : List Loc) (ls : Array Slot), va_P E.D classes (wMe E x.cel x.kin x.mv x.st x.mm x.msz f x.full) H → va_S (AM E) s.heap H locs → lv_has ls 3 [(0, .ref (E.ad 11)), (1, .int (nI (sF f x.msz k))), (2, .int (nI k))] → W p l e rm_M_reachable s m args below meth c H locs 0 0 Q (F0 m 8 ls []) := by
    intro f hf1 hf2 n
    induction n with
    | zero =>
      intro k hk H locs ls hP hS hl
      have hk : k = x.mm := by omega
      subst hk
      refine lv_iload_n hx hb d_M_reachable_8 rfl (lv_at hl 2 rfl) ?_
      refine lv_aload_n hx hb d_M_reachable_9 rfl (lv_at hl 0 rfl) ?_
      refine r_get hx hb hts hown hK hP 0 rfl rfl in_M 4 (by decide) kf_M_32 rfl d_M_reachable_10 ?_
      refine r_ge (tgt := 46) hx hb d_M_reachable_13 (by decide) (by omega) (by omega) (fun c_13 => ?_) (fun c_13 => absurd c_13 (by omega))
      refine lv_iload_n hx hb d_M_reachable_46 rfl (lv_at hl 1 rfl) ?_
      exact hend _ _ (MS.mk x.cel x.kin x.mv x.st x.mm x.msz f x.full) _ _ _ hP hS d_M_reachable_47 ⟨congrArg nI (sM_eq hf2).1, f, hf1, hf2, rfl⟩
    | succ n ih =>
      intro k hk H locs ls hP hS hl
      have hfk := hf1 k
      refine lv_iload_n hx hb d_M_reachable_8 rfl (lv_at hl 2 rfl) ?_
      refine lv_aload_n hx hb d_M_reachable_9 rfl (lv_at hl 0 rfl) ?_
      refine r_get hx hb hts hown hK hP 0 rfl rfl in_M 4 (by decide) kf_M_32 rfl d_M_reachable_10 ?_
      refine r_ge (tgt := 46) hx hb d_M_reachable_13 (by decide) (by omega) (by omega) (fun c_13 => absurd c_13 (by omega)) (fun c_13 => ?_)
      refine lv_aload_n hx hb d_M_reachable_16 rfl (lv_at hl 0 rfl) ?_
      refine r_get hx hb hts hown hK hP 0 rfl rfl in_M 6 (by decide) kf_M_20 rfl d_M_reachable_17 ?_
      refine lv_iload_n hx hb d_M_reachable_20 rfl (lv_at hl 2 rfl) ?_
      refine r_zald hx hb hK hP 4 2 rfl rfl (by decide) (by omega) d_M_reachable_21 ?_
      refine r_ifeq (tgt := 38) hx hb d_M_reachable_22 (by decide) (by omega) (fun c_22 => ?_) (fun c_22 => ?_)
      · refine lv_iload_n hx hb d_M_reachable_38 rfl (lv_at hl 1 rfl) ?_
        refine r_top (show nI (sF f x.msz k) = nI (sF f x.msz (k + 1)) by rw [sF_0 (by omega)]) ?_
        refine lv_istore_n hx hb d_M_reachable_39 rfl hl (by decide) rfl (fun ls hl => ?_)
        refine r_inc hx hb d_M_reachable_40 hl 2 rfl (by decide) rfl (fun ls hl => ?_)
        refine lv_goto (tgt := 8) hx hb d_M_reachable_43 (by decide) ?_
        exact ih (k + 1) (by omega) _ _ _ hP hS (lv_sub hl [2, 1, 0] rfl)
      · refine lv_iload_n hx hb d_M_reachable_25 rfl (lv_at hl 1 rfl) ?_
        refine lv_iconst (v := nI 2) hx hb d_M_reachable_26 (by decide) ?_
        refine r_add hx hb d_M_reachable_27 ?_
        refine lv_aload_n hx hb d_M_reachable_28 rfl (lv_at hl 0 rfl) ?_
        refine r_get hx hb hts hown hK hP 0 rfl rfl in_M 5 (by decide) kf_M_17 rfl d_M_reachable_29 ?_
        refine lv_iload_n hx hb d_M_reachable_32 rfl (lv_at hl 2 rfl) ?_
        refine r_iald hx hb hK hP 3 1 rfl rfl (by decide) (by omega) d_M_reachable_33 ?_
        refine r_add hx hb d_M_reachable_34 ?_
        refine r_top (show nI (sF f x.msz k + 2 + x.msz k) = nI (sF f x.msz (k + 1)) by rw [sF_1 (by omega)]) ?_
        refine lv_goto (tgt := 39) hx hb d_M_reachable_35 (by decide) ?_
        refine lv_istore_n hx hb d_M_reachable_39 rfl hl (by decide) rfl (fun ls hl => ?_)
        refine r_inc hx hb d_M_reachable_40 hl 2 rfl (by decide) rfl (fun ls hl => ?_)
        refine lv_goto (tgt := 8) hx hb d_M_reachable_43 (by decide) ?_
        exact ih (k + 1) (by omega) _ _ _ hP hS (lv_sub hl [2, 1, 0] rfl)
  refine lv_aload_n hx hb d_M_reachable_0 rfl (lv_at hl 0 rfl) ?_
  refine r_callv S (c_M_goOver l E x h) kc_M_goOver k0_M km_M_45 ki_M_goOver ks_M_goOver hd_M_goOver ⟨rfl, rfl⟩ ⟨by decide, by decide⟩ (zM_ok E) hz hK hP hS (fun _ h => h) 0 rfl rfl rfl hl.1 rfl (Nat.le_of_ble_eq_true rfl) ⟨Nat.zero_le _, Nat.zero_le _⟩ d_M_reachable_1 (fun x1 H locs hw hP _ _ hS => ?_)
  obtain ⟨f, hf1, hf2, hx1⟩ := hw
  rw [hx1] at hP
  refine lv_iconst (v := nI 0) hx hb d_M_reachable_4 (by decide) ?_
  refine lv_istore_n hx hb d_M_reachable_5 rfl hl (by decide) rfl (fun ls hl => ?_)
  refine lv_iconst (v := nI 0) hx hb d_M_reachable_6 (by decide) ?_
  refine lv_istore_n hx hb d_M_reachable_7 rfl hl (by decide) rfl (fun ls hl => ?_)
  exact loop f hf1 hf2 x.mm 0 (by omega) _ _ _ hP hS (lv_sub hl [2, 1, 0] rfl)
set_option maxHeartbeats 4000000 in
set_option maxRecDepth 100000 in
theorem c_M_hasRoom (l : Launch) (E : KX) (x : MS) (n : Nat) (hn : n ≤ 22) (h : MI x) : Yi l E y_M_hasRoom w_M_hasRoom rm_M_hasRoom [.ref (E.ad 11), .int (nI n)] x (fun q x' => ∃ f : Nat → Nat, (∀ i, f i ≤ 1) ∧ ((q = nI 1 ∧ sM x + n ≤ x.cel ∧ x' = MS.mk x.cel x.kin x.mv x.st x.mm x.msz f x.full) ∨ (q = nI 0 ∧ x.cel < sM x + n ∧ x' = MS.mk x.cel x.kin x.mv x.st x.mm x.msz f (x.full + nI 1)))) := by
  refine r_metz (by decide) (Nat.le_of_ble_eq_true rfl) ?_
  intro p e s m args below meth c Q ls hx hb S hK hz hend hl hP hS
  have hts := S.2.2.2.2
  have hown := S.2.2.2.1
  have hsm := h.sM_le
  have hce := h.2.2.2.1
  refine lv_aload_n hx hb d_M_hasRoom_0 rfl (lv_at hl 0 rfl) ?_
  refine r_calli S (c_M_reachable l E x h) kc_M_reachable k0_M km_M_48 ki_M_reachable ks_M_reachable hd_M_reachable ⟨rfl, rfl⟩ ⟨by decide, by decide⟩ (zM_ok E) hz hK hP hS (fun _ h => h) 0 rfl rfl rfl hl.1 rfl (Nat.le_of_ble_eq_true rfl) ⟨Nat.zero_le _, Nat.zero_le _⟩ d_M_hasRoom_1 (fun q1 x1 H locs hw hP _ _ hS => ?_)
  obtain ⟨hq1, f, hf1, hf2, hx1⟩ := hw
  subst hq1
  rw [hx1] at hP
  have hP : va_P E.D classes (wMe E x.cel x.kin x.mv x.st x.mm x.msz f x.full) H := hP
  refine lv_iload_n hx hb d_M_hasRoom_4 rfl (lv_at hl 1 rfl) ?_
  refine r_add hx hb d_M_hasRoom_5 ?_
  refine lv_aload_n hx hb d_M_hasRoom_6 rfl (lv_at hl 0 rfl) ?_
  refine r_get hx hb hts hown hK hP 0 rfl rfl in_M 0 (by decide) kf_M_24 rfl d_M_hasRoom_7 ?_
  refine r_gt (tgt := 17) hx hb d_M_hasRoom_10 (by decide) (by omega) (by omega) (fun c_10 => ?_) (fun c_10 => ?_)
  · refine lv_iconst (v := nI 0) hx hb d_M_hasRoom_17 (by decide) ?_
    refine lv_istore_n hx hb d_M_hasRoom_18 rfl hl (by decide) rfl (fun ls hl => ?_)
    refine lv_aload_n hx hb d_M_hasRoom_19 rfl (lv_at hl 1 rfl) ?_
    refine lv_iload_n hx hb d_M_hasRoom_20 rfl (lv_at hl 0 rfl) ?_
    refine r_ifeq (tgt := 31) hx hb d_M_hasRoom_21 (by decide) (by omega) (fun c_21 => ?_) (fun c_21 => absurd c_21 (by omega))
    refine lv_aload_n hx hb d_M_hasRoom_31 rfl (lv_at hl 1 rfl) ?_
    refine r_get hx hb hts hown hK hP 0 rfl rfl in_M 7 (by decide) kf_M_52 rfl d_M_hasRoom_32 ?_
    refine lv_iconst (v := nI 1) hx hb d_M_hasRoom_35 (by decide) ?_
    refine lv_iadd hx hb d_M_hasRoom_36 ?_
    refine r_put (ws' := wMe E x.cel x.kin x.mv x.st x.mm x.msz f (x.full + nI 1)) hx hb hts hown hK hP (wM_D hz) hS 0 rfl rfl in_M t_M t_M_ok n_M 7 (by decide) kf_M_52 rfl rfl (Nat.le_of_ble_eq_true rfl) rfl d_M_hasRoom_37 (fun H locs hP hS => ?_)
    refine lv_iload_n hx hb d_M_hasRoom_40 rfl (lv_at hl 0 rfl) ?_
    exact hend _ _ (MS.mk x.cel x.kin x.mv x.st x.mm x.msz f (x.full + nI 1)) _ _ _ (by decide) hP hS d_M_hasRoom_41 ⟨f, hf1, Or.inr ⟨rfl, c_10, rfl⟩⟩
  · refine lv_iconst (v := nI 1) hx hb d_M_hasRoom_13 (by decide) ?_
    refine lv_goto (tgt := 18) hx hb d_M_hasRoom_14 (by decide) ?_
    refine lv_istore_n hx hb d_M_hasRoom_18 rfl hl (by decide) rfl (fun ls hl => ?_)
    refine lv_aload_n hx hb d_M_hasRoom_19 rfl (lv_at hl 1 rfl) ?_
    refine lv_iload_n hx hb d_M_hasRoom_20 rfl (lv_at hl 0 rfl) ?_
    refine r_ifeq (tgt := 31) hx hb d_M_hasRoom_21 (by decide) (by omega) (fun c_21 => absurd c_21 (by omega)) (fun c_21 => ?_)
    refine lv_aload_n hx hb d_M_hasRoom_24 rfl (lv_at hl 1 rfl) ?_
    refine r_get hx hb hts hown hK hP 0 rfl rfl in_M 7 (by decide) kf_M_52 rfl d_M_hasRoom_25 ?_
    refine lv_goto (tgt := 37) hx hb d_M_hasRoom_28 (by decide) ?_
    refine r_put (ws' := wMe E x.cel x.kin x.mv x.st x.mm x.msz f x.full) hx hb hts hown hK hP (wM_D hz) hS 0 rfl rfl in_M t_M t_M_ok n_M 7 (by decide) kf_M_52 rfl rfl (Nat.le_of_ble_eq_true rfl) rfl d_M_hasRoom_37 (fun H locs hP hS => ?_)
    refine lv_iload_n hx hb d_M_hasRoom_40 rfl (lv_at hl 0 rfl) ?_
    exact hend _ _ (MS.mk x.cel x.kin x.mv x.st x.mm x.msz f x.full) _ _ _ (by decide) hP hS d_M_hasRoom_41 ⟨f, hf1, Or.inl ⟨rfl, c_10, rfl⟩⟩
end
section
set_option maxHeartbeats 4000000 in
set_option maxRecDepth 100000 in
theorem c_M_make (l : Launch) (E : KX) (x : MS) (r u t : Int32) (hmm : x.mm < 520) (h : MI x) : Yi l E y_M_make w_M_make rm_M_make [.ref (E.ad 11), .int r, .int u, .int t] x (fun q x' => IX r 10 (fun a => IX t 10 (fun b => IX u 21 (fun n => ∃ f : Nat → Nat, (∀ i, f i ≤ 1) ∧ ((q = nI 0 ∧ x.cel < sM x + (2 + n) ∧ x' = MS.mk x.cel x.kin x.mv x.st x.mm x.msz f (x.full + nI 1)) ∨ (q = nI 1 ∧ sM x + (2 + n) ≤ x.cel ∧ x' = newM x f n a b))) (q = -1 ∧ x' = x)) (q = -1 ∧ x' = x)) (q = -1 ∧ x' = x)) := by
  rcases ix_cases r (n := 10) (by decide) with ⟨a, ha, rfl⟩ | hr
  · rcases ix_cases t (n := 10) (by decide) with ⟨b, hb', rfl⟩ | hr
    · rcases ix_cases u (n := 21) (by decide) with ⟨n, hn, rfl⟩ | hr
      · refine r_meti (by decide) (Nat.le_of_ble_eq_true rfl) ?_
        intro p e s m args below meth c Q ls hx hb S hK hz hend hl hP hS
        have hts := S.2.2.2.2
        have hown := S.2.2.2.1
        refine lv_iload_n hx hb d_M_make_0 rfl (lv_at hl 1 rfl) ?_
        refine r_calls S (c_M_isRegister1 l a ha) kc_M_isRegister k0_M km_M_28 kt_M_isRegister hd_M_isRegister ⟨rfl, rfl⟩ ⟨by decide, by decide⟩ rfl hl.1 rfl (Nat.le_of_ble_eq_true rfl) ⟨Nat.zero_le _, Nat.zero_le _⟩ d_M_make_1 ?_
        refine r_ifeq (tgt := 24) hx hb d_M_make_4 (by decide) (by omega) (fun c_4 => absurd c_4 (by omega)) (fun c_4 => ?_)
        refine lv_iload_n hx hb d_M_make_7 rfl (lv_at hl 3 rfl) ?_
        refine r_calls S (c_M_isRegister1 l b hb') kc_M_isRegister k0_M km_M_28 kt_M_isRegister hd_M_isRegister ⟨rfl, rfl⟩ ⟨by decide, by decide⟩ rfl hl.1 rfl (Nat.le_of_ble_eq_true rfl) ⟨Nat.zero_le _, Nat.zero_le _⟩ d_M_make_8 ?_
        refine r_ifeq (tgt := 24) hx hb d_M_make_11 (by decide) (by omega) (fun c_11 => absurd c_11 (by omega)) (fun c_11 => ?_)
        refine lv_iload_n hx hb d_M_make_14 rfl (lv_at hl 2 rfl) ?_
        refine lv_if_lt (tgt := 24) hx hb d_M_make_15 (by decide) (fun c_15 => absurd c_15 (nI_pos (by omega))) (fun c_15 => ?_)
        refine lv_iload_n hx hb d_M_make_18 rfl (lv_at hl 2 rfl) ?_
        refine lv_bipush (v := nI 20) hx hb d_M_make_19 (by decide) ?_
        refine r_le (tgt := 26) hx hb d_M_make_21 (by decide) (by omega) (by omega) (fun c_21 => ?_) (fun c_21 => absurd c_21 (by omega))
        refine lv_aload_n hx hb d_M_make_26 rfl (lv_at hl 0 rfl) ?_
        refine lv_iconst (v := nI 2) hx hb d_M_make_27 (by decide) ?_
        refine lv_iload_n hx hb d_M_make_28 rfl (lv_at hl 2 rfl) ?_
        refine r_add hx hb d_M_make_29 ?_
        refine r_calli S (c_M_hasRoom l E x (2 + n) (by omega) h) kc_M_hasRoom k0_M km_M_55 ki_M_hasRoom ks_M_hasRoom hd_M_hasRoom ⟨rfl, rfl⟩ ⟨by decide, by decide⟩ (zM_ok E) hz hK hP hS (fun _ h => h) 0 rfl rfl rfl hl.1 rfl (Nat.le_of_ble_eq_true rfl) ⟨Nat.zero_le _, Nat.zero_le _⟩ d_M_make_30 (fun q1 x1 H locs hw hP _ _ hS => ?_)
        obtain ⟨f, hf1, hor⟩ := hw
        rcases hor with ⟨rfl, hsr, hxe⟩ | ⟨rfl, hsr, hxe⟩
        · rw [hxe] at hP
          have loop : ∀ (i k : Nat), i + k = n → ∀ (H : Heap) (locs : List Loc) (ls : Array Slot), va_P E.D classes (wMe E x.cel (fillM x.kin x.mm k (x.kin b)) (fillM x.mv x.mm k (x.mv b)) x.st x.mm x.msz f x.full) H → va_S (AM E) s.heap H locs → lv_has ls 5 [(0, .ref (E.ad 11)), (1, .int (nI a)), (2, .int (nI n)), (3, .int (nI b)), (4, .int (nI k))] → W p l e rm_M_make s m args below meth c H locs 0 0 Q (F0 m 41 ls []) := by
            intro i
            induction i with
            | zero =>
              intro k hk H locs ls hP hS hl
              have hk : k = n := by omega
              subst hk
              refine lv_iload hx hb d_M_make_41 (lv_at hl 4 rfl) ?_
              refine lv_iload_n hx hb d_M_make_43 rfl (lv_at hl 2 rfl) ?_
              refine r_ge (tgt := 67) hx hb d_M_make_44 (by decide) (by omega) (by omega) (fun c_44 => ?_) (fun c_44 => absurd c_44 (by omega))
              refine lv_aload_n hx hb d_M_make_67 rfl (lv_at hl 0 rfl) ?_
              refine r_get hx hb hts hown hK hP 0 rfl rfl in_M 5 (by decide) kf_M_17 rfl d_M_make_68 ?_
              refine lv_aload_n hx hb d_M_make_71 rfl (lv_at hl 0 rfl) ?_
              refine r_get hx hb hts hown hK hP 0 rfl rfl in_M 4 (by decide) kf_M_32 rfl d_M_make_72 ?_
              refine lv_iload_n hx hb d_M_make_75 rfl (lv_at hl 2 rfl) ?_
              refine r_iast (ws' := wMe E x.cel (fillM x.kin x.mm k (x.kin b)) (fillM x.mv x.mm k (x.mv b)) x.st x.mm (va_up x.msz x.mm k) f x.full) hx hb hK hP (wM_D hz) hS 3 1 rfl rfl (by decide) (by omega) rfl d_M_make_76 (fun H locs hP hS => ?_)
              refine lv_aload_n hx hb d_M_make_77 rfl (lv_at hl 0 rfl) ?_
              refine r_get hx hb hts hown hK hP 0 rfl rfl in_M 1 (by decide) kf_M_7 rfl d_M_make_78 ?_
              refine lv_iload_n hx hb d_M_make_81 rfl (lv_at hl 1 rfl) ?_
              refine lv_iconst (v := nI 2) hx hb d_M_make_82 (by decide) ?_
              refine r_bast (ws' := wMe E x.cel (va_up (fillM x.kin x.mm k (x.kin b)) a 2) (fillM x.mv x.mm k (x.mv b)) x.st x.mm (va_up x.msz x.mm k) f x.full) hx hb hK hP (wM_D hz) hS 1 0 rfl rfl (by decide) (by omega) (by omega) rfl d_M_make_83 (fun H locs hP hS => ?_)
              refine lv_aload_n hx hb d_M_make_84 rfl (lv_at hl 0 rfl) ?_
              refine r_get hx hb hts hown hK hP 0 rfl rfl in_M 2 (by decide) kf_M_13 rfl d_M_make_85 ?_
              refine lv_iload_n hx hb d_M_make_88 rfl (lv_at hl 1 rfl) ?_
              refine lv_aload_n hx hb d_M_make_89 rfl (lv_at hl 0 rfl) ?_
              refine r_get hx hb hts hown hK hP 0 rfl rfl in_M 4 (by decide) kf_M_32 rfl d_M_make_90 ?_
              refine r_vast (ws' := wMe E x.cel (va_up (fillM x.kin x.mm k (x.kin b)) a 2) (va_up (fillM x.mv x.mm k (x.mv b)) a (nI x.mm)) x.st x.mm (va_up x.msz x.mm k) f x.full) hx hb hK hP (wM_D hz) hS 2 1 rfl rfl (by decide) (by omega) rfl d_M_make_93 (fun H locs hP hS => ?_)
              refine lv_aload_n hx hb d_M_make_94 rfl (lv_at hl 0 rfl) ?_
              refine lv_dup hx hb d_M_make_95 rfl ?_
              refine r_get hx hb hts hown hK hP 0 rfl rfl in_M 4 (by decide) kf_M_32 rfl d_M_make_96 ?_
              refine lv_iconst (v := nI 1) hx hb d_M_make_99 (by decide) ?_
              refine r_add hx hb d_M_make_100 ?_
              refine r_put (ws' := wMe E x.cel (va_up (fillM x.kin x.mm k (x.kin b)) a 2) (va_up (fillM x.mv x.mm k (x.mv b)) a (nI x.mm)) x.st (x.mm + 1) (va_up x.msz x.mm k) f x.full) hx hb hts hown hK hP (wM_D hz) hS 0 rfl rfl in_M t_M t_M_ok n_M 4 (by decide) kf_M_32 rfl rfl (Nat.le_of_ble_eq_true rfl) rfl d_M_make_101 (fun H locs hP hS => ?_)
              refine lv_iconst (v := nI 1) hx hb d_M_make_104 (by decide) ?_
              exact hend _ _ (MS.mk x.cel (va_up (fillM x.kin x.mm k (x.kin b)) a 2) (va_up (fillM x.mv x.mm k (x.mv b)) a (nI x.mm)) x.st (x.mm + 1) (va_up x.msz x.mm k) f x.full) _ _ _ hP hS d_M_make_105 (IX.y (by decide) ha (IX.y (by decide) hb' (IX.y (by decide) hn ⟨f, hf1, Or.inr ⟨rfl, hsr, rfl⟩⟩)))
            | succ i ih =>
              intro k hk H locs ls hP hS hl
              have hkb := h.1 b
              refine lv_iload hx hb d_M_make_41 (lv_at hl 4 rfl) ?_
              refine lv_iload_n hx hb d_M_make_43 rfl (lv_at hl 2 rfl) ?_
              refine r_ge (tgt := 67) hx hb d_M_make_44 (by decide) (by omega) (by omega) (fun c_44 => absurd c_44 (by omega)) (fun c_44 => ?_)
              refine lv_aload_n hx hb d_M_make_47 rfl (lv_at hl 0 rfl) ?_
              refine lv_aload_n hx hb d_M_make_48 rfl (lv_at hl 0 rfl) ?_
              refine r_get hx hb hts hown hK hP 0 rfl rfl in_M 4 (by decide) kf_M_32 rfl d_M_make_49 ?_
              refine lv_iload hx hb d_M_make_52 (lv_at hl 4 rfl) ?_
              refine r_calls S (c_M_placeOf l x.mm k) kc_M_placeOf k0_M km_M_41 kt_M_placeOf hd_M_placeOf ⟨rfl, rfl⟩ ⟨by decide, by decide⟩ rfl hl.1 rfl (Nat.le_of_ble_eq_true rfl) ⟨Nat.zero_le _, Nat.zero_le _⟩ d_M_make_54 ?_
              refine lv_iload_n hx hb d_M_make_57 rfl (lv_at hl 3 rfl) ?_
              refine r_callv S (c_M_move l E (MS.mk x.cel (fillM x.kin x.mm k (x.kin b)) (fillM x.mv x.mm k (x.mv b)) x.st x.mm x.msz f x.full) (60 + 20 * x.mm + k) b (by omega) (by omega) (by show fillM x.kin x.mm k (x.kin b) b ≤ 2; rw [fillM_lo (by omega)]; exact hkb)) kc_M_move k0_M km_M_58 ki_M_move ks_M_move hd_M_move ⟨rfl, rfl⟩ ⟨by decide, by decide⟩ (zM_ok E) hz hK hP hS (fun _ h => h) 0 rfl rfl rfl hl.1 rfl (Nat.le_of_ble_eq_true rfl) ⟨Nat.zero_le _, Nat.zero_le _⟩ d_M_make_58 (fun x1 H locs hw hP _ _ hS => ?_)
              simp only [MS.mk_cel, MS.mk_kin, MS.mk_mv, MS.mk_st, MS.mk_mm, MS.mk_msz, MS.mk_rch, MS.mk_full] at hw
              rw [fillM_lo (i := b) (by omega), fillM_lo (i := b) (by omega)] at hw
              subst hw
              have hP : va_P E.D classes (wMe E x.cel (va_up (fillM x.kin x.mm k (x.kin b)) (60 + 20 * x.mm + k) (x.kin b)) (va_up (fillM x.mv x.mm k (x.mv b)) (60 + 20 * x.mm + k) (x.mv b)) x.st x.mm x.msz f x.full) H := hP
              rw [fillM_s, fillM_s] at hP
              refine r_inc hx hb d_M_make_61 hl 4 rfl (by decide) rfl (fun ls hl => ?_)
              refine lv_goto (tgt := 41) hx hb d_M_make_64 (by decide) ?_
              exact ih (k + 1) (by omega) _ _ _ hP hS (lv_sub hl [1, 2, 3, 4, 0] rfl)
          refine r_ifne (tgt := 38) hx hb d_M_make_33 (by decide) (by omega) (fun c_33 => ?_) (fun c_33 => absurd c_33 (by omega))
          refine lv_iconst (v := nI 0) hx hb d_M_make_38 (by decide) ?_
          refine lv_istore hx hb d_M_make_39 hl (by decide) rfl (fun ls hl => ?_)
          exact loop n 0 (by omega) _ _ _ (by rw [fillM_0, fillM_0]; exact hP) hS (lv_sub hl [1, 2, 3, 4, 0] rfl)
        · rw [hxe] at hP
          refine r_ifne (tgt := 38) hx hb d_M_make_33 (by decide) (by omega) (fun c_33 => absurd c_33 (by omega)) (fun c_33 => ?_)
          refine lv_iconst (v := nI 0) hx hb d_M_make_36 (by decide) ?_
          exact hend _ _ (MS.mk x.cel x.kin x.mv x.st x.mm x.msz f (x.full + nI 1)) _ _ _ hP hS d_M_make_37 (IX.y (by decide) ha (IX.y (by decide) hb' (IX.y (by decide) hn ⟨f, hf1, Or.inl ⟨rfl, hsr, rfl⟩⟩)))
      · rcases id hr with hr2 | hr2
        · refine r_meti (by decide) (Nat.le_of_ble_eq_true rfl) ?_
          intro p e s m args below meth c Q ls hx hb S hK hz hend hl hP hS
          have hts := S.2.2.2.2
          have hown := S.2.2.2.1
          refine lv_iload_n hx hb d_M_make_0 rfl (lv_at hl 1 rfl) ?_
          refine r_calls S (c_M_isRegister1 l a ha) kc_M_isRegister k0_M km_M_28 kt_M_isRegister hd_M_isRegister ⟨rfl, rfl⟩ ⟨by decide, by decide⟩ rfl hl.1 rfl (Nat.le_of_ble_eq_true rfl) ⟨Nat.zero_le _, Nat.zero_le _⟩ d_M_make_1 ?_
          refine r_ifeq (tgt := 24) hx hb d_M_make_4 (by decide) (by omega) (fun c_4 => absurd c_4 (by omega)) (fun c_4 => ?_)
          refine lv_iload_n hx hb d_M_make_7 rfl (lv_at hl 3 rfl) ?_
          refine r_calls S (c_M_isRegister1 l b hb') kc_M_isRegister k0_M km_M_28 kt_M_isRegister hd_M_isRegister ⟨rfl, rfl⟩ ⟨by decide, by decide⟩ rfl hl.1 rfl (Nat.le_of_ble_eq_true rfl) ⟨Nat.zero_le _, Nat.zero_le _⟩ d_M_make_8 ?_
          refine r_ifeq (tgt := 24) hx hb d_M_make_11 (by decide) (by omega) (fun c_11 => absurd c_11 (by omega)) (fun c_11 => ?_)
          refine lv_iload_n hx hb d_M_make_14 rfl (lv_at hl 2 rfl) ?_
          refine lv_if_lt (tgt := 24) hx hb d_M_make_15 (by decide) (fun c_15 => ?_) (fun c_15 => absurd c_15 (fun q => q hr2))
          refine lv_iconst (v := -1) hx hb d_M_make_24 (by decide) ?_
          exact hend _ _ (MS.mk x.cel x.kin x.mv x.st x.mm x.msz x.rch x.full) _ _ _ hP hS d_M_make_25 (IX.y (by decide) ha (IX.y (by decide) hb' (IX.n (by decide) hr ⟨rfl, rfl⟩)))
        · refine r_meti (by decide) (Nat.le_of_ble_eq_true rfl) ?_
          intro p e s m args below meth c Q ls hx hb S hK hz hend hl hP hS
          have hts := S.2.2.2.2
          have hown := S.2.2.2.1
          refine lv_iload_n hx hb d_M_make_0 rfl (lv_at hl 1 rfl) ?_
          refine r_calls S (c_M_isRegister1 l a ha) kc_M_isRegister k0_M km_M_28 kt_M_isRegister hd_M_isRegister ⟨rfl, rfl⟩ ⟨by decide, by decide⟩ rfl hl.1 rfl (Nat.le_of_ble_eq_true rfl) ⟨Nat.zero_le _, Nat.zero_le _⟩ d_M_make_1 ?_
          refine r_ifeq (tgt := 24) hx hb d_M_make_4 (by decide) (by omega) (fun c_4 => absurd c_4 (by omega)) (fun c_4 => ?_)
          refine lv_iload_n hx hb d_M_make_7 rfl (lv_at hl 3 rfl) ?_
          refine r_calls S (c_M_isRegister1 l b hb') kc_M_isRegister k0_M km_M_28 kt_M_isRegister hd_M_isRegister ⟨rfl, rfl⟩ ⟨by decide, by decide⟩ rfl hl.1 rfl (Nat.le_of_ble_eq_true rfl) ⟨Nat.zero_le _, Nat.zero_le _⟩ d_M_make_8 ?_
          refine r_ifeq (tgt := 24) hx hb d_M_make_11 (by decide) (by omega) (fun c_11 => absurd c_11 (by omega)) (fun c_11 => ?_)
          refine lv_iload_n hx hb d_M_make_14 rfl (lv_at hl 2 rfl) ?_
          refine lv_if_lt (tgt := 24) hx hb d_M_make_15 (by decide) (fun c_15 => absurd c_15 (ix_nlt (by decide) hr2)) (fun c_15 => ?_)
          refine lv_iload_n hx hb d_M_make_18 rfl (lv_at hl 2 rfl) ?_
          refine lv_bipush (v := nI 20) hx hb d_M_make_19 (by decide) ?_
          refine lv_icmp_le (tgt := 26) hx hb d_M_make_21 (by decide) (fun c_21 => absurd c_21 (ix_nle (by decide) (by decide) hr2)) (fun c_21 => ?_)
          refine lv_iconst (v := -1) hx hb d_M_make_24 (by decide) ?_
          exact hend _ _ (MS.mk x.cel x.kin x.mv x.st x.mm x.msz x.rch x.full) _ _ _ hP hS d_M_make_25 (IX.y (by decide) ha (IX.y (by decide) hb' (IX.n (by decide) hr ⟨rfl, rfl⟩)))
    · refine r_meti (by decide) (Nat.le_of_ble_eq_true rfl) ?_
      intro p e s m args below meth c Q ls hx hb S hK hz hend hl hP hS
      have hts := S.2.2.2.2
      have hown := S.2.2.2.1
      refine lv_iload_n hx hb d_M_make_0 rfl (lv_at hl 1 rfl) ?_
      refine r_calls S (c_M_isRegister1 l a ha) kc_M_isRegister k0_M km_M_28 kt_M_isRegister hd_M_isRegister ⟨rfl, rfl⟩ ⟨by decide, by decide⟩ rfl hl.1 rfl (Nat.le_of_ble_eq_true rfl) ⟨Nat.zero_le _, Nat.zero_le _⟩ d_M_make_1 ?_
      refine r_ifeq (tgt := 24) hx hb d_M_make_4 (by decide) (by omega) (fun c_4 => absurd c_4 (by omega)) (fun c_4 => ?_)
      refine lv_iload_n hx hb d_M_make_7 rfl (lv_at hl 3 rfl) ?_
      refine r_calls S (c_M_isRegister0 l t hr) kc_M_isRegister k0_M km_M_28 kt_M_isRegister hd_M_isRegister ⟨rfl, rfl⟩ ⟨by decide, by decide⟩ rfl hl.1 rfl (Nat.le_of_ble_eq_true rfl) ⟨Nat.zero_le _, Nat.zero_le _⟩ d_M_make_8 ?_
      refine r_ifeq (tgt := 24) hx hb d_M_make_11 (by decide) (by omega) (fun c_11 => ?_) (fun c_11 => absurd c_11 (by omega))
      refine lv_iconst (v := -1) hx hb d_M_make_24 (by decide) ?_
      exact hend _ _ (MS.mk x.cel x.kin x.mv x.st x.mm x.msz x.rch x.full) _ _ _ hP hS d_M_make_25 (IX.y (by decide) ha (IX.n (by decide) hr ⟨rfl, rfl⟩))
  · refine r_meti (by decide) (Nat.le_of_ble_eq_true rfl) ?_
    intro p e s m args below meth c Q ls hx hb S hK hz hend hl hP hS
    have hts := S.2.2.2.2
    have hown := S.2.2.2.1
    refine lv_iload_n hx hb d_M_make_0 rfl (lv_at hl 1 rfl) ?_
    refine r_calls S (c_M_isRegister0 l r hr) kc_M_isRegister k0_M km_M_28 kt_M_isRegister hd_M_isRegister ⟨rfl, rfl⟩ ⟨by decide, by decide⟩ rfl hl.1 rfl (Nat.le_of_ble_eq_true rfl) ⟨Nat.zero_le _, Nat.zero_le _⟩ d_M_make_1 ?_
    refine r_ifeq (tgt := 24) hx hb d_M_make_4 (by decide) (by omega) (fun c_4 => ?_) (fun c_4 => absurd c_4 (by omega))
    refine lv_iconst (v := -1) hx hb d_M_make_24 (by decide) ?_
    exact hend _ _ (MS.mk x.cel x.kin x.mv x.st x.mm x.msz x.rch x.full) _ _ _ hP hS d_M_make_25 (IX.n (by decide) hr ⟨rfl, rfl⟩)
set_option maxHeartbeats 4000000 in
set_option maxRecDepth 100000 in
theorem c_M_grow (l : Launch) (E : KX) (x : MS) (r t : Int32) (h : MI x) : Yi l E y_M_grow w_M_grow rm_M_grow [.ref (E.ad 11), .int r, .int t] x (fun q x' => OBJ x.kin x.mv x.mm r (fun j v => IX t 10 (fun b => (x.msz v = 20 → q = -1 ∧ x' = x) ∧ (x.msz v ≠ 20 → ∃ f : Nat → Nat, (∀ i, f i ≤ 1) ∧ ((q = nI 0 ∧ x.cel < sM x + 1 ∧ x' = MS.mk x.cel x.kin x.mv x.st x.mm x.msz f (x.full + nI 1)) ∨ (q = nI (x.msz v + 1) ∧ sM x + 1 ≤ x.cel ∧ x' = MS.mk x.cel (va_up x.kin (60 + 20 * v + x.msz v) (x.kin b)) (va_up x.mv (60 + 20 * v + x.msz v) (x.mv b)) x.st x.mm (va_up x.msz v (x.msz v + 1)) f x.full)))) (q = -1 ∧ x' = x)) (q = -1 ∧ x' = x)) := by
  have hmm := h.2.2.2.2.2.1
  rcases ob_cases h.ro r with ⟨j, v, hj, rfl, h2, hv, he⟩ | hno
  · rcases ix_cases t (n := 10) (by decide) with ⟨b, hb', rfl⟩ | hr
    · have hs := h.2.1 v
      have hkb := h.1 b
      by_cases h0 : x.msz v = 20
      · refine r_meti (by decide) (Nat.le_of_ble_eq_true rfl) ?_
        intro p e s m args below meth c Q ls hx hb S hK hz hend hl hP hS
        have hts := S.2.2.2.2
        have hown := S.2.2.2.1
        refine lv_aload_n hx hb d_M_grow_0 rfl (lv_at hl 0 rfl) ?_
        refine lv_iload_n hx hb d_M_grow_1 rfl (lv_at hl 1 rfl) ?_
        refine r_calli S (c_M_hasObjY l E (MS.mk x.cel x.kin x.mv x.st x.mm x.msz x.rch x.full) j hj h2) kc_M_hasObject k0_M km_M_62 ki_M_hasObject ks_M_hasObject hd_M_hasObject ⟨rfl, rfl⟩ ⟨by decide, by decide⟩ (zM_ok E) hz hK hP hS (fun _ h => h) 0 rfl rfl rfl hl.1 rfl (Nat.le_of_ble_eq_true rfl) ⟨Nat.zero_le _, Nat.zero_le _⟩ d_M_grow_2 (fun r1 x1 H locs hw hP _ _ hS => ?_)
        obtain ⟨hr1, hx1⟩ := hw
        subst hr1 hx1
        have hP : va_P E.D classes (wMe E x.cel x.kin x.mv x.st x.mm x.msz x.rch x.full) H := hP
        refine r_ifeq (tgt := 31) hx hb d_M_grow_5 (by decide) (by omega) (fun c_5 => absurd c_5 (by omega)) (fun c_5 => ?_)
        refine lv_iload_n hx hb d_M_grow_8 rfl (lv_at hl 2 rfl) ?_
        refine r_calls S (c_M_isRegister1 l b hb') kc_M_isRegister k0_M km_M_28 kt_M_isRegister hd_M_isRegister ⟨rfl, rfl⟩ ⟨by decide, by decide⟩ rfl hl.1 rfl (Nat.le_of_ble_eq_true rfl) ⟨Nat.zero_le _, Nat.zero_le _⟩ d_M_grow_9 ?_
        refine r_ifeq (tgt := 31) hx hb d_M_grow_12 (by decide) (by omega) (fun c_12 => absurd c_12 (by omega)) (fun c_12 => ?_)
        refine lv_aload_n hx hb d_M_grow_15 rfl (lv_at hl 0 rfl) ?_
        refine r_get hx hb hts hown hK hP 0 rfl rfl in_M 5 (by decide) kf_M_17 rfl d_M_grow_16 ?_
        refine lv_aload_n hx hb d_M_grow_19 rfl (lv_at hl 0 rfl) ?_
        refine r_get hx hb hts hown hK hP 0 rfl rfl in_M 2 (by decide) kf_M_13 rfl d_M_grow_20 ?_
        refine lv_iload_n hx hb d_M_grow_23 rfl (lv_at hl 1 rfl) ?_
        refine r_iald hx hb hK hP 2 1 rfl rfl (by decide) (by omega) d_M_grow_24 ?_
        refine r_top (he) ?_
        refine r_iald hx hb hK hP 3 1 rfl rfl (by decide) (by omega) d_M_grow_25 ?_
        refine lv_bipush (v := nI 20) hx hb d_M_grow_26 (by decide) ?_
        refine r_ne (tgt := 33) hx hb d_M_grow_28 (by decide) (by omega) (by omega) (fun c_28 => absurd c_28 (fun q => q h0)) (fun c_28 => ?_)
        refine lv_iconst (v := -1) hx hb d_M_grow_31 (by decide) ?_
        exact hend _ _ (MS.mk x.cel x.kin x.mv x.st x.mm x.msz x.rch x.full) _ _ _ hP hS d_M_grow_32 (OBJ.y (by omega) hj h2 hv he (IX.y (by decide) hb' ⟨fun _ => ⟨rfl, rfl⟩, fun z => absurd h0 z⟩))
      · refine r_meti (by decide) (Nat.le_of_ble_eq_true rfl) ?_
        intro p e s m args below meth c Q ls hx hb S hK hz hend hl hP hS
        have hts := S.2.2.2.2
        have hown := S.2.2.2.1
        refine lv_aload_n hx hb d_M_grow_0 rfl (lv_at hl 0 rfl) ?_
        refine lv_iload_n hx hb d_M_grow_1 rfl (lv_at hl 1 rfl) ?_
        refine r_calli S (c_M_hasObjY l E (MS.mk x.cel x.kin x.mv x.st x.mm x.msz x.rch x.full) j hj h2) kc_M_hasObject k0_M km_M_62 ki_M_hasObject ks_M_hasObject hd_M_hasObject ⟨rfl, rfl⟩ ⟨by decide, by decide⟩ (zM_ok E) hz hK hP hS (fun _ h => h) 0 rfl rfl rfl hl.1 rfl (Nat.le_of_ble_eq_true rfl) ⟨Nat.zero_le _, Nat.zero_le _⟩ d_M_grow_2 (fun r1 x1 H locs hw hP _ _ hS => ?_)
        obtain ⟨hr1, hx1⟩ := hw
        subst hr1 hx1
        have hP : va_P E.D classes (wMe E x.cel x.kin x.mv x.st x.mm x.msz x.rch x.full) H := hP
        refine r_ifeq (tgt := 31) hx hb d_M_grow_5 (by decide) (by omega) (fun c_5 => absurd c_5 (by omega)) (fun c_5 => ?_)
        refine lv_iload_n hx hb d_M_grow_8 rfl (lv_at hl 2 rfl) ?_
        refine r_calls S (c_M_isRegister1 l b hb') kc_M_isRegister k0_M km_M_28 kt_M_isRegister hd_M_isRegister ⟨rfl, rfl⟩ ⟨by decide, by decide⟩ rfl hl.1 rfl (Nat.le_of_ble_eq_true rfl) ⟨Nat.zero_le _, Nat.zero_le _⟩ d_M_grow_9 ?_
        refine r_ifeq (tgt := 31) hx hb d_M_grow_12 (by decide) (by omega) (fun c_12 => absurd c_12 (by omega)) (fun c_12 => ?_)
        refine lv_aload_n hx hb d_M_grow_15 rfl (lv_at hl 0 rfl) ?_
        refine r_get hx hb hts hown hK hP 0 rfl rfl in_M 5 (by decide) kf_M_17 rfl d_M_grow_16 ?_
        refine lv_aload_n hx hb d_M_grow_19 rfl (lv_at hl 0 rfl) ?_
        refine r_get hx hb hts hown hK hP 0 rfl rfl in_M 2 (by decide) kf_M_13 rfl d_M_grow_20 ?_
        refine lv_iload_n hx hb d_M_grow_23 rfl (lv_at hl 1 rfl) ?_
        refine r_iald hx hb hK hP 2 1 rfl rfl (by decide) (by omega) d_M_grow_24 ?_
        refine r_top (he) ?_
        refine r_iald hx hb hK hP 3 1 rfl rfl (by decide) (by omega) d_M_grow_25 ?_
        refine lv_bipush (v := nI 20) hx hb d_M_grow_26 (by decide) ?_
        refine r_ne (tgt := 33) hx hb d_M_grow_28 (by decide) (by omega) (by omega) (fun c_28 => ?_) (fun c_28 => absurd c_28 h0)
        refine lv_aload_n hx hb d_M_grow_33 rfl (lv_at hl 0 rfl) ?_
        refine lv_iconst (v := nI 1) hx hb d_M_grow_34 (by decide) ?_
        refine r_calli S (c_M_hasRoom l E x 1 (by omega) h) kc_M_hasRoom k0_M km_M_55 ki_M_hasRoom ks_M_hasRoom hd_M_hasRoom ⟨rfl, rfl⟩ ⟨by decide, by decide⟩ (zM_ok E) hz hK hP hS (fun _ h => h) 0 rfl rfl rfl hl.1 rfl (Nat.le_of_ble_eq_true rfl) ⟨Nat.zero_le _, Nat.zero_le _⟩ d_M_grow_35 (fun q1 x1 H locs hw hP _ _ hS => ?_)
        obtain ⟨f, hf1, hor⟩ := hw
        rcases hor with ⟨rfl, hsr, hxe⟩ | ⟨rfl, hsr, hxe⟩
        · rw [hxe] at hP
          refine r_ifne (tgt := 43) hx hb d_M_grow_38 (by decide) (by omega) (fun c_38 => ?_) (fun c_38 => absurd c_38 (by omega))
          refine lv_aload_n hx hb d_M_grow_43 rfl (lv_at hl 0 rfl) ?_
          refine r_get hx hb hts hown hK hP 0 rfl rfl in_M 2 (by decide) kf_M_13 rfl d_M_grow_44 ?_
          refine lv_iload_n hx hb d_M_grow_47 rfl (lv_at hl 1 rfl) ?_
          refine r_iald hx hb hK hP 2 1 rfl rfl (by decide) (by omega) d_M_grow_48 ?_
          refine r_top (he) ?_
          refine lv_istore_n hx hb d_M_grow_49 rfl hl (by decide) rfl (fun ls hl => ?_)
          refine lv_aload_n hx hb d_M_grow_50 rfl (lv_at hl 1 rfl) ?_
          refine lv_iload_n hx hb d_M_grow_51 rfl (lv_at hl 0 rfl) ?_
          refine lv_aload_n hx hb d_M_grow_52 rfl (lv_at hl 1 rfl) ?_
          refine r_get hx hb hts hown hK hP 0 rfl rfl in_M 5 (by decide) kf_M_17 rfl d_M_grow_53 ?_
          refine lv_iload_n hx hb d_M_grow_56 rfl (lv_at hl 0 rfl) ?_
          refine r_iald hx hb hK hP 3 1 rfl rfl (by decide) (by omega) d_M_grow_57 ?_
          refine r_calls S (c_M_placeOf l v (x.msz v)) kc_M_placeOf k0_M km_M_41 kt_M_placeOf hd_M_placeOf ⟨rfl, rfl⟩ ⟨by decide, by decide⟩ rfl hl.1 rfl (Nat.le_of_ble_eq_true rfl) ⟨Nat.zero_le _, Nat.zero_le _⟩ d_M_grow_58 ?_
          refine lv_iload_n hx hb d_M_grow_61 rfl (lv_at hl 3 rfl) ?_
          refine r_callv S (c_M_move l E (MS.mk x.cel x.kin x.mv x.st x.mm x.msz f x.full) (60 + 20 * v + x.msz v) b (by omega) (by omega) hkb) kc_M_move k0_M km_M_58 ki_M_move ks_M_move hd_M_move ⟨rfl, rfl⟩ ⟨by decide, by decide⟩ (zM_ok E) hz hK hP hS (fun _ h => h) 0 rfl rfl rfl hl.1 rfl (Nat.le_of_ble_eq_true rfl) ⟨Nat.zero_le _, Nat.zero_le _⟩ d_M_grow_62 (fun x1 H locs hw hP _ _ hS => ?_)
          simp only [MS.mk_cel, MS.mk_kin, MS.mk_mv, MS.mk_st, MS.mk_mm, MS.mk_msz, MS.mk_rch, MS.mk_full] at hw
          subst hw
          have hP : va_P E.D classes (wMe E x.cel (va_up x.kin (60 + 20 * v + x.msz v) (x.kin b)) (va_up x.mv (60 + 20 * v + x.msz v) (x.mv b)) x.st x.mm x.msz f x.full) H := hP
          refine lv_aload_n hx hb d_M_grow_65 rfl (lv_at hl 1 rfl) ?_
          refine r_get hx hb hts hown hK hP 0 rfl rfl in_M 5 (by decide) kf_M_17 rfl d_M_grow_66 ?_
          refine lv_iload_n hx hb d_M_grow_69 rfl (lv_at hl 0 rfl) ?_
          refine lv_dup2_11 hx hb d_M_grow_70 rfl rfl ?_
          refine r_iald hx hb hK hP 3 1 rfl rfl (by decide) (by omega) d_M_grow_71 ?_
          refine lv_iconst (v := nI 1) hx hb d_M_grow_72 (by decide) ?_
          refine r_add hx hb d_M_grow_73 ?_
          refine r_iast (ws' := wMe E x.cel (va_up x.kin (60 + 20 * v + x.msz v) (x.kin b)) (va_up x.mv (60 + 20 * v + x.msz v) (x.mv b)) x.st x.mm (va_up x.msz v (x.msz v + 1)) f x.full) hx hb hK hP (wM_D hz) hS 3 1 rfl rfl (by decide) (by omega) rfl d_M_grow_74 (fun H locs hP hS => ?_)
          refine lv_aload_n hx hb d_M_grow_75 rfl (lv_at hl 1 rfl) ?_
          refine r_get hx hb hts hown hK hP 0 rfl rfl in_M 5 (by decide) kf_M_17 rfl d_M_grow_76 ?_
          refine lv_iload_n hx hb d_M_grow_79 rfl (lv_at hl 0 rfl) ?_
          refine r_iald hx hb hK hP 3 1 rfl rfl (by decide) (by omega) d_M_grow_80 ?_
          refine r_top (congrArg nI (va_up_self _ _ _)) ?_
          exact hend _ _ (MS.mk x.cel (va_up x.kin (60 + 20 * v + x.msz v) (x.kin b)) (va_up x.mv (60 + 20 * v + x.msz v) (x.mv b)) x.st x.mm (va_up x.msz v (x.msz v + 1)) f x.full) _ _ _ hP hS d_M_grow_81 (OBJ.y (by omega) hj h2 hv he (IX.y (by decide) hb' ⟨fun z => absurd z h0, fun _ => ⟨f, hf1, Or.inr ⟨rfl, hsr, rfl⟩⟩⟩))
        · rw [hxe] at hP
          refine r_ifne (tgt := 43) hx hb d_M_grow_38 (by decide) (by omega) (fun c_38 => absurd c_38 (by omega)) (fun c_38 => ?_)
          refine lv_iconst (v := nI 0) hx hb d_M_grow_41 (by decide) ?_
          exact hend _ _ (MS.mk x.cel x.kin x.mv x.st x.mm x.msz f (x.full + nI 1)) _ _ _ hP hS d_M_grow_42 (OBJ.y (by omega) hj h2 hv he (IX.y (by decide) hb' ⟨fun z => absurd z h0, fun _ => ⟨f, hf1, Or.inl ⟨rfl, hsr, rfl⟩⟩⟩))
    · refine r_meti (by decide) (Nat.le_of_ble_eq_true rfl) ?_
      intro p e s m args below meth c Q ls hx hb S hK hz hend hl hP hS
      have hts := S.2.2.2.2
      have hown := S.2.2.2.1
      refine lv_aload_n hx hb d_M_grow_0 rfl (lv_at hl 0 rfl) ?_
      refine lv_iload_n hx hb d_M_grow_1 rfl (lv_at hl 1 rfl) ?_
      refine r_calli S (c_M_hasObjY l E (MS.mk x.cel x.kin x.mv x.st x.mm x.msz x.rch x.full) j hj h2) kc_M_hasObject k0_M km_M_62 ki_M_hasObject ks_M_hasObject hd_M_hasObject ⟨rfl, rfl⟩ ⟨by decide, by decide⟩ (zM_ok E) hz hK hP hS (fun _ h => h) 0 rfl rfl rfl hl.1 rfl (Nat.le_of_ble_eq_true rfl) ⟨Nat.zero_le _, Nat.zero_le _⟩ d_M_grow_2 (fun r1 x1 H locs hw hP _ _ hS => ?_)
      obtain ⟨hr1, hx1⟩ := hw
      subst hr1 hx1
      have hP : va_P E.D classes (wMe E x.cel x.kin x.mv x.st x.mm x.msz x.rch x.full) H := hP
      refine r_ifeq (tgt := 31) hx hb d_M_grow_5 (by decide) (by omega) (fun c_5 => absurd c_5 (by omega)) (fun c_5 => ?_)
      refine lv_iload_n hx hb d_M_grow_8 rfl (lv_at hl 2 rfl) ?_
      refine r_calls S (c_M_isRegister0 l t hr) kc_M_isRegister k0_M km_M_28 kt_M_isRegister hd_M_isRegister ⟨rfl, rfl⟩ ⟨by decide, by decide⟩ rfl hl.1 rfl (Nat.le_of_ble_eq_true rfl) ⟨Nat.zero_le _, Nat.zero_le _⟩ d_M_grow_9 ?_
      refine r_ifeq (tgt := 31) hx hb d_M_grow_12 (by decide) (by omega) (fun c_12 => ?_) (fun c_12 => absurd c_12 (by omega))
      refine lv_iconst (v := -1) hx hb d_M_grow_31 (by decide) ?_
      exact hend _ _ (MS.mk x.cel x.kin x.mv x.st x.mm x.msz x.rch x.full) _ _ _ hP hS d_M_grow_32 (OBJ.y (by omega) hj h2 hv he (IX.n (by decide) hr ⟨rfl, rfl⟩))
  · refine r_meti (by decide) (Nat.le_of_ble_eq_true rfl) ?_
    intro p e s m args below meth c Q ls hx hb S hK hz hend hl hP hS
    have hts := S.2.2.2.2
    have hown := S.2.2.2.1
    refine lv_aload_n hx hb d_M_grow_0 rfl (lv_at hl 0 rfl) ?_
    refine lv_iload_n hx hb d_M_grow_1 rfl (lv_at hl 1 rfl) ?_
    refine r_calli S (c_M_hasObjN l E (MS.mk x.cel x.kin x.mv x.st x.mm x.msz x.rch x.full) r h.1 hno) kc_M_hasObject k0_M km_M_62 ki_M_hasObject ks_M_hasObject hd_M_hasObject ⟨rfl, rfl⟩ ⟨by decide, by decide⟩ (zM_ok E) hz hK hP hS (fun _ h => h) 0 rfl rfl rfl hl.1 rfl (Nat.le_of_ble_eq_true rfl) ⟨Nat.zero_le _, Nat.zero_le _⟩ d_M_grow_2 (fun r1 x1 H locs hw hP _ _ hS => ?_)
    obtain ⟨hr1, hx1⟩ := hw
    subst hr1 hx1
    have hP : va_P E.D classes (wMe E x.cel x.kin x.mv x.st x.mm x.msz x.rch x.full) H := hP
    refine r_ifeq (tgt := 31) hx hb d_M_grow_5 (by decide) (by omega) (fun c_5 => ?_) (fun c_5 => absurd c_5 (by omega))
    refine lv_iconst (v := -1) hx hb d_M_grow_31 (by decide) ?_
    exact hend _ _ (MS.mk x.cel x.kin x.mv x.st x.mm x.msz x.rch x.full) _ _ _ hP hS d_M_grow_32 (OBJ.n hno ⟨rfl, rfl⟩)
set_option maxHeartbeats 4000000 in
set_option maxRecDepth 100000 in
theorem c_M_shrink (l : Launch) (E : KX) (x : MS) (r : Int32) (h : MI x) : Yi l E y_M_shrink w_M_shrink rm_M_shrink [.ref (E.ad 11), .int r] x (fun q x' => OBJ x.kin x.mv x.mm r (fun j v => (x.msz v = 0 → q = -1 ∧ x' = x) ∧ (x.msz v ≠ 0 → q = nI (x.msz v - 1) ∧ x' = MS.mk x.cel (va_up x.kin (60 + 20 * v + (x.msz v - 1)) 0) (va_up x.mv (60 + 20 * v + (x.msz v - 1)) (nI 0)) x.st x.mm (va_up x.msz v (x.msz v - 1)) x.rch x.full)) (q = -1 ∧ x' = x)) := by
  have hmm := h.2.2.2.2.2.1
  rcases ob_cases h.ro r with ⟨j, v, hj, rfl, h2, hv, he⟩ | hno
  · have hs := h.2.1 v
    by_cases h0 : x.msz v = 0
    · refine r_meti (by decide) (Nat.le_of_ble_eq_true rfl) ?_
      intro p e s m args below meth c Q ls hx hb S hK hz hend hl hP hS
      have hts := S.2.2.2.2
      have hown := S.2.2.2.1
      refine lv_aload_n hx hb d_M_shrink_0 rfl (lv_at hl 0 rfl) ?_
      refine lv_iload_n hx hb d_M_shrink_1 rfl (lv_at hl 1 rfl) ?_
      refine r_calli S (c_M_hasObjY l E (MS.mk x.cel x.kin x.mv x.st x.mm x.msz x.rch x.full) j hj h2) kc_M_hasObject k0_M km_M_62 ki_M_hasObject ks_M_hasObject hd_M_hasObject ⟨rfl, rfl⟩ ⟨by decide, by decide⟩ (zM_ok E) hz hK hP hS (fun _ h => h) 0 rfl rfl rfl hl.1 rfl (Nat.le_of_ble_eq_true rfl) ⟨Nat.zero_le _, Nat.zero_le _⟩ d_M_shrink_2 (fun r1 x1 H locs hw hP _ _ hS => ?_)
      obtain ⟨hr1, hx1⟩ := hw
      subst hr1 hx1
      have hP : va_P E.D classes (wMe E x.cel x.kin x.mv x.st x.mm x.msz x.rch x.full) H := hP
      refine r_ifeq (tgt := 22) hx hb d_M_shrink_5 (by decide) (by omega) (fun c_5 => absurd c_5 (by omega)) (fun c_5 => ?_)
      refine lv_aload_n hx hb d_M_shrink_8 rfl (lv_at hl 0 rfl) ?_
      refine r_get hx hb hts hown hK hP 0 rfl rfl in_M 5 (by decide) kf_M_17 rfl d_M_shrink_9 ?_
      refine lv_aload_n hx hb d_M_shrink_12 rfl (lv_at hl 0 rfl) ?_
      refine r_get hx hb hts hown hK hP 0 rfl rfl in_M 2 (by decide) kf_M_13 rfl d_M_shrink_13 ?_
      refine lv_iload_n hx hb d_M_shrink_16 rfl (lv_at hl 1 rfl) ?_
      refine r_iald hx hb hK hP 2 1 rfl rfl (by decide) (by omega) d_M_shrink_17 ?_
      refine r_top (he) ?_
      refine r_iald hx hb hK hP 3 1 rfl rfl (by decide) (by omega) d_M_shrink_18 ?_
      refine r_ifne (tgt := 24) hx hb d_M_shrink_19 (by decide) (by omega) (fun c_19 => absurd c_19 (fun q => q h0)) (fun c_19 => ?_)
      refine lv_iconst (v := -1) hx hb d_M_shrink_22 (by decide) ?_
      exact hend _ _ (MS.mk x.cel x.kin x.mv x.st x.mm x.msz x.rch x.full) _ _ _ hP hS d_M_shrink_23 (OBJ.y (by omega) hj h2 hv he (⟨fun _ => ⟨rfl, rfl⟩, fun z => absurd h0 z⟩))
    · refine r_meti (by decide) (Nat.le_of_ble_eq_true rfl) ?_
      intro p e s m args below meth c Q ls hx hb S hK hz hend hl hP hS
      have hts := S.2.2.2.2
      have hown := S.2.2.2.1
      refine lv_aload_n hx hb d_M_shrink_0 rfl (lv_at hl 0 rfl) ?_
      refine lv_iload_n hx hb d_M_shrink_1 rfl (lv_at hl 1 rfl) ?_
      refine r_calli S (c_M_hasObjY l E (MS.mk x.cel x.kin x.mv x.st x.mm x.msz x.rch x.full) j hj h2) kc_M_hasObject k0_M km_M_62 ki_M_hasObject ks_M_hasObject hd_M_hasObject ⟨rfl, rfl⟩ ⟨by decide, by decide⟩ (zM_ok E) hz hK hP hS (fun _ h => h) 0 rfl rfl rfl hl.1 rfl (Nat.le_of_ble_eq_true rfl) ⟨Nat.zero_le _, Nat.zero_le _⟩ d_M_shrink_2 (fun r1 x1 H locs hw hP _ _ hS => ?_)
      obtain ⟨hr1, hx1⟩ := hw
      subst hr1 hx1
      have hP : va_P E.D classes (wMe E x.cel x.kin x.mv x.st x.mm x.msz x.rch x.full) H := hP
      refine r_ifeq (tgt := 22) hx hb d_M_shrink_5 (by decide) (by omega) (fun c_5 => absurd c_5 (by omega)) (fun c_5 => ?_)
      refine lv_aload_n hx hb d_M_shrink_8 rfl (lv_at hl 0 rfl) ?_
      refine r_get hx hb hts hown hK hP 0 rfl rfl in_M 5 (by decide) kf_M_17 rfl d_M_shrink_9 ?_
      refine lv_aload_n hx hb d_M_shrink_12 rfl (lv_at hl 0 rfl) ?_
      refine r_get hx hb hts hown hK hP 0 rfl rfl in_M 2 (by decide) kf_M_13 rfl d_M_shrink_13 ?_
      refine lv_iload_n hx hb d_M_shrink_16 rfl (lv_at hl 1 rfl) ?_
      refine r_iald hx hb hK hP 2 1 rfl rfl (by decide) (by omega) d_M_shrink_17 ?_
      refine r_top (he) ?_
      refine r_iald hx hb hK hP 3 1 rfl rfl (by decide) (by omega) d_M_shrink_18 ?_
      refine r_ifne (tgt := 24) hx hb d_M_shrink_19 (by decide) (by omega) (fun c_19 => ?_) (fun c_19 => absurd c_19 h0)
      refine lv_aload_n hx hb d_M_shrink_24 rfl (lv_at hl 0 rfl) ?_
      refine r_get hx hb hts hown hK hP 0 rfl rfl in_M 2 (by decide) kf_M_13 rfl d_M_shrink_25 ?_
      refine lv_iload_n hx hb d_M_shrink_28 rfl (lv_at hl 1 rfl) ?_
      refine r_iald hx hb hK hP 2 1 rfl rfl (by decide) (by omega) d_M_shrink_29 ?_
      refine r_top (he) ?_
      refine lv_istore_n hx hb d_M_shrink_30 rfl hl (by decide) rfl (fun ls hl => ?_)
      refine lv_aload_n hx hb d_M_shrink_31 rfl (lv_at hl 1 rfl) ?_
      refine r_get hx hb hts hown hK hP 0 rfl rfl in_M 5 (by decide) kf_M_17 rfl d_M_shrink_32 ?_
      refine lv_iload_n hx hb d_M_shrink_35 rfl (lv_at hl 0 rfl) ?_
      refine lv_dup2_11 hx hb d_M_shrink_36 rfl rfl ?_
      refine r_iald hx hb hK hP 3 1 rfl rfl (by decide) (by omega) d_M_shrink_37 ?_
      refine lv_iconst (v := nI 1) hx hb d_M_shrink_38 (by decide) ?_
      refine r_sub hx hb (by omega) d_M_shrink_39 ?_
      refine r_iast (ws' := wMe E x.cel x.kin x.mv x.st x.mm (va_up x.msz v (x.msz v - 1)) x.rch x.full) hx hb hK hP (wM_D hz) hS 3 1 rfl rfl (by decide) (by omega) rfl d_M_shrink_40 (fun H locs hP hS => ?_)
      refine lv_aload_n hx hb d_M_shrink_41 rfl (lv_at hl 1 rfl) ?_
      refine lv_iload_n hx hb d_M_shrink_42 rfl (lv_at hl 0 rfl) ?_
      refine lv_aload_n hx hb d_M_shrink_43 rfl (lv_at hl 1 rfl) ?_
      refine r_get hx hb hts hown hK hP 0 rfl rfl in_M 5 (by decide) kf_M_17 rfl d_M_shrink_44 ?_
      refine lv_iload_n hx hb d_M_shrink_47 rfl (lv_at hl 0 rfl) ?_
      refine r_iald hx hb hK hP 3 1 rfl rfl (by decide) (by omega) d_M_shrink_48 ?_
      refine r_top (congrArg nI (va_up_self _ _ _)) ?_
      refine r_calls S (c_M_placeOf l v (x.msz v - 1)) kc_M_placeOf k0_M km_M_41 kt_M_placeOf hd_M_placeOf ⟨rfl, rfl⟩ ⟨by decide, by decide⟩ rfl hl.1 rfl (Nat.le_of_ble_eq_true rfl) ⟨Nat.zero_le _, Nat.zero_le _⟩ d_M_shrink_49 ?_
      refine r_callv S (c_M_empty l E (MS.mk x.cel x.kin x.mv x.st x.mm (va_up x.msz v (x.msz v - 1)) x.rch x.full) (60 + 20 * v + (x.msz v - 1)) (by omega)) kc_M_empty k0_M km_M_65 ki_M_empty ks_M_empty hd_M_empty ⟨rfl, rfl⟩ ⟨by decide, by decide⟩ (zM_ok E) hz hK hP hS (fun _ h => h) 0 rfl rfl rfl hl.1 rfl (Nat.le_of_ble_eq_true rfl) ⟨Nat.zero_le _, Nat.zero_le _⟩ d_M_shrink_52 (fun x1 H locs hw hP _ _ hS => ?_)
      simp only [MS.mk_cel, MS.mk_kin, MS.mk_mv, MS.mk_st, MS.mk_mm, MS.mk_msz, MS.mk_rch, MS.mk_full] at hw
      subst hw
      have hP : va_P E.D classes (wMe E x.cel (va_up x.kin (60 + 20 * v + (x.msz v - 1)) 0) (va_up x.mv (60 + 20 * v + (x.msz v - 1)) (nI 0)) x.st x.mm (va_up x.msz v (x.msz v - 1)) x.rch x.full) H := hP
      refine lv_aload_n hx hb d_M_shrink_55 rfl (lv_at hl 1 rfl) ?_
      refine r_get hx hb hts hown hK hP 0 rfl rfl in_M 5 (by decide) kf_M_17 rfl d_M_shrink_56 ?_
      refine lv_iload_n hx hb d_M_shrink_59 rfl (lv_at hl 0 rfl) ?_
      refine r_iald hx hb hK hP 3 1 rfl rfl (by decide) (by omega) d_M_shrink_60 ?_
      refine r_top (congrArg nI (va_up_self _ _ _)) ?_
      exact hend _ _ (MS.mk x.cel (va_up x.kin (60 + 20 * v + (x.msz v - 1)) 0) (va_up x.mv (60 + 20 * v + (x.msz v - 1)) (nI 0)) x.st x.mm (va_up x.msz v (x.msz v - 1)) x.rch x.full) _ _ _ hP hS d_M_shrink_61 (OBJ.y (by omega) hj h2 hv he (⟨fun z => absurd z h0, fun _ => ⟨rfl, rfl⟩⟩))
  · refine r_meti (by decide) (Nat.le_of_ble_eq_true rfl) ?_
    intro p e s m args below meth c Q ls hx hb S hK hz hend hl hP hS
    have hts := S.2.2.2.2
    have hown := S.2.2.2.1
    refine lv_aload_n hx hb d_M_shrink_0 rfl (lv_at hl 0 rfl) ?_
    refine lv_iload_n hx hb d_M_shrink_1 rfl (lv_at hl 1 rfl) ?_
    refine r_calli S (c_M_hasObjN l E (MS.mk x.cel x.kin x.mv x.st x.mm x.msz x.rch x.full) r h.1 hno) kc_M_hasObject k0_M km_M_62 ki_M_hasObject ks_M_hasObject hd_M_hasObject ⟨rfl, rfl⟩ ⟨by decide, by decide⟩ (zM_ok E) hz hK hP hS (fun _ h => h) 0 rfl rfl rfl hl.1 rfl (Nat.le_of_ble_eq_true rfl) ⟨Nat.zero_le _, Nat.zero_le _⟩ d_M_shrink_2 (fun r1 x1 H locs hw hP _ _ hS => ?_)
    obtain ⟨hr1, hx1⟩ := hw
    subst hr1 hx1
    have hP : va_P E.D classes (wMe E x.cel x.kin x.mv x.st x.mm x.msz x.rch x.full) H := hP
    refine r_ifeq (tgt := 22) hx hb d_M_shrink_5 (by decide) (by omega) (fun c_5 => ?_) (fun c_5 => absurd c_5 (by omega))
    refine lv_iconst (v := -1) hx hb d_M_shrink_22 (by decide) ?_
    exact hend _ _ (MS.mk x.cel x.kin x.mv x.st x.mm x.msz x.rch x.full) _ _ _ hP hS d_M_shrink_23 (OBJ.n hno ⟨rfl, rfl⟩)
end
section
set_option maxHeartbeats 4000000 in
set_option maxRecDepth 100000 in
theorem c_M_number (l : Launch) (E : KX) (x : MS) (r v : Int32) (h : MI x) : Yi l E y_M_number w_M_number rm_M_number [.ref (E.ad 11), .int r, .int v] x (fun q x' => IX r 10 (fun a => q = nI 1 ∧ x' = MS.mk x.cel (va_up x.kin a 1) (va_up x.mv a v) x.st x.mm x.msz x.rch x.full) (q = nI 0 ∧ x' = x)) := by
  rcases ix_cases r (n := 10) (by decide) with ⟨a, ha, rfl⟩ | hr
  · refine r_metz (by decide) (Nat.le_of_ble_eq_true rfl) ?_
    intro p e s m args below meth c Q ls hx hb S hK hz hend hl hP hS
    have hts := S.2.2.2.2
    have hown := S.2.2.2.1
    refine lv_iload_n hx hb d_M_number_0 rfl (lv_at hl 1 rfl) ?_
    refine r_calls S (c_M_isRegister1 l a ha) kc_M_isRegister k0_M km_M_28 kt_M_isRegister hd_M_isRegister ⟨rfl, rfl⟩ ⟨by decide, by decide⟩ rfl hl.1 rfl (Nat.le_of_ble_eq_true rfl) ⟨Nat.zero_le _, Nat.zero_le _⟩ d_M_number_1 ?_
    refine r_ifne (tgt := 9) hx hb d_M_number_4 (by decide) (by omega) (fun c_4 => ?_) (fun c_4 => absurd c_4 (by omega))
    refine lv_aload_n hx hb d_M_number_9 rfl (lv_at hl 0 rfl) ?_
    refine r_get hx hb hts hown hK hP 0 rfl rfl in_M 1 (by decide) kf_M_7 rfl d_M_number_10 ?_
    refine lv_iload_n hx hb d_M_number_13 rfl (lv_at hl 1 rfl) ?_
    refine lv_iconst (v := nI 1) hx hb d_M_number_14 (by decide) ?_
    refine r_bast (ws' := wMe E x.cel (va_up x.kin a 1) x.mv x.st x.mm x.msz x.rch x.full) hx hb hK hP (wM_D hz) hS 1 0 rfl rfl (by decide) (by omega) (by omega) rfl d_M_number_15 (fun H locs hP hS => ?_)
    refine lv_aload_n hx hb d_M_number_16 rfl (lv_at hl 0 rfl) ?_
    refine r_get hx hb hts hown hK hP 0 rfl rfl in_M 2 (by decide) kf_M_13 rfl d_M_number_17 ?_
    refine lv_iload_n hx hb d_M_number_20 rfl (lv_at hl 1 rfl) ?_
    refine lv_iload_n hx hb d_M_number_21 rfl (lv_at hl 2 rfl) ?_
    refine r_vast (ws' := wMe E x.cel (va_up x.kin a 1) (va_up x.mv a v) x.st x.mm x.msz x.rch x.full) hx hb hK hP (wM_D hz) hS 2 1 rfl rfl (by decide) (by omega) rfl d_M_number_22 (fun H locs hP hS => ?_)
    refine lv_iconst (v := nI 1) hx hb d_M_number_23 (by decide) ?_
    exact hend _ _ (MS.mk x.cel (va_up x.kin a 1) (va_up x.mv a v) x.st x.mm x.msz x.rch x.full) _ _ _ (by decide) hP hS d_M_number_24 (IX.y (by decide) ha ⟨rfl, rfl⟩)
  · refine r_metz (by decide) (Nat.le_of_ble_eq_true rfl) ?_
    intro p e s m args below meth c Q ls hx hb S hK hz hend hl hP hS
    have hts := S.2.2.2.2
    have hown := S.2.2.2.1
    refine lv_iload_n hx hb d_M_number_0 rfl (lv_at hl 1 rfl) ?_
    refine r_calls S (c_M_isRegister0 l r hr) kc_M_isRegister k0_M km_M_28 kt_M_isRegister hd_M_isRegister ⟨rfl, rfl⟩ ⟨by decide, by decide⟩ rfl hl.1 rfl (Nat.le_of_ble_eq_true rfl) ⟨Nat.zero_le _, Nat.zero_le _⟩ d_M_number_1 ?_
    refine r_ifne (tgt := 9) hx hb d_M_number_4 (by decide) (by omega) (fun c_4 => absurd c_4 (by omega)) (fun c_4 => ?_)
    refine lv_iconst (v := nI 0) hx hb d_M_number_7 (by decide) ?_
    exact hend _ _ (MS.mk x.cel x.kin x.mv x.st x.mm x.msz x.rch x.full) _ _ _ (by decide) hP hS d_M_number_8 (IX.n (by decide) hr ⟨rfl, rfl⟩)
set_option maxHeartbeats 4000000 in
set_option maxRecDepth 100000 in
theorem c_M_copy (l : Launch) (E : KX) (x : MS) (r t : Int32) (h : MI x) : Yi l E y_M_copy w_M_copy rm_M_copy [.ref (E.ad 11), .int r, .int t] x (fun q x' => IX r 10 (fun a => (t = -1 → q = nI 1 ∧ x' = MS.mk x.cel (va_up x.kin a 0) (va_up x.mv a (nI 0)) x.st x.mm x.msz x.rch x.full) ∧ (t ≠ -1 → IX t 10 (fun b => q = nI 1 ∧ x' = MS.mk x.cel (va_up x.kin a (x.kin b)) (va_up x.mv a (x.mv b)) x.st x.mm x.msz x.rch x.full) (q = nI 0 ∧ x' = x))) (q = nI 0 ∧ x' = x)) := by
  rcases ix_cases r (n := 10) (by decide) with ⟨a, ha, rfl⟩ | hr
  · by_cases ht : t = -1
    · subst ht
      refine r_metz (by decide) (Nat.le_of_ble_eq_true rfl) ?_
      intro p e s m args below meth c Q ls hx hb S hK hz hend hl hP hS
      have hts := S.2.2.2.2
      have hown := S.2.2.2.1
      refine lv_iload_n hx hb d_M_copy_0 rfl (lv_at hl 1 rfl) ?_
      refine r_calls S (c_M_isRegister1 l a ha) kc_M_isRegister k0_M km_M_28 kt_M_isRegister hd_M_isRegister ⟨rfl, rfl⟩ ⟨by decide, by decide⟩ rfl hl.1 rfl (Nat.le_of_ble_eq_true rfl) ⟨Nat.zero_le _, Nat.zero_le _⟩ d_M_copy_1 ?_
      refine r_ifeq (tgt := 19) hx hb d_M_copy_4 (by decide) (by omega) (fun c_4 => absurd c_4 (by omega)) (fun c_4 => ?_)
      refine lv_iload_n hx hb d_M_copy_7 rfl (lv_at hl 2 rfl) ?_
      refine lv_iconst (v := -1) hx hb d_M_copy_8 (by decide) ?_
      refine lv_icmp_eq (tgt := 21) hx hb d_M_copy_9 (by decide) (fun c_9 => ?_) (fun c_9 => absurd c_9 (fun q => q rfl))
      refine lv_iload_n hx hb d_M_copy_21 rfl (lv_at hl 2 rfl) ?_
      refine lv_iconst (v := -1) hx hb d_M_copy_22 (by decide) ?_
      refine lv_icmp_ne (tgt := 34) hx hb d_M_copy_23 (by decide) (fun c_23 => absurd c_23 (fun q => q rfl)) (fun c_23 => ?_)
      refine lv_aload_n hx hb d_M_copy_26 rfl (lv_at hl 0 rfl) ?_
      refine lv_iload_n hx hb d_M_copy_27 rfl (lv_at hl 1 rfl) ?_
      refine r_callv S (c_M_empty l E (MS.mk x.cel x.kin x.mv x.st x.mm x.msz x.rch x.full) a (by omega)) kc_M_empty k0_M km_M_65 ki_M_empty ks_M_empty hd_M_empty ⟨rfl, rfl⟩ ⟨by decide, by decide⟩ (zM_ok E) hz hK hP hS (fun _ h => h) 0 rfl rfl rfl hl.1 rfl (Nat.le_of_ble_eq_true rfl) ⟨Nat.zero_le _, Nat.zero_le _⟩ d_M_copy_28 (fun x1 H locs hw hP _ _ hS => ?_)
      simp only [MS.mk_cel, MS.mk_kin, MS.mk_mv, MS.mk_st, MS.mk_mm, MS.mk_msz, MS.mk_rch, MS.mk_full] at hw
      subst hw
      have hP : va_P E.D classes (wMe E x.cel (va_up x.kin a 0) (va_up x.mv a (nI 0)) x.st x.mm x.msz x.rch x.full) H := hP
      refine lv_goto (tgt := 40) hx hb d_M_copy_31 (by decide) ?_
      refine lv_iconst (v := nI 1) hx hb d_M_copy_40 (by decide) ?_
      exact hend _ _ (MS.mk x.cel (va_up x.kin a 0) (va_up x.mv a (nI 0)) x.st x.mm x.msz x.rch x.full) _ _ _ (by decide) hP hS d_M_copy_41 (IX.y (by decide) ha ⟨fun _ => ⟨rfl, rfl⟩, fun z => absurd rfl z⟩)
    · rcases ix_cases t (n := 10) (by decide) with ⟨b, hb', rfl⟩ | ht2
      · refine r_metz (by decide) (Nat.le_of_ble_eq_true rfl) ?_
        intro p e s m args below meth c Q ls hx hb S hK hz hend hl hP hS
        have hts := S.2.2.2.2
        have hown := S.2.2.2.1
        refine lv_iload_n hx hb d_M_copy_0 rfl (lv_at hl 1 rfl) ?_
        refine r_calls S (c_M_isRegister1 l a ha) kc_M_isRegister k0_M km_M_28 kt_M_isRegister hd_M_isRegister ⟨rfl, rfl⟩ ⟨by decide, by decide⟩ rfl hl.1 rfl (Nat.le_of_ble_eq_true rfl) ⟨Nat.zero_le _, Nat.zero_le _⟩ d_M_copy_1 ?_
        refine r_ifeq (tgt := 19) hx hb d_M_copy_4 (by decide) (by omega) (fun c_4 => absurd c_4 (by omega)) (fun c_4 => ?_)
        refine lv_iload_n hx hb d_M_copy_7 rfl (lv_at hl 2 rfl) ?_
        refine lv_iconst (v := -1) hx hb d_M_copy_8 (by decide) ?_
        refine lv_icmp_eq (tgt := 21) hx hb d_M_copy_9 (by decide) (fun c_9 => absurd c_9 ht) (fun c_9 => ?_)
        refine lv_iload_n hx hb d_M_copy_12 rfl (lv_at hl 2 rfl) ?_
        refine r_calls S (c_M_isRegister1 l b hb') kc_M_isRegister k0_M km_M_28 kt_M_isRegister hd_M_isRegister ⟨rfl, rfl⟩ ⟨by decide, by decide⟩ rfl hl.1 rfl (Nat.le_of_ble_eq_true rfl) ⟨Nat.zero_le _, Nat.zero_le _⟩ d_M_copy_13 ?_
        refine r_ifne (tgt := 21) hx hb d_M_copy_16 (by decide) (by omega) (fun c_16 => ?_) (fun c_16 => absurd c_16 (by omega))
        refine lv_iload_n hx hb d_M_copy_21 rfl (lv_at hl 2 rfl) ?_
        refine lv_iconst (v := -1) hx hb d_M_copy_22 (by decide) ?_
        refine lv_icmp_ne (tgt := 34) hx hb d_M_copy_23 (by decide) (fun c_23 => ?_) (fun c_23 => absurd c_23 ht)
        refine lv_aload_n hx hb d_M_copy_34 rfl (lv_at hl 0 rfl) ?_
        refine lv_iload_n hx hb d_M_copy_35 rfl (lv_at hl 1 rfl) ?_
        refine lv_iload_n hx hb d_M_copy_36 rfl (lv_at hl 2 rfl) ?_
        refine r_callv S (c_M_move l E (MS.mk x.cel x.kin x.mv x.st x.mm x.msz x.rch x.full) a b (by omega) (by omega) (h.1 b)) kc_M_move k0_M km_M_58 ki_M_move ks_M_move hd_M_move ⟨rfl, rfl⟩ ⟨by decide, by decide⟩ (zM_ok E) hz hK hP hS (fun _ h => h) 0 rfl rfl rfl hl.1 rfl (Nat.le_of_ble_eq_true rfl) ⟨Nat.zero_le _, Nat.zero_le _⟩ d_M_copy_37 (fun x1 H locs hw hP _ _ hS => ?_)
        simp only [MS.mk_cel, MS.mk_kin, MS.mk_mv, MS.mk_st, MS.mk_mm, MS.mk_msz, MS.mk_rch, MS.mk_full] at hw
        subst hw
        have hP : va_P E.D classes (wMe E x.cel (va_up x.kin a (x.kin b)) (va_up x.mv a (x.mv b)) x.st x.mm x.msz x.rch x.full) H := hP
        refine lv_iconst (v := nI 1) hx hb d_M_copy_40 (by decide) ?_
        exact hend _ _ (MS.mk x.cel (va_up x.kin a (x.kin b)) (va_up x.mv a (x.mv b)) x.st x.mm x.msz x.rch x.full) _ _ _ (by decide) hP hS d_M_copy_41 (IX.y (by decide) ha ⟨fun z => absurd z ht, fun _ => IX.y (by decide) hb' ⟨rfl, rfl⟩⟩)
      · refine r_metz (by decide) (Nat.le_of_ble_eq_true rfl) ?_
        intro p e s m args below meth c Q ls hx hb S hK hz hend hl hP hS
        have hts := S.2.2.2.2
        have hown := S.2.2.2.1
        refine lv_iload_n hx hb d_M_copy_0 rfl (lv_at hl 1 rfl) ?_
        refine r_calls S (c_M_isRegister1 l a ha) kc_M_isRegister k0_M km_M_28 kt_M_isRegister hd_M_isRegister ⟨rfl, rfl⟩ ⟨by decide, by decide⟩ rfl hl.1 rfl (Nat.le_of_ble_eq_true rfl) ⟨Nat.zero_le _, Nat.zero_le _⟩ d_M_copy_1 ?_
        refine r_ifeq (tgt := 19) hx hb d_M_copy_4 (by decide) (by omega) (fun c_4 => absurd c_4 (by omega)) (fun c_4 => ?_)
        refine lv_iload_n hx hb d_M_copy_7 rfl (lv_at hl 2 rfl) ?_
        refine lv_iconst (v := -1) hx hb d_M_copy_8 (by decide) ?_
        refine lv_icmp_eq (tgt := 21) hx hb d_M_copy_9 (by decide) (fun c_9 => absurd c_9 ht) (fun c_9 => ?_)
        refine lv_iload_n hx hb d_M_copy_12 rfl (lv_at hl 2 rfl) ?_
        refine r_calls S (c_M_isRegister0 l t ht2) kc_M_isRegister k0_M km_M_28 kt_M_isRegister hd_M_isRegister ⟨rfl, rfl⟩ ⟨by decide, by decide⟩ rfl hl.1 rfl (Nat.le_of_ble_eq_true rfl) ⟨Nat.zero_le _, Nat.zero_le _⟩ d_M_copy_13 ?_
        refine r_ifne (tgt := 21) hx hb d_M_copy_16 (by decide) (by omega) (fun c_16 => absurd c_16 (by omega)) (fun c_16 => ?_)
        refine lv_iconst (v := nI 0) hx hb d_M_copy_19 (by decide) ?_
        exact hend _ _ (MS.mk x.cel x.kin x.mv x.st x.mm x.msz x.rch x.full) _ _ _ (by decide) hP hS d_M_copy_20 (IX.y (by decide) ha ⟨fun z => absurd z ht, fun _ => IX.n (by decide) ht2 ⟨rfl, rfl⟩⟩)
  · refine r_metz (by decide) (Nat.le_of_ble_eq_true rfl) ?_
    intro p e s m args below meth c Q ls hx hb S hK hz hend hl hP hS
    have hts := S.2.2.2.2
    have hown := S.2.2.2.1
    refine lv_iload_n hx hb d_M_copy_0 rfl (lv_at hl 1 rfl) ?_
    refine r_calls S (c_M_isRegister0 l r hr) kc_M_isRegister k0_M km_M_28 kt_M_isRegister hd_M_isRegister ⟨rfl, rfl⟩ ⟨by decide, by decide⟩ rfl hl.1 rfl (Nat.le_of_ble_eq_true rfl) ⟨Nat.zero_le _, Nat.zero_le _⟩ d_M_copy_1 ?_
    refine r_ifeq (tgt := 19) hx hb d_M_copy_4 (by decide) (by omega) (fun c_4 => ?_) (fun c_4 => absurd c_4 (by omega))
    refine lv_iconst (v := nI 0) hx hb d_M_copy_19 (by decide) ?_
    exact hend _ _ (MS.mk x.cel x.kin x.mv x.st x.mm x.msz x.rch x.full) _ _ _ (by decide) hP hS d_M_copy_20 (IX.n (by decide) hr ⟨rfl, rfl⟩)
set_option maxHeartbeats 4000000 in
set_option maxRecDepth 100000 in
theorem c_M_hasValueY (l : Launch) (E : KX) (x : MS) (j v n : Nat) (hj : j < 10) (h2 : x.kin j = 2) (hv : v < 520) (he : x.mv j = nI v) (hs : x.msz v ≤ 20) (hn : n < x.msz v) : Yi l E y_M_hasValue w_M_hasValue rm_M_hasValue [.ref (E.ad 11), .int (nI j), .int (nI n)] x (fun r x' => r = nI 1 ∧ x' = x) := by
  refine r_metz (by decide) (Nat.le_of_ble_eq_true rfl) ?_
  intro p e s m args below meth c Q ls hx hb S hK hz hend hl hP hS
  have hts := S.2.2.2.2
  have hown := S.2.2.2.1
  refine lv_aload_n hx hb d_M_hasValue_0 rfl (lv_at hl 0 rfl) ?_
  refine lv_iload_n hx hb d_M_hasValue_1 rfl (lv_at hl 1 rfl) ?_
  refine r_calli S (c_M_hasObjY l E (MS.mk x.cel x.kin x.mv x.st x.mm x.msz x.rch x.full) j hj h2) kc_M_hasObject k0_M km_M_62 ki_M_hasObject ks_M_hasObject hd_M_hasObject ⟨rfl, rfl⟩ ⟨by decide, by decide⟩ (zM_ok E) hz hK hP hS (fun _ h => h) 0 rfl rfl rfl hl.1 rfl (Nat.le_of_ble_eq_true rfl) ⟨Nat.zero_le _, Nat.zero_le _⟩ d_M_hasValue_2 (fun r1 x1 H locs hw hP _ _ hS => ?_)
  obtain ⟨hr1, hx1⟩ := hw
  subst hr1 hx1
  have hP : va_P E.D classes (wMe E x.cel x.kin x.mv x.st x.mm x.msz x.rch x.full) H := hP
  refine r_ifeq (tgt := 31) hx hb d_M_hasValue_5 (by decide) (by omega) (fun c_5 => absurd c_5 (by omega)) (fun c_5 => ?_)
  refine lv_iload_n hx hb d_M_hasValue_8 rfl (lv_at hl 2 rfl) ?_
  refine lv_if_lt (tgt := 31) hx hb d_M_hasValue_9 (by decide) (fun c_9 => absurd c_9 (nI_pos (by omega))) (fun c_9 => ?_)
  refine lv_iload_n hx hb d_M_hasValue_12 rfl (lv_at hl 2 rfl) ?_
  refine lv_aload_n hx hb d_M_hasValue_13 rfl (lv_at hl 0 rfl) ?_
  refine r_get hx hb hts hown hK hP 0 rfl rfl in_M 5 (by decide) kf_M_17 rfl d_M_hasValue_14 ?_
  refine lv_aload_n hx hb d_M_hasValue_17 rfl (lv_at hl 0 rfl) ?_
  refine r_get hx hb hts hown hK hP 0 rfl rfl in_M 2 (by decide) kf_M_13 rfl d_M_hasValue_18 ?_
  refine lv_iload_n hx hb d_M_hasValue_21 rfl (lv_at hl 1 rfl) ?_
  refine r_iald hx hb hK hP 2 1 rfl rfl (by decide) (by omega) d_M_hasValue_22 ?_
  refine r_top (he) ?_
  refine r_iald hx hb hK hP 3 1 rfl rfl (by decide) (by omega) d_M_hasValue_23 ?_
  refine r_ge (tgt := 31) hx hb d_M_hasValue_24 (by decide) (by omega) (by omega) (fun c_24 => absurd c_24 (by omega)) (fun c_24 => ?_)
  refine lv_iconst (v := nI 1) hx hb d_M_hasValue_27 (by decide) ?_
  refine lv_goto (tgt := 32) hx hb d_M_hasValue_28 (by decide) ?_
  exact hend _ _ (MS.mk x.cel x.kin x.mv x.st x.mm x.msz x.rch x.full) _ _ _ (by decide) hP hS d_M_hasValue_32 ⟨rfl, rfl⟩
set_option maxHeartbeats 4000000 in
set_option maxRecDepth 100000 in
theorem c_M_hasValueN (l : Launch) (E : KX) (x : MS) (r k : Int32) (h : MI x) (hh : NOB x.kin r ∨ ∃ j v, j < 10 ∧ r = nI j ∧ x.kin j = 2 ∧ v < 520 ∧ x.mv j = nI v ∧ (k < 0 ∨ nI (x.msz v) ≤ k)) : Yi l E y_M_hasValue w_M_hasValue rm_M_hasValue [.ref (E.ad 11), .int r, .int k] x (fun r x' => r = nI 0 ∧ x' = x) := by
  rcases hh with hno | ⟨j, v, hj, rfl, h2, hv, he, hk⟩
  · refine r_metz (by decide) (Nat.le_of_ble_eq_true rfl) ?_
    intro p e s m args below meth c Q ls hx hb S hK hz hend hl hP hS
    have hts := S.2.2.2.2
    have hown := S.2.2.2.1
    refine lv_aload_n hx hb d_M_hasValue_0 rfl (lv_at hl 0 rfl) ?_
    refine lv_iload_n hx hb d_M_hasValue_1 rfl (lv_at hl 1 rfl) ?_
    refine r_calli S (c_M_hasObjN l E (MS.mk x.cel x.kin x.mv x.st x.mm x.msz x.rch x.full) r h.1 hno) kc_M_hasObject k0_M km_M_62 ki_M_hasObject ks_M_hasObject hd_M_hasObject ⟨rfl, rfl⟩ ⟨by decide, by decide⟩ (zM_ok E) hz hK hP hS (fun _ h => h) 0 rfl rfl rfl hl.1 rfl (Nat.le_of_ble_eq_true rfl) ⟨Nat.zero_le _, Nat.zero_le _⟩ d_M_hasValue_2 (fun r1 x1 H locs hw hP _ _ hS => ?_)
    obtain ⟨hr1, hx1⟩ := hw
    subst hr1 hx1
    have hP : va_P E.D classes (wMe E x.cel x.kin x.mv x.st x.mm x.msz x.rch x.full) H := hP
    refine r_ifeq (tgt := 31) hx hb d_M_hasValue_5 (by decide) (by omega) (fun c_5 => ?_) (fun c_5 => absurd c_5 (by omega))
    refine lv_iconst (v := nI 0) hx hb d_M_hasValue_31 (by decide) ?_
    exact hend _ _ (MS.mk x.cel x.kin x.mv x.st x.mm x.msz x.rch x.full) _ _ _ (by decide) hP hS d_M_hasValue_32 ⟨rfl, rfl⟩
  · refine r_metz (by decide) (Nat.le_of_ble_eq_true rfl) ?_
    intro p e s m args below meth c Q ls hx hb S hK hz hend hl hP hS
    have hts := S.2.2.2.2
    have hown := S.2.2.2.1
    refine lv_aload_n hx hb d_M_hasValue_0 rfl (lv_at hl 0 rfl) ?_
    refine lv_iload_n hx hb d_M_hasValue_1 rfl (lv_at hl 1 rfl) ?_
    refine r_calli S (c_M_hasObjY l E (MS.mk x.cel x.kin x.mv x.st x.mm x.msz x.rch x.full) j hj h2) kc_M_hasObject k0_M km_M_62 ki_M_hasObject ks_M_hasObject hd_M_hasObject ⟨rfl, rfl⟩ ⟨by decide, by decide⟩ (zM_ok E) hz hK hP hS (fun _ h => h) 0 rfl rfl rfl hl.1 rfl (Nat.le_of_ble_eq_true rfl) ⟨Nat.zero_le _, Nat.zero_le _⟩ d_M_hasValue_2 (fun r1 x1 H locs hw hP _ _ hS => ?_)
    obtain ⟨hr1, hx1⟩ := hw
    subst hr1 hx1
    have hP : va_P E.D classes (wMe E x.cel x.kin x.mv x.st x.mm x.msz x.rch x.full) H := hP
    refine r_ifeq (tgt := 31) hx hb d_M_hasValue_5 (by decide) (by omega) (fun c_5 => absurd c_5 (by omega)) (fun c_5 => ?_)
    refine lv_iload_n hx hb d_M_hasValue_8 rfl (lv_at hl 2 rfl) ?_
    refine lv_if_lt (tgt := 31) hx hb d_M_hasValue_9 (by decide) (fun c_9 => ?_) (fun c_9 => ?_)
    · refine lv_iconst (v := nI 0) hx hb d_M_hasValue_31 (by decide) ?_
      exact hend _ _ (MS.mk x.cel x.kin x.mv x.st x.mm x.msz x.rch x.full) _ _ _ (by decide) hP hS d_M_hasValue_32 ⟨rfl, rfl⟩
    · refine lv_iload_n hx hb d_M_hasValue_12 rfl (lv_at hl 2 rfl) ?_
      refine lv_aload_n hx hb d_M_hasValue_13 rfl (lv_at hl 0 rfl) ?_
      refine r_get hx hb hts hown hK hP 0 rfl rfl in_M 5 (by decide) kf_M_17 rfl d_M_hasValue_14 ?_
      refine lv_aload_n hx hb d_M_hasValue_17 rfl (lv_at hl 0 rfl) ?_
      refine r_get hx hb hts hown hK hP 0 rfl rfl in_M 2 (by decide) kf_M_13 rfl d_M_hasValue_18 ?_
      refine lv_iload_n hx hb d_M_hasValue_21 rfl (lv_at hl 1 rfl) ?_
      refine r_iald hx hb hK hP 2 1 rfl rfl (by decide) (by omega) d_M_hasValue_22 ?_
      refine r_top (he) ?_
      refine r_iald hx hb hK hP 3 1 rfl rfl (by decide) (by omega) d_M_hasValue_23 ?_
      refine lv_icmp_ge (tgt := 31) hx hb d_M_hasValue_24 (by decide) (fun c_24 => ?_) (fun c_24 => absurd c_24 (fun q => hk.elim c_9 q))
      refine lv_iconst (v := nI 0) hx hb d_M_hasValue_31 (by decide) ?_
      exact hend _ _ (MS.mk x.cel x.kin x.mv x.st x.mm x.msz x.rch x.full) _ _ _ (by decide) hP hS d_M_hasValue_32 ⟨rfl, rfl⟩
set_option maxHeartbeats 4000000 in
set_option maxRecDepth 100000 in
theorem c_M_get (l : Launch) (E : KX) (x : MS) (r t k : Int32) (h : MI x) : Yi l E y_M_get w_M_get rm_M_get [.ref (E.ad 11), .int r, .int t, .int k] x (fun q x' => IX r 10 (fun a => OBJ x.kin x.mv x.mm t (fun j v => IX k (x.msz v) (fun n => q = nI 1 ∧ x' = MS.mk x.cel (va_up x.kin a (x.kin (60 + 20 * v + n))) (va_up x.mv a (x.mv (60 + 20 * v + n))) x.st x.mm x.msz x.rch x.full) (q = nI 0 ∧ x' = x)) (q = nI 0 ∧ x' = x)) (q = nI 0 ∧ x' = x)) := by
  have hmm := h.2.2.2.2.2.1
  rcases ix_cases r (n := 10) (by decide) with ⟨a, ha, rfl⟩ | hr
  · rcases ob_cases h.ro t with ⟨j, v, hj, rfl, h2, hv, he⟩ | hno
    · have hs := h.2.1 v
      rcases ix_cases k (n := x.msz v) (by omega) with ⟨n, hn, rfl⟩ | hk
      · refine r_metz (by decide) (Nat.le_of_ble_eq_true rfl) ?_
        intro p e s m args below meth c Q ls hx hb S hK hz hend hl hP hS
        have hts := S.2.2.2.2
        have hown := S.2.2.2.1
        refine lv_iload_n hx hb d_M_get_0 rfl (lv_at hl 1 rfl) ?_
        refine r_calls S (c_M_isRegister1 l a ha) kc_M_isRegister k0_M km_M_28 kt_M_isRegister hd_M_isRegister ⟨rfl, rfl⟩ ⟨by decide, by decide⟩ rfl hl.1 rfl (Nat.le_of_ble_eq_true rfl) ⟨Nat.zero_le _, Nat.zero_le _⟩ d_M_get_1 ?_
        refine r_ifeq (tgt := 16) hx hb d_M_get_4 (by decide) (by omega) (fun c_4 => absurd c_4 (by omega)) (fun c_4 => ?_)
        refine lv_aload_n hx hb d_M_get_7 rfl (lv_at hl 0 rfl) ?_
        refine lv_iload_n hx hb d_M_get_8 rfl (lv_at hl 2 rfl) ?_
        refine lv_iload_n hx hb d_M_get_9 rfl (lv_at hl 3 rfl) ?_
        refine r_calli S (c_M_hasValueY l E (MS.mk x.cel x.kin x.mv x.st x.mm x.msz x.rch x.full) j v n hj h2 (by omega) he hs hn) kc_M_hasValue k0_M km_M_69 ki_M_hasValue ks_M_hasValue hd_M_hasValue ⟨rfl, rfl⟩ ⟨by decide, by decide⟩ (zM_ok E) hz hK hP hS (fun _ h => h) 0 rfl rfl rfl hl.1 rfl (Nat.le_of_ble_eq_true rfl) ⟨Nat.zero_le _, Nat.zero_le _⟩ d_M_get_10 (fun r1 x1 H locs hw hP _ _ hS => ?_)
        obtain ⟨hr1, hx1⟩ := hw
        subst hr1 hx1
        have hP : va_P E.D classes (wMe E x.cel x.kin x.mv x.st x.mm x.msz x.rch x.full) H := hP
        refine r_ifne (tgt := 18) hx hb d_M_get_13 (by decide) (by omega) (fun c_13 => ?_) (fun c_13 => absurd c_13 (by omega))
        refine lv_aload_n hx hb d_M_get_18 rfl (lv_at hl 0 rfl) ?_
        refine lv_iload_n hx hb d_M_get_19 rfl (lv_at hl 1 rfl) ?_
        refine lv_aload_n hx hb d_M_get_20 rfl (lv_at hl 0 rfl) ?_
        refine r_get hx hb hts hown hK hP 0 rfl rfl in_M 2 (by decide) kf_M_13 rfl d_M_get_21 ?_
        refine lv_iload_n hx hb d_M_get_24 rfl (lv_at hl 2 rfl) ?_
        refine r_iald hx hb hK hP 2 1 rfl rfl (by decide) (by omega) d_M_get_25 ?_
        refine r_top (he) ?_
        refine lv_iload_n hx hb d_M_get_26 rfl (lv_at hl 3 rfl) ?_
        refine r_calls S (c_M_placeOf l v n) kc_M_placeOf k0_M km_M_41 kt_M_placeOf hd_M_placeOf ⟨rfl, rfl⟩ ⟨by decide, by decide⟩ rfl hl.1 rfl (Nat.le_of_ble_eq_true rfl) ⟨Nat.zero_le _, Nat.zero_le _⟩ d_M_get_27 ?_
        refine r_callv S (c_M_move l E (MS.mk x.cel x.kin x.mv x.st x.mm x.msz x.rch x.full) a (60 + 20 * v + n) (by omega) (by omega) (h.1 _)) kc_M_move k0_M km_M_58 ki_M_move ks_M_move hd_M_move ⟨rfl, rfl⟩ ⟨by decide, by decide⟩ (zM_ok E) hz hK hP hS (fun _ h => h) 0 rfl rfl rfl hl.1 rfl (Nat.le_of_ble_eq_true rfl) ⟨Nat.zero_le _, Nat.zero_le _⟩ d_M_get_30 (fun x1 H locs hw hP _ _ hS => ?_)
        simp only [MS.mk_cel, MS.mk_kin, MS.mk_mv, MS.mk_st, MS.mk_mm, MS.mk_msz, MS.mk_rch, MS.mk_full] at hw
        subst hw
        have hP : va_P E.D classes (wMe E x.cel (va_up x.kin a (x.kin (60 + 20 * v + n))) (va_up x.mv a (x.mv (60 + 20 * v + n))) x.st x.mm x.msz x.rch x.full) H := hP
        refine lv_iconst (v := nI 1) hx hb d_M_get_33 (by decide) ?_
        exact hend _ _ (MS.mk x.cel (va_up x.kin a (x.kin (60 + 20 * v + n))) (va_up x.mv a (x.mv (60 + 20 * v + n))) x.st x.mm x.msz x.rch x.full) _ _ _ (by decide) hP hS d_M_get_34 (IX.y (by decide) ha (OBJ.y (by omega) hj h2 hv he (IX.y (by omega) hn ⟨rfl, rfl⟩)))
      · refine r_metz (by decide) (Nat.le_of_ble_eq_true rfl) ?_
        intro p e s m args below meth c Q ls hx hb S hK hz hend hl hP hS
        have hts := S.2.2.2.2
        have hown := S.2.2.2.1
        refine lv_iload_n hx hb d_M_get_0 rfl (lv_at hl 1 rfl) ?_
        refine r_calls S (c_M_isRegister1 l a ha) kc_M_isRegister k0_M km_M_28 kt_M_isRegister hd_M_isRegister ⟨rfl, rfl⟩ ⟨by decide, by decide⟩ rfl hl.1 rfl (Nat.le_of_ble_eq_true rfl) ⟨Nat.zero_le _, Nat.zero_le _⟩ d_M_get_1 ?_
        refine r_ifeq (tgt := 16) hx hb d_M_get_4 (by decide) (by omega) (fun c_4 => absurd c_4 (by omega)) (fun c_4 => ?_)
        refine lv_aload_n hx hb d_M_get_7 rfl (lv_at hl 0 rfl) ?_
        refine lv_iload_n hx hb d_M_get_8 rfl (lv_at hl 2 rfl) ?_
        refine lv_iload_n hx hb d_M_get_9 rfl (lv_at hl 3 rfl) ?_
        refine r_calli S (c_M_hasValueN l E (MS.mk x.cel x.kin x.mv x.st x.mm x.msz x.rch x.full) (nI j) k h (Or.inr ⟨j, v, hj, rfl, h2, by omega, he, hk⟩)) kc_M_hasValue k0_M km_M_69 ki_M_hasValue ks_M_hasValue hd_M_hasValue ⟨rfl, rfl⟩ ⟨by decide, by decide⟩ (zM_ok E) hz hK hP hS (fun _ h => h) 0 rfl rfl rfl hl.1 rfl (Nat.le_of_ble_eq_true rfl) ⟨Nat.zero_le _, Nat.zero_le _⟩ d_M_get_10 (fun r1 x1 H locs hw hP _ _ hS => ?_)
        obtain ⟨hr1, hx1⟩ := hw
        subst hr1 hx1
        have hP : va_P E.D classes (wMe E x.cel x.kin x.mv x.st x.mm x.msz x.rch x.full) H := hP
        refine r_ifne (tgt := 18) hx hb d_M_get_13 (by decide) (by omega) (fun c_13 => absurd c_13 (by omega)) (fun c_13 => ?_)
        refine lv_iconst (v := nI 0) hx hb d_M_get_16 (by decide) ?_
        exact hend _ _ (MS.mk x.cel x.kin x.mv x.st x.mm x.msz x.rch x.full) _ _ _ (by decide) hP hS d_M_get_17 (IX.y (by decide) ha (OBJ.y (by omega) hj h2 hv he (IX.n (by omega) hk ⟨rfl, rfl⟩)))
    · refine r_metz (by decide) (Nat.le_of_ble_eq_true rfl) ?_
      intro p e s m args below meth c Q ls hx hb S hK hz hend hl hP hS
      have hts := S.2.2.2.2
      have hown := S.2.2.2.1
      refine lv_iload_n hx hb d_M_get_0 rfl (lv_at hl 1 rfl) ?_
      refine r_calls S (c_M_isRegister1 l a ha) kc_M_isRegister k0_M km_M_28 kt_M_isRegister hd_M_isRegister ⟨rfl, rfl⟩ ⟨by decide, by decide⟩ rfl hl.1 rfl (Nat.le_of_ble_eq_true rfl) ⟨Nat.zero_le _, Nat.zero_le _⟩ d_M_get_1 ?_
      refine r_ifeq (tgt := 16) hx hb d_M_get_4 (by decide) (by omega) (fun c_4 => absurd c_4 (by omega)) (fun c_4 => ?_)
      refine lv_aload_n hx hb d_M_get_7 rfl (lv_at hl 0 rfl) ?_
      refine lv_iload_n hx hb d_M_get_8 rfl (lv_at hl 2 rfl) ?_
      refine lv_iload_n hx hb d_M_get_9 rfl (lv_at hl 3 rfl) ?_
      refine r_calli S (c_M_hasValueN l E (MS.mk x.cel x.kin x.mv x.st x.mm x.msz x.rch x.full) t k h (Or.inl hno)) kc_M_hasValue k0_M km_M_69 ki_M_hasValue ks_M_hasValue hd_M_hasValue ⟨rfl, rfl⟩ ⟨by decide, by decide⟩ (zM_ok E) hz hK hP hS (fun _ h => h) 0 rfl rfl rfl hl.1 rfl (Nat.le_of_ble_eq_true rfl) ⟨Nat.zero_le _, Nat.zero_le _⟩ d_M_get_10 (fun r1 x1 H locs hw hP _ _ hS => ?_)
      obtain ⟨hr1, hx1⟩ := hw
      subst hr1 hx1
      have hP : va_P E.D classes (wMe E x.cel x.kin x.mv x.st x.mm x.msz x.rch x.full) H := hP
      refine r_ifne (tgt := 18) hx hb d_M_get_13 (by decide) (by omega) (fun c_13 => absurd c_13 (by omega)) (fun c_13 => ?_)
      refine lv_iconst (v := nI 0) hx hb d_M_get_16 (by decide) ?_
      exact hend _ _ (MS.mk x.cel x.kin x.mv x.st x.mm x.msz x.rch x.full) _ _ _ (by decide) hP hS d_M_get_17 (IX.y (by decide) ha (OBJ.n hno ⟨rfl, rfl⟩))
  · refine r_metz (by decide) (Nat.le_of_ble_eq_true rfl) ?_
    intro p e s m args below meth c Q ls hx hb S hK hz hend hl hP hS
    have hts := S.2.2.2.2
    have hown := S.2.2.2.1
    refine lv_iload_n hx hb d_M_get_0 rfl (lv_at hl 1 rfl) ?_
    refine r_calls S (c_M_isRegister0 l r hr) kc_M_isRegister k0_M km_M_28 kt_M_isRegister hd_M_isRegister ⟨rfl, rfl⟩ ⟨by decide, by decide⟩ rfl hl.1 rfl (Nat.le_of_ble_eq_true rfl) ⟨Nat.zero_le _, Nat.zero_le _⟩ d_M_get_1 ?_
    refine r_ifeq (tgt := 16) hx hb d_M_get_4 (by decide) (by omega) (fun c_4 => ?_) (fun c_4 => absurd c_4 (by omega))
    refine lv_iconst (v := nI 0) hx hb d_M_get_16 (by decide) ?_
    exact hend _ _ (MS.mk x.cel x.kin x.mv x.st x.mm x.msz x.rch x.full) _ _ _ (by decide) hP hS d_M_get_17 (IX.n (by decide) hr ⟨rfl, rfl⟩)
set_option maxHeartbeats 4000000 in
set_option maxRecDepth 100000 in
theorem c_M_set (l : Launch) (E : KX) (x : MS) (r k t : Int32) (h : MI x) : Yi l E y_M_set w_M_set rm_M_set [.ref (E.ad 11), .int r, .int k, .int t] x (fun q x' => IX t 10 (fun a => OBJ x.kin x.mv x.mm r (fun j v => IX k (x.msz v) (fun n => q = nI 1 ∧ x' = MS.mk x.cel (va_up x.kin (60 + 20 * v + n) (x.kin a)) (va_up x.mv (60 + 20 * v + n) (x.mv a)) x.st x.mm x.msz x.rch x.full) (q = nI 0 ∧ x' = x)) (q = nI 0 ∧ x' = x)) (q = nI 0 ∧ x' = x)) := by
  have hmm := h.2.2.2.2.2.1
  rcases ix_cases t (n := 10) (by decide) with ⟨a, ha, rfl⟩ | hr
  · rcases ob_cases h.ro r with ⟨j, v, hj, rfl, h2, hv, he⟩ | hno
    · have hs := h.2.1 v
      rcases ix_cases k (n := x.msz v) (by omega) with ⟨n, hn, rfl⟩ | hk
      · refine r_metz (by decide) (Nat.le_of_ble_eq_true rfl) ?_
        intro p e s m args below meth c Q ls hx hb S hK hz hend hl hP hS
        have hts := S.2.2.2.2
        have hown := S.2.2.2.1
        refine lv_iload_n hx hb d_M_set_0 rfl (lv_at hl 3 rfl) ?_
        refine r_calls S (c_M_isRegister1 l a ha) kc_M_isRegister k0_M km_M_28 kt_M_isRegister hd_M_isRegister ⟨rfl, rfl⟩ ⟨by decide, by decide⟩ rfl hl.1 rfl (Nat.le_of_ble_eq_true rfl) ⟨Nat.zero_le _, Nat.zero_le _⟩ d_M_set_1 ?_
        refine r_ifeq (tgt := 16) hx hb d_M_set_4 (by decide) (by omega) (fun c_4 => absurd c_4 (by omega)) (fun c_4 => ?_)
        refine lv_aload_n hx hb d_M_set_7 rfl (lv_at hl 0 rfl) ?_
        refine lv_iload_n hx hb d_M_set_8 rfl (lv_at hl 1 rfl) ?_
        refine lv_iload_n hx hb d_M_set_9 rfl (lv_at hl 2 rfl) ?_
        refine r_calli S (c_M_hasValueY l E (MS.mk x.cel x.kin x.mv x.st x.mm x.msz x.rch x.full) j v n hj h2 (by omega) he hs hn) kc_M_hasValue k0_M km_M_69 ki_M_hasValue ks_M_hasValue hd_M_hasValue ⟨rfl, rfl⟩ ⟨by decide, by decide⟩ (zM_ok E) hz hK hP hS (fun _ h => h) 0 rfl rfl rfl hl.1 rfl (Nat.le_of_ble_eq_true rfl) ⟨Nat.zero_le _, Nat.zero_le _⟩ d_M_set_10 (fun r1 x1 H locs hw hP _ _ hS => ?_)
        obtain ⟨hr1, hx1⟩ := hw
        subst hr1 hx1
        have hP : va_P E.D classes (wMe E x.cel x.kin x.mv x.st x.mm x.msz x.rch x.full) H := hP
        refine r_ifne (tgt := 18) hx hb d_M_set_13 (by decide) (by omega) (fun c_13 => ?_) (fun c_13 => absurd c_13 (by omega))
        refine lv_aload_n hx hb d_M_set_18 rfl (lv_at hl 0 rfl) ?_
        refine lv_aload_n hx hb d_M_set_19 rfl (lv_at hl 0 rfl) ?_
        refine r_get hx hb hts hown hK hP 0 rfl rfl in_M 2 (by decide) kf_M_13 rfl d_M_set_20 ?_
        refine lv_iload_n hx hb d_M_set_23 rfl (lv_at hl 1 rfl) ?_
        refine r_iald hx hb hK hP 2 1 rfl rfl (by decide) (by omega) d_M_set_24 ?_
        refine r_top (he) ?_
        refine lv_iload_n hx hb d_M_set_25 rfl (lv_at hl 2 rfl) ?_
        refine r_calls S (c_M_placeOf l v n) kc_M_placeOf k0_M km_M_41 kt_M_placeOf hd_M_placeOf ⟨rfl, rfl⟩ ⟨by decide, by decide⟩ rfl hl.1 rfl (Nat.le_of_ble_eq_true rfl) ⟨Nat.zero_le _, Nat.zero_le _⟩ d_M_set_26 ?_
        refine lv_iload_n hx hb d_M_set_29 rfl (lv_at hl 3 rfl) ?_
        refine r_callv S (c_M_move l E (MS.mk x.cel x.kin x.mv x.st x.mm x.msz x.rch x.full) (60 + 20 * v + n) a (by omega) (by omega) (h.1 a)) kc_M_move k0_M km_M_58 ki_M_move ks_M_move hd_M_move ⟨rfl, rfl⟩ ⟨by decide, by decide⟩ (zM_ok E) hz hK hP hS (fun _ h => h) 0 rfl rfl rfl hl.1 rfl (Nat.le_of_ble_eq_true rfl) ⟨Nat.zero_le _, Nat.zero_le _⟩ d_M_set_30 (fun x1 H locs hw hP _ _ hS => ?_)
        simp only [MS.mk_cel, MS.mk_kin, MS.mk_mv, MS.mk_st, MS.mk_mm, MS.mk_msz, MS.mk_rch, MS.mk_full] at hw
        subst hw
        have hP : va_P E.D classes (wMe E x.cel (va_up x.kin (60 + 20 * v + n) (x.kin a)) (va_up x.mv (60 + 20 * v + n) (x.mv a)) x.st x.mm x.msz x.rch x.full) H := hP
        refine lv_iconst (v := nI 1) hx hb d_M_set_33 (by decide) ?_
        exact hend _ _ (MS.mk x.cel (va_up x.kin (60 + 20 * v + n) (x.kin a)) (va_up x.mv (60 + 20 * v + n) (x.mv a)) x.st x.mm x.msz x.rch x.full) _ _ _ (by decide) hP hS d_M_set_34 (IX.y (by decide) ha (OBJ.y (by omega) hj h2 hv he (IX.y (by omega) hn ⟨rfl, rfl⟩)))
      · refine r_metz (by decide) (Nat.le_of_ble_eq_true rfl) ?_
        intro p e s m args below meth c Q ls hx hb S hK hz hend hl hP hS
        have hts := S.2.2.2.2
        have hown := S.2.2.2.1
        refine lv_iload_n hx hb d_M_set_0 rfl (lv_at hl 3 rfl) ?_
        refine r_calls S (c_M_isRegister1 l a ha) kc_M_isRegister k0_M km_M_28 kt_M_isRegister hd_M_isRegister ⟨rfl, rfl⟩ ⟨by decide, by decide⟩ rfl hl.1 rfl (Nat.le_of_ble_eq_true rfl) ⟨Nat.zero_le _, Nat.zero_le _⟩ d_M_set_1 ?_
        refine r_ifeq (tgt := 16) hx hb d_M_set_4 (by decide) (by omega) (fun c_4 => absurd c_4 (by omega)) (fun c_4 => ?_)
        refine lv_aload_n hx hb d_M_set_7 rfl (lv_at hl 0 rfl) ?_
        refine lv_iload_n hx hb d_M_set_8 rfl (lv_at hl 1 rfl) ?_
        refine lv_iload_n hx hb d_M_set_9 rfl (lv_at hl 2 rfl) ?_
        refine r_calli S (c_M_hasValueN l E (MS.mk x.cel x.kin x.mv x.st x.mm x.msz x.rch x.full) (nI j) k h (Or.inr ⟨j, v, hj, rfl, h2, by omega, he, hk⟩)) kc_M_hasValue k0_M km_M_69 ki_M_hasValue ks_M_hasValue hd_M_hasValue ⟨rfl, rfl⟩ ⟨by decide, by decide⟩ (zM_ok E) hz hK hP hS (fun _ h => h) 0 rfl rfl rfl hl.1 rfl (Nat.le_of_ble_eq_true rfl) ⟨Nat.zero_le _, Nat.zero_le _⟩ d_M_set_10 (fun r1 x1 H locs hw hP _ _ hS => ?_)
        obtain ⟨hr1, hx1⟩ := hw
        subst hr1 hx1
        have hP : va_P E.D classes (wMe E x.cel x.kin x.mv x.st x.mm x.msz x.rch x.full) H := hP
        refine r_ifne (tgt := 18) hx hb d_M_set_13 (by decide) (by omega) (fun c_13 => absurd c_13 (by omega)) (fun c_13 => ?_)
        refine lv_iconst (v := nI 0) hx hb d_M_set_16 (by decide) ?_
        exact hend _ _ (MS.mk x.cel x.kin x.mv x.st x.mm x.msz x.rch x.full) _ _ _ (by decide) hP hS d_M_set_17 (IX.y (by decide) ha (OBJ.y (by omega) hj h2 hv he (IX.n (by omega) hk ⟨rfl, rfl⟩)))
    · refine r_metz (by decide) (Nat.le_of_ble_eq_true rfl) ?_
      intro p e s m args below meth c Q ls hx hb S hK hz hend hl hP hS
      have hts := S.2.2.2.2
      have hown := S.2.2.2.1
      refine lv_iload_n hx hb d_M_set_0 rfl (lv_at hl 3 rfl) ?_
      refine r_calls S (c_M_isRegister1 l a ha) kc_M_isRegister k0_M km_M_28 kt_M_isRegister hd_M_isRegister ⟨rfl, rfl⟩ ⟨by decide, by decide⟩ rfl hl.1 rfl (Nat.le_of_ble_eq_true rfl) ⟨Nat.zero_le _, Nat.zero_le _⟩ d_M_set_1 ?_
      refine r_ifeq (tgt := 16) hx hb d_M_set_4 (by decide) (by omega) (fun c_4 => absurd c_4 (by omega)) (fun c_4 => ?_)
      refine lv_aload_n hx hb d_M_set_7 rfl (lv_at hl 0 rfl) ?_
      refine lv_iload_n hx hb d_M_set_8 rfl (lv_at hl 1 rfl) ?_
      refine lv_iload_n hx hb d_M_set_9 rfl (lv_at hl 2 rfl) ?_
      refine r_calli S (c_M_hasValueN l E (MS.mk x.cel x.kin x.mv x.st x.mm x.msz x.rch x.full) r k h (Or.inl hno)) kc_M_hasValue k0_M km_M_69 ki_M_hasValue ks_M_hasValue hd_M_hasValue ⟨rfl, rfl⟩ ⟨by decide, by decide⟩ (zM_ok E) hz hK hP hS (fun _ h => h) 0 rfl rfl rfl hl.1 rfl (Nat.le_of_ble_eq_true rfl) ⟨Nat.zero_le _, Nat.zero_le _⟩ d_M_set_10 (fun r1 x1 H locs hw hP _ _ hS => ?_)
      obtain ⟨hr1, hx1⟩ := hw
      subst hr1 hx1
      have hP : va_P E.D classes (wMe E x.cel x.kin x.mv x.st x.mm x.msz x.rch x.full) H := hP
      refine r_ifne (tgt := 18) hx hb d_M_set_13 (by decide) (by omega) (fun c_13 => absurd c_13 (by omega)) (fun c_13 => ?_)
      refine lv_iconst (v := nI 0) hx hb d_M_set_16 (by decide) ?_
      exact hend _ _ (MS.mk x.cel x.kin x.mv x.st x.mm x.msz x.rch x.full) _ _ _ (by decide) hP hS d_M_set_17 (IX.y (by decide) ha (OBJ.n hno ⟨rfl, rfl⟩))
  · refine r_metz (by decide) (Nat.le_of_ble_eq_true rfl) ?_
    intro p e s m args below meth c Q ls hx hb S hK hz hend hl hP hS
    have hts := S.2.2.2.2
    have hown := S.2.2.2.1
    refine lv_iload_n hx hb d_M_set_0 rfl (lv_at hl 3 rfl) ?_
    refine r_calls S (c_M_isRegister0 l t hr) kc_M_isRegister k0_M km_M_28 kt_M_isRegister hd_M_isRegister ⟨rfl, rfl⟩ ⟨by decide, by decide⟩ rfl hl.1 rfl (Nat.le_of_ble_eq_true rfl) ⟨Nat.zero_le _, Nat.zero_le _⟩ d_M_set_1 ?_
    refine r_ifeq (tgt := 16) hx hb d_M_set_4 (by decide) (by omega) (fun c_4 => ?_) (fun c_4 => absurd c_4 (by omega))
    refine lv_iconst (v := nI 0) hx hb d_M_set_16 (by decide) ?_
    exact hend _ _ (MS.mk x.cel x.kin x.mv x.st x.mm x.msz x.rch x.full) _ _ _ (by decide) hP hS d_M_set_17 (IX.n (by decide) hr ⟨rfl, rfl⟩)
end
section
set_option maxHeartbeats 4000000 in
set_option maxRecDepth 100000 in
theorem c_M_push (l : Launch) (E : KX) (x : MS) (r : Int32) (h : MI x) : Yi l E y_M_push w_M_push rm_M_push [.ref (E.ad 11), .int r] x (fun q x' => IX r 10 (fun a => (x.st = 50 → q = -1 ∧ x' = x) ∧ (x.st ≠ 50 → q = nI (x.st + 1) ∧ x' = MS.mk x.cel (va_up (va_up x.kin (10 + x.st) (x.kin a)) a 0) (va_up (va_up x.mv (10 + x.st) (x.mv a)) a (nI 0)) (x.st + 1) x.mm x.msz x.rch x.full)) (q = -1 ∧ x' = x)) := by
  have h5 := h.2.2.1
  rcases ix_cases r (n := 10) (by decide) with ⟨a, ha, rfl⟩ | hr
  · by_cases hd : x.st = 50
    · refine r_meti (by decide) (Nat.le_of_ble_eq_true rfl) ?_
      intro p e s m args below meth c Q ls hx hb S hK hz hend hl hP hS
      have hts := S.2.2.2.2
      have hown := S.2.2.2.1
      refine lv_iload_n hx hb d_M_push_0 rfl (lv_at hl 1 rfl) ?_
      refine r_calls S (c_M_isRegister1 l a ha) kc_M_isRegister k0_M km_M_28 kt_M_isRegister hd_M_isRegister ⟨rfl, rfl⟩ ⟨by decide, by decide⟩ rfl hl.1 rfl (Nat.le_of_ble_eq_true rfl) ⟨Nat.zero_le _, Nat.zero_le _⟩ d_M_push_1 ?_
      refine r_ifeq (tgt := 16) hx hb d_M_push_4 (by decide) (by omega) (fun c_4 => absurd c_4 (by omega)) (fun c_4 => ?_)
      refine lv_aload_n hx hb d_M_push_7 rfl (lv_at hl 0 rfl) ?_
      refine r_get hx hb hts hown hK hP 0 rfl rfl in_M 3 (by decide) kf_M_35 rfl d_M_push_8 ?_
      refine lv_bipush (v := nI 50) hx hb d_M_push_11 (by decide) ?_
      refine r_ne (tgt := 18) hx hb d_M_push_13 (by decide) (by omega) (by omega) (fun c_13 => absurd c_13 (fun q => q hd)) (fun c_13 => ?_)
      refine lv_iconst (v := -1) hx hb d_M_push_16 (by decide) ?_
      exact hend _ _ (MS.mk x.cel x.kin x.mv x.st x.mm x.msz x.rch x.full) _ _ _ hP hS d_M_push_17 (IX.y (by decide) ha ⟨fun _ => ⟨rfl, rfl⟩, fun z => absurd hd z⟩)
    · refine r_meti (by decide) (Nat.le_of_ble_eq_true rfl) ?_
      intro p e s m args below meth c Q ls hx hb S hK hz hend hl hP hS
      have hts := S.2.2.2.2
      have hown := S.2.2.2.1
      refine lv_iload_n hx hb d_M_push_0 rfl (lv_at hl 1 rfl) ?_
      refine r_calls S (c_M_isRegister1 l a ha) kc_M_isRegister k0_M km_M_28 kt_M_isRegister hd_M_isRegister ⟨rfl, rfl⟩ ⟨by decide, by decide⟩ rfl hl.1 rfl (Nat.le_of_ble_eq_true rfl) ⟨Nat.zero_le _, Nat.zero_le _⟩ d_M_push_1 ?_
      refine r_ifeq (tgt := 16) hx hb d_M_push_4 (by decide) (by omega) (fun c_4 => absurd c_4 (by omega)) (fun c_4 => ?_)
      refine lv_aload_n hx hb d_M_push_7 rfl (lv_at hl 0 rfl) ?_
      refine r_get hx hb hts hown hK hP 0 rfl rfl in_M 3 (by decide) kf_M_35 rfl d_M_push_8 ?_
      refine lv_bipush (v := nI 50) hx hb d_M_push_11 (by decide) ?_
      refine r_ne (tgt := 18) hx hb d_M_push_13 (by decide) (by omega) (by omega) (fun c_13 => ?_) (fun c_13 => absurd c_13 hd)
      refine lv_aload_n hx hb d_M_push_18 rfl (lv_at hl 0 rfl) ?_
      refine lv_bipush (v := nI 10) hx hb d_M_push_19 (by decide) ?_
      refine lv_aload_n hx hb d_M_push_21 rfl (lv_at hl 0 rfl) ?_
      refine r_get hx hb hts hown hK hP 0 rfl rfl in_M 3 (by decide) kf_M_35 rfl d_M_push_22 ?_
      refine r_add hx hb d_M_push_25 ?_
      refine lv_iload_n hx hb d_M_push_26 rfl (lv_at hl 1 rfl) ?_
      refine r_callv S (c_M_move l E (MS.mk x.cel x.kin x.mv x.st x.mm x.msz x.rch x.full) (10 + x.st) a (by omega) (by omega) (h.1 a)) kc_M_move k0_M km_M_58 ki_M_move ks_M_move hd_M_move ⟨rfl, rfl⟩ ⟨by decide, by decide⟩ (zM_ok E) hz hK hP hS (fun _ h => h) 0 rfl rfl rfl hl.1 rfl (Nat.le_of_ble_eq_true rfl) ⟨Nat.zero_le _, Nat.zero_le _⟩ d_M_push_27 (fun x1 H locs hw hP _ _ hS => ?_)
      simp only [MS.mk_cel, MS.mk_kin, MS.mk_mv, MS.mk_st, MS.mk_mm, MS.mk_msz, MS.mk_rch, MS.mk_full] at hw
      subst hw
      have hP : va_P E.D classes (wMe E x.cel (va_up x.kin (10 + x.st) (x.kin a)) (va_up x.mv (10 + x.st) (x.mv a)) x.st x.mm x.msz x.rch x.full) H := hP
      refine lv_aload_n hx hb d_M_push_30 rfl (lv_at hl 0 rfl) ?_
      refine lv_iload_n hx hb d_M_push_31 rfl (lv_at hl 1 rfl) ?_
      refine r_callv S (c_M_empty l E (MS.mk x.cel (va_up x.kin (10 + x.st) (x.kin a)) (va_up x.mv (10 + x.st) (x.mv a)) x.st x.mm x.msz x.rch x.full) a (by omega)) kc_M_empty k0_M km_M_65 ki_M_empty ks_M_empty hd_M_empty ⟨rfl, rfl⟩ ⟨by decide, by decide⟩ (zM_ok E) hz hK hP hS (fun _ h => h) 0 rfl rfl rfl hl.1 rfl (Nat.le_of_ble_eq_true rfl) ⟨Nat.zero_le _, Nat.zero_le _⟩ d_M_push_32 (fun x1 H locs hw hP _ _ hS => ?_)
      simp only [MS.mk_cel, MS.mk_kin, MS.mk_mv, MS.mk_st, MS.mk_mm, MS.mk_msz, MS.mk_rch, MS.mk_full] at hw
      subst hw
      have hP : va_P E.D classes (wMe E x.cel (va_up (va_up x.kin (10 + x.st) (x.kin a)) a 0) (va_up (va_up x.mv (10 + x.st) (x.mv a)) a (nI 0)) x.st x.mm x.msz x.rch x.full) H := hP
      refine lv_aload_n hx hb d_M_push_35 rfl (lv_at hl 0 rfl) ?_
      refine lv_dup hx hb d_M_push_36 rfl ?_
      refine r_get hx hb hts hown hK hP 0 rfl rfl in_M 3 (by decide) kf_M_35 rfl d_M_push_37 ?_
      refine lv_iconst (v := nI 1) hx hb d_M_push_40 (by decide) ?_
      refine r_add hx hb d_M_push_41 ?_
      refine r_put (ws' := wMe E x.cel (va_up (va_up x.kin (10 + x.st) (x.kin a)) a 0) (va_up (va_up x.mv (10 + x.st) (x.mv a)) a (nI 0)) (x.st + 1) x.mm x.msz x.rch x.full) hx hb hts hown hK hP (wM_D hz) hS 0 rfl rfl in_M t_M t_M_ok n_M 3 (by decide) kf_M_35 rfl rfl (Nat.le_of_ble_eq_true rfl) rfl d_M_push_42 (fun H locs hP hS => ?_)
      refine lv_aload_n hx hb d_M_push_45 rfl (lv_at hl 0 rfl) ?_
      refine r_get hx hb hts hown hK hP 0 rfl rfl in_M 3 (by decide) kf_M_35 rfl d_M_push_46 ?_
      exact hend _ _ (MS.mk x.cel (va_up (va_up x.kin (10 + x.st) (x.kin a)) a 0) (va_up (va_up x.mv (10 + x.st) (x.mv a)) a (nI 0)) (x.st + 1) x.mm x.msz x.rch x.full) _ _ _ hP hS d_M_push_49 (IX.y (by decide) ha ⟨fun z => absurd z hd, fun _ => ⟨rfl, rfl⟩⟩)
  · refine r_meti (by decide) (Nat.le_of_ble_eq_true rfl) ?_
    intro p e s m args below meth c Q ls hx hb S hK hz hend hl hP hS
    have hts := S.2.2.2.2
    have hown := S.2.2.2.1
    refine lv_iload_n hx hb d_M_push_0 rfl (lv_at hl 1 rfl) ?_
    refine r_calls S (c_M_isRegister0 l r hr) kc_M_isRegister k0_M km_M_28 kt_M_isRegister hd_M_isRegister ⟨rfl, rfl⟩ ⟨by decide, by decide⟩ rfl hl.1 rfl (Nat.le_of_ble_eq_true rfl) ⟨Nat.zero_le _, Nat.zero_le _⟩ d_M_push_1 ?_
    refine r_ifeq (tgt := 16) hx hb d_M_push_4 (by decide) (by omega) (fun c_4 => ?_) (fun c_4 => absurd c_4 (by omega))
    refine lv_iconst (v := -1) hx hb d_M_push_16 (by decide) ?_
    exact hend _ _ (MS.mk x.cel x.kin x.mv x.st x.mm x.msz x.rch x.full) _ _ _ hP hS d_M_push_17 (IX.n (by decide) hr ⟨rfl, rfl⟩)
set_option maxHeartbeats 4000000 in
set_option maxRecDepth 100000 in
theorem c_M_pop (l : Launch) (E : KX) (x : MS) (r : Int32) (h : MI x) : Yi l E y_M_pop w_M_pop rm_M_pop [.ref (E.ad 11), .int r] x (fun q x' => IX r 10 (fun a => (x.st = 0 → q = -1 ∧ x' = x) ∧ (x.st ≠ 0 → q = nI (x.st - 1) ∧ x' = MS.mk x.cel (va_up x.kin a (x.kin (10 + (x.st - 1)))) (va_up x.mv a (x.mv (10 + (x.st - 1)))) (x.st - 1) x.mm x.msz x.rch x.full)) (q = -1 ∧ x' = x)) := by
  have h5 := h.2.2.1
  rcases ix_cases r (n := 10) (by decide) with ⟨a, ha, rfl⟩ | hr
  · by_cases hd : x.st = 0
    · refine r_meti (by decide) (Nat.le_of_ble_eq_true rfl) ?_
      intro p e s m args below meth c Q ls hx hb S hK hz hend hl hP hS
      have hts := S.2.2.2.2
      have hown := S.2.2.2.1
      refine lv_iload_n hx hb d_M_pop_0 rfl (lv_at hl 1 rfl) ?_
      refine r_calls S (c_M_isRegister1 l a ha) kc_M_isRegister k0_M km_M_28 kt_M_isRegister hd_M_isRegister ⟨rfl, rfl⟩ ⟨by decide, by decide⟩ rfl hl.1 rfl (Nat.le_of_ble_eq_true rfl) ⟨Nat.zero_le _, Nat.zero_le _⟩ d_M_pop_1 ?_
      refine r_ifeq (tgt := 14) hx hb d_M_pop_4 (by decide) (by omega) (fun c_4 => absurd c_4 (by omega)) (fun c_4 => ?_)
      refine lv_aload_n hx hb d_M_pop_7 rfl (lv_at hl 0 rfl) ?_
      refine r_get hx hb hts hown hK hP 0 rfl rfl in_M 3 (by decide) kf_M_35 rfl d_M_pop_8 ?_
      refine r_ifne (tgt := 16) hx hb d_M_pop_11 (by decide) (by omega) (fun c_11 => absurd c_11 (fun q => q hd)) (fun c_11 => ?_)
      refine lv_iconst (v := -1) hx hb d_M_pop_14 (by decide) ?_
      exact hend _ _ (MS.mk x.cel x.kin x.mv x.st x.mm x.msz x.rch x.full) _ _ _ hP hS d_M_pop_15 (IX.y (by decide) ha ⟨fun _ => ⟨rfl, rfl⟩, fun z => absurd hd z⟩)
    · refine r_meti (by decide) (Nat.le_of_ble_eq_true rfl) ?_
      intro p e s m args below meth c Q ls hx hb S hK hz hend hl hP hS
      have hts := S.2.2.2.2
      have hown := S.2.2.2.1
      refine lv_iload_n hx hb d_M_pop_0 rfl (lv_at hl 1 rfl) ?_
      refine r_calls S (c_M_isRegister1 l a ha) kc_M_isRegister k0_M km_M_28 kt_M_isRegister hd_M_isRegister ⟨rfl, rfl⟩ ⟨by decide, by decide⟩ rfl hl.1 rfl (Nat.le_of_ble_eq_true rfl) ⟨Nat.zero_le _, Nat.zero_le _⟩ d_M_pop_1 ?_
      refine r_ifeq (tgt := 14) hx hb d_M_pop_4 (by decide) (by omega) (fun c_4 => absurd c_4 (by omega)) (fun c_4 => ?_)
      refine lv_aload_n hx hb d_M_pop_7 rfl (lv_at hl 0 rfl) ?_
      refine r_get hx hb hts hown hK hP 0 rfl rfl in_M 3 (by decide) kf_M_35 rfl d_M_pop_8 ?_
      refine r_ifne (tgt := 16) hx hb d_M_pop_11 (by decide) (by omega) (fun c_11 => ?_) (fun c_11 => absurd c_11 hd)
      refine lv_aload_n hx hb d_M_pop_16 rfl (lv_at hl 0 rfl) ?_
      refine lv_dup hx hb d_M_pop_17 rfl ?_
      refine r_get hx hb hts hown hK hP 0 rfl rfl in_M 3 (by decide) kf_M_35 rfl d_M_pop_18 ?_
      refine lv_iconst (v := nI 1) hx hb d_M_pop_21 (by decide) ?_
      refine r_sub hx hb (by omega) d_M_pop_22 ?_
      refine r_put (ws' := wMe E x.cel x.kin x.mv (x.st - 1) x.mm x.msz x.rch x.full) hx hb hts hown hK hP (wM_D hz) hS 0 rfl rfl in_M t_M t_M_ok n_M 3 (by decide) kf_M_35 rfl rfl (Nat.le_of_ble_eq_true rfl) rfl d_M_pop_23 (fun H locs hP hS => ?_)
      refine lv_aload_n hx hb d_M_pop_26 rfl (lv_at hl 0 rfl) ?_
      refine lv_iload_n hx hb d_M_pop_27 rfl (lv_at hl 1 rfl) ?_
      refine lv_bipush (v := nI 10) hx hb d_M_pop_28 (by decide) ?_
      refine lv_aload_n hx hb d_M_pop_30 rfl (lv_at hl 0 rfl) ?_
      refine r_get hx hb hts hown hK hP 0 rfl rfl in_M 3 (by decide) kf_M_35 rfl d_M_pop_31 ?_
      refine r_add hx hb d_M_pop_34 ?_
      refine r_callv S (c_M_move l E (MS.mk x.cel x.kin x.mv (x.st - 1) x.mm x.msz x.rch x.full) a (10 + (x.st - 1)) (by omega) (by omega) (h.1 _)) kc_M_move k0_M km_M_58 ki_M_move ks_M_move hd_M_move ⟨rfl, rfl⟩ ⟨by decide, by decide⟩ (zM_ok E) hz hK hP hS (fun _ h => h) 0 rfl rfl rfl hl.1 rfl (Nat.le_of_ble_eq_true rfl) ⟨Nat.zero_le _, Nat.zero_le _⟩ d_M_pop_35 (fun x1 H locs hw hP _ _ hS => ?_)
      simp only [MS.mk_cel, MS.mk_kin, MS.mk_mv, MS.mk_st, MS.mk_mm, MS.mk_msz, MS.mk_rch, MS.mk_full] at hw
      subst hw
      have hP : va_P E.D classes (wMe E x.cel (va_up x.kin a (x.kin (10 + (x.st - 1)))) (va_up x.mv a (x.mv (10 + (x.st - 1)))) (x.st - 1) x.mm x.msz x.rch x.full) H := hP
      refine lv_aload_n hx hb d_M_pop_38 rfl (lv_at hl 0 rfl) ?_
      refine r_get hx hb hts hown hK hP 0 rfl rfl in_M 3 (by decide) kf_M_35 rfl d_M_pop_39 ?_
      exact hend _ _ (MS.mk x.cel (va_up x.kin a (x.kin (10 + (x.st - 1)))) (va_up x.mv a (x.mv (10 + (x.st - 1)))) (x.st - 1) x.mm x.msz x.rch x.full) _ _ _ hP hS d_M_pop_42 (IX.y (by decide) ha ⟨fun z => absurd z hd, fun _ => ⟨rfl, rfl⟩⟩)
  · refine r_meti (by decide) (Nat.le_of_ble_eq_true rfl) ?_
    intro p e s m args below meth c Q ls hx hb S hK hz hend hl hP hS
    have hts := S.2.2.2.2
    have hown := S.2.2.2.1
    refine lv_iload_n hx hb d_M_pop_0 rfl (lv_at hl 1 rfl) ?_
    refine r_calls S (c_M_isRegister0 l r hr) kc_M_isRegister k0_M km_M_28 kt_M_isRegister hd_M_isRegister ⟨rfl, rfl⟩ ⟨by decide, by decide⟩ rfl hl.1 rfl (Nat.le_of_ble_eq_true rfl) ⟨Nat.zero_le _, Nat.zero_le _⟩ d_M_pop_1 ?_
    refine r_ifeq (tgt := 14) hx hb d_M_pop_4 (by decide) (by omega) (fun c_4 => ?_) (fun c_4 => absurd c_4 (by omega))
    refine lv_iconst (v := -1) hx hb d_M_pop_14 (by decide) ?_
    exact hend _ _ (MS.mk x.cel x.kin x.mv x.st x.mm x.msz x.rch x.full) _ _ _ hP hS d_M_pop_15 (IX.n (by decide) hr ⟨rfl, rfl⟩)
set_option maxHeartbeats 4000000 in
set_option maxRecDepth 100000 in
theorem c_M_look (l : Launch) (E : KX) (x : MS) (r : Int32) (h : MI x) : Yi l E y_M_look w_M_look rm_M_look [.ref (E.ad 11), .int r] x (fun q x' => x' = x ∧ IX r 10 (fun a => (x.kin a = 0 → q = -2) ∧ (x.kin a = 1 → q = -3) ∧ (x.kin a = 2 → ∀ v, v < x.mm → x.mv a = nI v → q = nI (x.msz v))) (q = -1)) := by
  have hmm := h.2.2.2.2.2.1
  rcases ix_cases r (n := 10) (by decide) with ⟨a, ha, rfl⟩ | hr
  · have h2 := h.1 a
    rcases (show x.kin a = 0 ∨ x.kin a = 1 ∨ x.kin a = 2 by omega) with h0 | h0 | h0
    · refine r_meti (by decide) (Nat.le_of_ble_eq_true rfl) ?_
      intro p e s m args below meth c Q ls hx hb S hK hz hend hl hP hS
      have hts := S.2.2.2.2
      have hown := S.2.2.2.1
      refine lv_iload_n hx hb d_M_look_0 rfl (lv_at hl 1 rfl) ?_
      refine r_calls S (c_M_isRegister1 l a ha) kc_M_isRegister k0_M km_M_28 kt_M_isRegister hd_M_isRegister ⟨rfl, rfl⟩ ⟨by decide, by decide⟩ rfl hl.1 rfl (Nat.le_of_ble_eq_true rfl) ⟨Nat.zero_le _, Nat.zero_le _⟩ d_M_look_1 ?_
      refine r_ifne (tgt := 11) hx hb d_M_look_4 (by decide) (by omega) (fun c_4 => ?_) (fun c_4 => absurd c_4 (by omega))
      refine lv_aload_n hx hb d_M_look_11 rfl (lv_at hl 0 rfl) ?_
      refine r_get hx hb hts hown hK hP 0 rfl rfl in_M 1 (by decide) kf_M_7 rfl d_M_look_12 ?_
      refine lv_iload_n hx hb d_M_look_15 rfl (lv_at hl 1 rfl) ?_
      refine r_bald hx hb hK hP 1 0 rfl rfl (by decide) (by omega) d_M_look_16 ?_
      refine r_ifne (tgt := 25) hx hb d_M_look_17 (by decide) (by omega) (fun c_17 => absurd c_17 (by omega)) (fun c_17 => ?_)
      refine lv_bipush (v := -2) hx hb d_M_look_20 (by decide) ?_
      refine lv_goto (tgt := 51) hx hb d_M_look_22 (by decide) ?_
      exact hend _ _ (MS.mk x.cel x.kin x.mv x.st x.mm x.msz x.rch x.full) _ _ _ hP hS d_M_look_51 ⟨rfl, IX.y (by decide) ha ⟨fun _ => rfl, fun z => by omega, fun z => by omega⟩⟩
    · refine r_meti (by decide) (Nat.le_of_ble_eq_true rfl) ?_
      intro p e s m args below meth c Q ls hx hb S hK hz hend hl hP hS
      have hts := S.2.2.2.2
      have hown := S.2.2.2.1
      refine lv_iload_n hx hb d_M_look_0 rfl (lv_at hl 1 rfl) ?_
      refine r_calls S (c_M_isRegister1 l a ha) kc_M_isRegister k0_M km_M_28 kt_M_isRegister hd_M_isRegister ⟨rfl, rfl⟩ ⟨by decide, by decide⟩ rfl hl.1 rfl (Nat.le_of_ble_eq_true rfl) ⟨Nat.zero_le _, Nat.zero_le _⟩ d_M_look_1 ?_
      refine r_ifne (tgt := 11) hx hb d_M_look_4 (by decide) (by omega) (fun c_4 => ?_) (fun c_4 => absurd c_4 (by omega))
      refine lv_aload_n hx hb d_M_look_11 rfl (lv_at hl 0 rfl) ?_
      refine r_get hx hb hts hown hK hP 0 rfl rfl in_M 1 (by decide) kf_M_7 rfl d_M_look_12 ?_
      refine lv_iload_n hx hb d_M_look_15 rfl (lv_at hl 1 rfl) ?_
      refine r_bald hx hb hK hP 1 0 rfl rfl (by decide) (by omega) d_M_look_16 ?_
      refine r_ifne (tgt := 25) hx hb d_M_look_17 (by decide) (by omega) (fun c_17 => ?_) (fun c_17 => absurd c_17 (by omega))
      refine lv_aload_n hx hb d_M_look_25 rfl (lv_at hl 0 rfl) ?_
      refine r_get hx hb hts hown hK hP 0 rfl rfl in_M 1 (by decide) kf_M_7 rfl d_M_look_26 ?_
      refine lv_iload_n hx hb d_M_look_29 rfl (lv_at hl 1 rfl) ?_
      refine r_bald hx hb hK hP 1 0 rfl rfl (by decide) (by omega) d_M_look_30 ?_
      refine lv_iconst (v := nI 1) hx hb d_M_look_31 (by decide) ?_
      refine r_ne (tgt := 40) hx hb d_M_look_32 (by decide) (by omega) (by omega) (fun c_32 => absurd c_32 (by omega)) (fun c_32 => ?_)
      refine lv_bipush (v := -3) hx hb d_M_look_35 (by decide) ?_
      refine lv_goto (tgt := 51) hx hb d_M_look_37 (by decide) ?_
      exact hend _ _ (MS.mk x.cel x.kin x.mv x.st x.mm x.msz x.rch x.full) _ _ _ hP hS d_M_look_51 ⟨rfl, IX.y (by decide) ha ⟨fun z => by omega, fun _ => rfl, fun z => by omega⟩⟩
    · obtain ⟨v, hv, he⟩ := h.ro a ha h0
      refine r_meti (by decide) (Nat.le_of_ble_eq_true rfl) ?_
      intro p e s m args below meth c Q ls hx hb S hK hz hend hl hP hS
      have hts := S.2.2.2.2
      have hown := S.2.2.2.1
      refine lv_iload_n hx hb d_M_look_0 rfl (lv_at hl 1 rfl) ?_
      refine r_calls S (c_M_isRegister1 l a ha) kc_M_isRegister k0_M km_M_28 kt_M_isRegister hd_M_isRegister ⟨rfl, rfl⟩ ⟨by decide, by decide⟩ rfl hl.1 rfl (Nat.le_of_ble_eq_true rfl) ⟨Nat.zero_le _, Nat.zero_le _⟩ d_M_look_1 ?_
      refine r_ifne (tgt := 11) hx hb d_M_look_4 (by decide) (by omega) (fun c_4 => ?_) (fun c_4 => absurd c_4 (by omega))
      refine lv_aload_n hx hb d_M_look_11 rfl (lv_at hl 0 rfl) ?_
      refine r_get hx hb hts hown hK hP 0 rfl rfl in_M 1 (by decide) kf_M_7 rfl d_M_look_12 ?_
      refine lv_iload_n hx hb d_M_look_15 rfl (lv_at hl 1 rfl) ?_
      refine r_bald hx hb hK hP 1 0 rfl rfl (by decide) (by omega) d_M_look_16 ?_
      refine r_ifne (tgt := 25) hx hb d_M_look_17 (by decide) (by omega) (fun c_17 => ?_) (fun c_17 => absurd c_17 (by omega))
      refine lv_aload_n hx hb d_M_look_25 rfl (lv_at hl 0 rfl) ?_
      refine r_get hx hb hts hown hK hP 0 rfl rfl in_M 1 (by decide) kf_M_7 rfl d_M_look_26 ?_
      refine lv_iload_n hx hb d_M_look_29 rfl (lv_at hl 1 rfl) ?_
      refine r_bald hx hb hK hP 1 0 rfl rfl (by decide) (by omega) d_M_look_30 ?_
      refine lv_iconst (v := nI 1) hx hb d_M_look_31 (by decide) ?_
      refine r_ne (tgt := 40) hx hb d_M_look_32 (by decide) (by omega) (by omega) (fun c_32 => ?_) (fun c_32 => absurd c_32 (by omega))
      refine lv_aload_n hx hb d_M_look_40 rfl (lv_at hl 0 rfl) ?_
      refine r_get hx hb hts hown hK hP 0 rfl rfl in_M 5 (by decide) kf_M_17 rfl d_M_look_41 ?_
      refine lv_aload_n hx hb d_M_look_44 rfl (lv_at hl 0 rfl) ?_
      refine r_get hx hb hts hown hK hP 0 rfl rfl in_M 2 (by decide) kf_M_13 rfl d_M_look_45 ?_
      refine lv_iload_n hx hb d_M_look_48 rfl (lv_at hl 1 rfl) ?_
      refine r_iald hx hb hK hP 2 1 rfl rfl (by decide) (by omega) d_M_look_49 ?_
      refine r_top (he) ?_
      refine r_iald hx hb hK hP 3 1 rfl rfl (by decide) (by omega) d_M_look_50 ?_
      exact hend _ _ (MS.mk x.cel x.kin x.mv x.st x.mm x.msz x.rch x.full) _ _ _ hP hS d_M_look_51 ⟨rfl, IX.y (by decide) ha ⟨fun z => by omega, fun z => by omega, fun _ v' hv' he' => by rw [(nI_eq (by omega) (by omega)).mp (he.symm.trans he')]⟩⟩
  · refine r_meti (by decide) (Nat.le_of_ble_eq_true rfl) ?_
    intro p e s m args below meth c Q ls hx hb S hK hz hend hl hP hS
    have hts := S.2.2.2.2
    have hown := S.2.2.2.1
    refine lv_iload_n hx hb d_M_look_0 rfl (lv_at hl 1 rfl) ?_
    refine r_calls S (c_M_isRegister0 l r hr) kc_M_isRegister k0_M km_M_28 kt_M_isRegister hd_M_isRegister ⟨rfl, rfl⟩ ⟨by decide, by decide⟩ rfl hl.1 rfl (Nat.le_of_ble_eq_true rfl) ⟨Nat.zero_le _, Nat.zero_le _⟩ d_M_look_1 ?_
    refine r_ifne (tgt := 11) hx hb d_M_look_4 (by decide) (by omega) (fun c_4 => absurd c_4 (by omega)) (fun c_4 => ?_)
    refine lv_iconst (v := -1) hx hb d_M_look_7 (by decide) ?_
    refine lv_goto (tgt := 51) hx hb d_M_look_8 (by decide) ?_
    exact hend _ _ (MS.mk x.cel x.kin x.mv x.st x.mm x.msz x.rch x.full) _ _ _ hP hS d_M_look_51 ⟨rfl, IX.n (by decide) hr rfl⟩
set_option maxHeartbeats 4000000 in
set_option maxRecDepth 100000 in
theorem c_M_numberIn (l : Launch) (E : KX) (x : MS) (r : Int32) (h : MI x) : Yi l E y_M_numberIn w_M_numberIn rm_M_numberIn [.ref (E.ad 11), .int r] x (fun q x' => x' = x ∧ IX r 10 (fun a => (x.kin a = 1 → q = x.mv a) ∧ (x.kin a ≠ 1 → q = nI 0)) (q = nI 0)) := by
  rcases ix_cases r (n := 10) (by decide) with ⟨a, ha, rfl⟩ | hr
  · have h2 := h.1 a
    by_cases h0 : x.kin a = 1
    · refine r_meti (by decide) (Nat.le_of_ble_eq_true rfl) ?_
      intro p e s m args below meth c Q ls hx hb S hK hz hend hl hP hS
      have hts := S.2.2.2.2
      have hown := S.2.2.2.1
      refine lv_iload_n hx hb d_M_numberIn_0 rfl (lv_at hl 1 rfl) ?_
      refine r_calls S (c_M_isRegister1 l a ha) kc_M_isRegister k0_M km_M_28 kt_M_isRegister hd_M_isRegister ⟨rfl, rfl⟩ ⟨by decide, by decide⟩ rfl hl.1 rfl (Nat.le_of_ble_eq_true rfl) ⟨Nat.zero_le _, Nat.zero_le _⟩ d_M_numberIn_1 ?_
      refine r_ifeq (tgt := 26) hx hb d_M_numberIn_4 (by decide) (by omega) (fun c_4 => absurd c_4 (by omega)) (fun c_4 => ?_)
      refine lv_aload_n hx hb d_M_numberIn_7 rfl (lv_at hl 0 rfl) ?_
      refine r_get hx hb hts hown hK hP 0 rfl rfl in_M 1 (by decide) kf_M_7 rfl d_M_numberIn_8 ?_
      refine lv_iload_n hx hb d_M_numberIn_11 rfl (lv_at hl 1 rfl) ?_
      refine r_bald hx hb hK hP 1 0 rfl rfl (by decide) (by omega) d_M_numberIn_12 ?_
      refine lv_iconst (v := nI 1) hx hb d_M_numberIn_13 (by decide) ?_
      refine r_ne (tgt := 26) hx hb d_M_numberIn_14 (by decide) (by omega) (by omega) (fun c_14 => absurd c_14 (fun q => q h0)) (fun c_14 => ?_)
      refine lv_aload_n hx hb d_M_numberIn_17 rfl (lv_at hl 0 rfl) ?_
      refine r_get hx hb hts hown hK hP 0 rfl rfl in_M 2 (by decide) kf_M_13 rfl d_M_numberIn_18 ?_
      refine lv_iload_n hx hb d_M_numberIn_21 rfl (lv_at hl 1 rfl) ?_
      refine r_iald hx hb hK hP 2 1 rfl rfl (by decide) (by omega) d_M_numberIn_22 ?_
      refine lv_goto (tgt := 27) hx hb d_M_numberIn_23 (by decide) ?_
      exact hend _ _ (MS.mk x.cel x.kin x.mv x.st x.mm x.msz x.rch x.full) _ _ _ hP hS d_M_numberIn_27 ⟨rfl, IX.y (by decide) ha ⟨fun _ => rfl, fun z => absurd h0 z⟩⟩
    · refine r_meti (by decide) (Nat.le_of_ble_eq_true rfl) ?_
      intro p e s m args below meth c Q ls hx hb S hK hz hend hl hP hS
      have hts := S.2.2.2.2
      have hown := S.2.2.2.1
      refine lv_iload_n hx hb d_M_numberIn_0 rfl (lv_at hl 1 rfl) ?_
      refine r_calls S (c_M_isRegister1 l a ha) kc_M_isRegister k0_M km_M_28 kt_M_isRegister hd_M_isRegister ⟨rfl, rfl⟩ ⟨by decide, by decide⟩ rfl hl.1 rfl (Nat.le_of_ble_eq_true rfl) ⟨Nat.zero_le _, Nat.zero_le _⟩ d_M_numberIn_1 ?_
      refine r_ifeq (tgt := 26) hx hb d_M_numberIn_4 (by decide) (by omega) (fun c_4 => absurd c_4 (by omega)) (fun c_4 => ?_)
      refine lv_aload_n hx hb d_M_numberIn_7 rfl (lv_at hl 0 rfl) ?_
      refine r_get hx hb hts hown hK hP 0 rfl rfl in_M 1 (by decide) kf_M_7 rfl d_M_numberIn_8 ?_
      refine lv_iload_n hx hb d_M_numberIn_11 rfl (lv_at hl 1 rfl) ?_
      refine r_bald hx hb hK hP 1 0 rfl rfl (by decide) (by omega) d_M_numberIn_12 ?_
      refine lv_iconst (v := nI 1) hx hb d_M_numberIn_13 (by decide) ?_
      refine r_ne (tgt := 26) hx hb d_M_numberIn_14 (by decide) (by omega) (by omega) (fun c_14 => ?_) (fun c_14 => absurd c_14 h0)
      refine lv_iconst (v := nI 0) hx hb d_M_numberIn_26 (by decide) ?_
      exact hend _ _ (MS.mk x.cel x.kin x.mv x.st x.mm x.msz x.rch x.full) _ _ _ hP hS d_M_numberIn_27 ⟨rfl, IX.y (by decide) ha ⟨fun z => absurd z h0, fun _ => rfl⟩⟩
  · refine r_meti (by decide) (Nat.le_of_ble_eq_true rfl) ?_
    intro p e s m args below meth c Q ls hx hb S hK hz hend hl hP hS
    have hts := S.2.2.2.2
    have hown := S.2.2.2.1
    refine lv_iload_n hx hb d_M_numberIn_0 rfl (lv_at hl 1 rfl) ?_
    refine r_calls S (c_M_isRegister0 l r hr) kc_M_isRegister k0_M km_M_28 kt_M_isRegister hd_M_isRegister ⟨rfl, rfl⟩ ⟨by decide, by decide⟩ rfl hl.1 rfl (Nat.le_of_ble_eq_true rfl) ⟨Nat.zero_le _, Nat.zero_le _⟩ d_M_numberIn_1 ?_
    refine r_ifeq (tgt := 26) hx hb d_M_numberIn_4 (by decide) (by omega) (fun c_4 => ?_) (fun c_4 => absurd c_4 (by omega))
    refine lv_iconst (v := nI 0) hx hb d_M_numberIn_26 (by decide) ?_
    exact hend _ _ (MS.mk x.cel x.kin x.mv x.st x.mm x.msz x.rch x.full) _ _ _ hP hS d_M_numberIn_27 ⟨rfl, IX.n (by decide) hr rfl⟩
set_option maxHeartbeats 4000000 in
set_option maxRecDepth 100000 in
theorem c_M_same (l : Launch) (E : KX) (x : MS) (r t : Int32) (h : MI x) : Yi l E y_M_same w_M_same rm_M_same [.ref (E.ad 11), .int r, .int t] x (fun q x' => x' = x ∧ IX r 10 (fun a => IX t 10 (fun b => (x.kin a = x.kin b ∧ x.mv a = x.mv b → q = nI 1) ∧ (¬ (x.kin a = x.kin b ∧ x.mv a = x.mv b) → q = nI 0)) (q = -1)) (q = -1)) := by
  rcases ix_cases r (n := 10) (by decide) with ⟨a, ha, rfl⟩ | hr
  · rcases ix_cases t (n := 10) (by decide) with ⟨b, hb', rfl⟩ | hr
    · have h2 := h.1 a
      have h3 := h.1 b
      refine r_meti (by decide) (Nat.le_of_ble_eq_true rfl) ?_
      intro p e s m args below meth c Q ls hx hb S hK hz hend hl hP hS
      have hts := S.2.2.2.2
      have hown := S.2.2.2.1
      refine lv_iload_n hx hb d_M_same_0 rfl (lv_at hl 1 rfl) ?_
      refine r_calls S (c_M_isRegister1 l a ha) kc_M_isRegister k0_M km_M_28 kt_M_isRegister hd_M_isRegister ⟨rfl, rfl⟩ ⟨by decide, by decide⟩ rfl hl.1 rfl (Nat.le_of_ble_eq_true rfl) ⟨Nat.zero_le _, Nat.zero_le _⟩ d_M_same_1 ?_
      refine r_ifeq (tgt := 14) hx hb d_M_same_4 (by decide) (by omega) (fun c_4 => absurd c_4 (by omega)) (fun c_4 => ?_)
      refine lv_iload_n hx hb d_M_same_7 rfl (lv_at hl 2 rfl) ?_
      refine r_calls S (c_M_isRegister1 l b hb') kc_M_isRegister k0_M km_M_28 kt_M_isRegister hd_M_isRegister ⟨rfl, rfl⟩ ⟨by decide, by decide⟩ rfl hl.1 rfl (Nat.le_of_ble_eq_true rfl) ⟨Nat.zero_le _, Nat.zero_le _⟩ d_M_same_8 ?_
      refine r_ifne (tgt := 18) hx hb d_M_same_11 (by decide) (by omega) (fun c_11 => ?_) (fun c_11 => absurd c_11 (by omega))
      refine lv_aload_n hx hb d_M_same_18 rfl (lv_at hl 0 rfl) ?_
      refine r_get hx hb hts hown hK hP 0 rfl rfl in_M 1 (by decide) kf_M_7 rfl d_M_same_19 ?_
      refine lv_iload_n hx hb d_M_same_22 rfl (lv_at hl 1 rfl) ?_
      refine r_bald hx hb hK hP 1 0 rfl rfl (by decide) (by omega) d_M_same_23 ?_
      refine lv_aload_n hx hb d_M_same_24 rfl (lv_at hl 0 rfl) ?_
      refine r_get hx hb hts hown hK hP 0 rfl rfl in_M 1 (by decide) kf_M_7 rfl d_M_same_25 ?_
      refine lv_iload_n hx hb d_M_same_28 rfl (lv_at hl 2 rfl) ?_
      refine r_bald hx hb hK hP 1 0 rfl rfl (by decide) (by omega) d_M_same_29 ?_
      refine r_ne (tgt := 52) hx hb d_M_same_30 (by decide) (by omega) (by omega) (fun c_30 => ?_) (fun c_30 => ?_)
      · refine lv_iconst (v := nI 0) hx hb d_M_same_52 (by decide) ?_
        exact hend _ _ (MS.mk x.cel x.kin x.mv x.st x.mm x.msz x.rch x.full) _ _ _ hP hS d_M_same_53 ⟨rfl, IX.y (by decide) ha (IX.y (by decide) hb' ⟨fun z => absurd z.1 c_30, fun _ => rfl⟩)⟩
      · refine lv_aload_n hx hb d_M_same_33 rfl (lv_at hl 0 rfl) ?_
        refine r_get hx hb hts hown hK hP 0 rfl rfl in_M 2 (by decide) kf_M_13 rfl d_M_same_34 ?_
        refine lv_iload_n hx hb d_M_same_37 rfl (lv_at hl 1 rfl) ?_
        refine r_iald hx hb hK hP 2 1 rfl rfl (by decide) (by omega) d_M_same_38 ?_
        refine lv_aload_n hx hb d_M_same_39 rfl (lv_at hl 0 rfl) ?_
        refine r_get hx hb hts hown hK hP 0 rfl rfl in_M 2 (by decide) kf_M_13 rfl d_M_same_40 ?_
        refine lv_iload_n hx hb d_M_same_43 rfl (lv_at hl 2 rfl) ?_
        refine r_iald hx hb hK hP 2 1 rfl rfl (by decide) (by omega) d_M_same_44 ?_
        refine lv_icmp_ne (tgt := 52) hx hb d_M_same_45 (by decide) (fun c_45 => ?_) (fun c_45 => ?_)
        · refine lv_iconst (v := nI 0) hx hb d_M_same_52 (by decide) ?_
          exact hend _ _ (MS.mk x.cel x.kin x.mv x.st x.mm x.msz x.rch x.full) _ _ _ hP hS d_M_same_53 ⟨rfl, IX.y (by decide) ha (IX.y (by decide) hb' ⟨fun z => absurd z.2 c_45, fun _ => rfl⟩)⟩
        · refine lv_iconst (v := nI 1) hx hb d_M_same_48 (by decide) ?_
          refine lv_goto (tgt := 53) hx hb d_M_same_49 (by decide) ?_
          exact hend _ _ (MS.mk x.cel x.kin x.mv x.st x.mm x.msz x.rch x.full) _ _ _ hP hS d_M_same_53 ⟨rfl, IX.y (by decide) ha (IX.y (by decide) hb' ⟨fun _ => rfl, fun z => absurd ⟨c_30, c_45⟩ z⟩)⟩
    · refine r_meti (by decide) (Nat.le_of_ble_eq_true rfl) ?_
      intro p e s m args below meth c Q ls hx hb S hK hz hend hl hP hS
      have hts := S.2.2.2.2
      have hown := S.2.2.2.1
      refine lv_iload_n hx hb d_M_same_0 rfl (lv_at hl 1 rfl) ?_
      refine r_calls S (c_M_isRegister1 l a ha) kc_M_isRegister k0_M km_M_28 kt_M_isRegister hd_M_isRegister ⟨rfl, rfl⟩ ⟨by decide, by decide⟩ rfl hl.1 rfl (Nat.le_of_ble_eq_true rfl) ⟨Nat.zero_le _, Nat.zero_le _⟩ d_M_same_1 ?_
      refine r_ifeq (tgt := 14) hx hb d_M_same_4 (by decide) (by omega) (fun c_4 => absurd c_4 (by omega)) (fun c_4 => ?_)
      refine lv_iload_n hx hb d_M_same_7 rfl (lv_at hl 2 rfl) ?_
      refine r_calls S (c_M_isRegister0 l t hr) kc_M_isRegister k0_M km_M_28 kt_M_isRegister hd_M_isRegister ⟨rfl, rfl⟩ ⟨by decide, by decide⟩ rfl hl.1 rfl (Nat.le_of_ble_eq_true rfl) ⟨Nat.zero_le _, Nat.zero_le _⟩ d_M_same_8 ?_
      refine r_ifne (tgt := 18) hx hb d_M_same_11 (by decide) (by omega) (fun c_11 => absurd c_11 (by omega)) (fun c_11 => ?_)
      refine lv_iconst (v := -1) hx hb d_M_same_14 (by decide) ?_
      refine lv_goto (tgt := 53) hx hb d_M_same_15 (by decide) ?_
      exact hend _ _ (MS.mk x.cel x.kin x.mv x.st x.mm x.msz x.rch x.full) _ _ _ hP hS d_M_same_53 ⟨rfl, IX.y (by decide) ha (IX.n (by decide) hr rfl)⟩
  · refine r_meti (by decide) (Nat.le_of_ble_eq_true rfl) ?_
    intro p e s m args below meth c Q ls hx hb S hK hz hend hl hP hS
    have hts := S.2.2.2.2
    have hown := S.2.2.2.1
    refine lv_iload_n hx hb d_M_same_0 rfl (lv_at hl 1 rfl) ?_
    refine r_calls S (c_M_isRegister0 l r hr) kc_M_isRegister k0_M km_M_28 kt_M_isRegister hd_M_isRegister ⟨rfl, rfl⟩ ⟨by decide, by decide⟩ rfl hl.1 rfl (Nat.le_of_ble_eq_true rfl) ⟨Nat.zero_le _, Nat.zero_le _⟩ d_M_same_1 ?_
    refine r_ifeq (tgt := 14) hx hb d_M_same_4 (by decide) (by omega) (fun c_4 => ?_) (fun c_4 => absurd c_4 (by omega))
    refine lv_iconst (v := -1) hx hb d_M_same_14 (by decide) ?_
    refine lv_goto (tgt := 53) hx hb d_M_same_15 (by decide) ?_
    exact hend _ _ (MS.mk x.cel x.kin x.mv x.st x.mm x.msz x.rch x.full) _ _ _ hP hS d_M_same_53 ⟨rfl, IX.n (by decide) hr rfl⟩
set_option maxHeartbeats 4000000 in
set_option maxRecDepth 100000 in
theorem c_M_count (l : Launch) (E : KX) (x : MS) (u : Int32) (h : MI x) : Yi l E y_M_count w_M_count rm_M_count [.ref (E.ad 11), .int u] x (fun q x' => ∃ f : Nat → Nat, (∀ i, f i ≤ 1) ∧ x' = MS.mk x.cel x.kin x.mv x.st x.mm x.msz f x.full ∧ IX u 5 (fun n => (n = 0 → q = nI (sM x)) ∧ (n = 1 → q = nI (cM x)) ∧ (n = 2 → q = nI x.st) ∧ (n = 3 → q = nI x.mm) ∧ (n = 4 → q = x.full)) (q = -1)) := by
  refine r_meti (by decide) (Nat.le_of_ble_eq_true rfl) ?_
  intro p e s m args below meth c Q ls hx hb S hK hz hend hl hP hS
  have hts := S.2.2.2.2
  have hown := S.2.2.2.1
  have hmm := h.2.2.2.2.2.1
  have tail : ∀ (f : Nat → Nat), (∀ i, f i ≤ 1) → ∀ (H : Heap) (locs : List Loc) (ls : Array Slot), va_P E.D classes (wMe E x.cel x.kin x.mv x.st x.mm x.msz f x.full) H → va_S (AM E) s.heap H locs → lv_has ls 5 [(0, .ref (E.ad 11)), (1, .int u), (2, .int (nI (cM x))), (3, .int (nI (sM x)))] → W p l e rm_M_count s m args below meth c H locs 0 0 Q (F0 m 43 ls []) := by
    intro f hf1 H locs ls hP hS hl
    rcases ix_cases u (n := 5) (by decide) with ⟨n, hn, rfl⟩ | hr
    · rcases (show n = 0 ∨ n = 1 ∨ n = 2 ∨ n = 3 ∨ n = 4 by omega) with rfl | rfl | rfl | rfl | rfl
      · refine lv_iload_n hx hb d_M_count_43 rfl (lv_at hl 1 rfl) ?_
        refine r_ifne (tgt := 51) hx hb d_M_count_44 (by decide) (by omega) (fun c_44 => absurd c_44 (by decide)) (fun c_44 => ?_)
        refine lv_iload_n hx hb d_M_count_47 rfl (lv_at hl 3 rfl) ?_
        refine lv_goto (tgt := 97) hx hb d_M_count_48 (by decide) ?_
        exact hend _ _ (MS.mk x.cel x.kin x.mv x.st x.mm x.msz f x.full) _ _ _ hP hS d_M_count_97 ⟨f, hf1, rfl, IX.y (by decide) hn ⟨fun _ => rfl, fun z => absurd z (by decide), fun z => absurd z (by decide), fun z => absurd z (by decide), fun z => absurd z (by decide)⟩⟩
      · refine lv_iload_n hx hb d_M_count_43 rfl (lv_at hl 1 rfl) ?_
        refine r_ifne (tgt := 51) hx hb d_M_count_44 (by decide) (by omega) (fun c_44 => ?_) (fun c_44 => absurd c_44 (by decide))
        refine lv_iload_n hx hb d_M_count_51 rfl (lv_at hl 1 rfl) ?_
        refine lv_iconst (v := nI 1) hx hb d_M_count_52 (by decide) ?_
        refine r_ne (tgt := 60) hx hb d_M_count_53 (by decide) (by omega) (by omega) (fun c_53 => absurd c_53 (by decide)) (fun c_53 => ?_)
        refine lv_iload_n hx hb d_M_count_56 rfl (lv_at hl 2 rfl) ?_
        refine lv_goto (tgt := 97) hx hb d_M_count_57 (by decide) ?_
        exact hend _ _ (MS.mk x.cel x.kin x.mv x.st x.mm x.msz f x.full) _ _ _ hP hS d_M_count_97 ⟨f, hf1, rfl, IX.y (by decide) hn ⟨fun z => absurd z (by decide), fun _ => rfl, fun z => absurd z (by decide), fun z => absurd z (by decide), fun z => absurd z (by decide)⟩⟩
      · refine lv_iload_n hx hb d_M_count_43 rfl (lv_at hl 1 rfl) ?_
        refine r_ifne (tgt := 51) hx hb d_M_count_44 (by decide) (by omega) (fun c_44 => ?_) (fun c_44 => absurd c_44 (by decide))
        refine lv_iload_n hx hb d_M_count_51 rfl (lv_at hl 1 rfl) ?_
        refine lv_iconst (v := nI 1) hx hb d_M_count_52 (by decide) ?_
        refine r_ne (tgt := 60) hx hb d_M_count_53 (by decide) (by omega) (by omega) (fun c_53 => ?_) (fun c_53 => absurd c_53 (by decide))
        refine lv_iload_n hx hb d_M_count_60 rfl (lv_at hl 1 rfl) ?_
        refine lv_iconst (v := nI 2) hx hb d_M_count_61 (by decide) ?_
        refine r_ne (tgt := 72) hx hb d_M_count_62 (by decide) (by omega) (by omega) (fun c_62 => absurd c_62 (by decide)) (fun c_62 => ?_)
        refine lv_aload_n hx hb d_M_count_65 rfl (lv_at hl 0 rfl) ?_
        refine r_get hx hb hts hown hK hP 0 rfl rfl in_M 3 (by decide) kf_M_35 rfl d_M_count_66 ?_
        refine lv_goto (tgt := 97) hx hb d_M_count_69 (by decide) ?_
        exact hend _ _ (MS.mk x.cel x.kin x.mv x.st x.mm x.msz f x.full) _ _ _ hP hS d_M_count_97 ⟨f, hf1, rfl, IX.y (by decide) hn ⟨fun z => absurd z (by decide), fun z => absurd z (by decide), fun _ => rfl, fun z => absurd z (by decide), fun z => absurd z (by decide)⟩⟩
      · refine lv_iload_n hx hb d_M_count_43 rfl (lv_at hl 1 rfl) ?_
        refine r_ifne (tgt := 51) hx hb d_M_count_44 (by decide) (by omega) (fun c_44 => ?_) (fun c_44 => absurd c_44 (by decide))
        refine lv_iload_n hx hb d_M_count_51 rfl (lv_at hl 1 rfl) ?_
        refine lv_iconst (v := nI 1) hx hb d_M_count_52 (by decide) ?_
        refine r_ne (tgt := 60) hx hb d_M_count_53 (by decide) (by omega) (by omega) (fun c_53 => ?_) (fun c_53 => absurd c_53 (by decide))
        refine lv_iload_n hx hb d_M_count_60 rfl (lv_at hl 1 rfl) ?_
        refine lv_iconst (v := nI 2) hx hb d_M_count_61 (by decide) ?_
        refine r_ne (tgt := 72) hx hb d_M_count_62 (by decide) (by omega) (by omega) (fun c_62 => ?_) (fun c_62 => absurd c_62 (by decide))
        refine lv_iload_n hx hb d_M_count_72 rfl (lv_at hl 1 rfl) ?_
        refine lv_iconst (v := nI 3) hx hb d_M_count_73 (by decide) ?_
        refine r_ne (tgt := 84) hx hb d_M_count_74 (by decide) (by omega) (by omega) (fun c_74 => absurd c_74 (by decide)) (fun c_74 => ?_)
        refine lv_aload_n hx hb d_M_count_77 rfl (lv_at hl 0 rfl) ?_
        refine r_get hx hb hts hown hK hP 0 rfl rfl in_M 4 (by decide) kf_M_32 rfl d_M_count_78 ?_
        refine lv_goto (tgt := 97) hx hb d_M_count_81 (by decide) ?_
        exact hend _ _ (MS.mk x.cel x.kin x.mv x.st x.mm x.msz f x.full) _ _ _ hP hS d_M_count_97 ⟨f, hf1, rfl, IX.y (by decide) hn ⟨fun z => absurd z (by decide), fun z => absurd z (by decide), fun z => absurd z (by decide), fun _ => rfl, fun z => absurd z (by decide)⟩⟩
      · refine lv_iload_n hx hb d_M_count_43 rfl (lv_at hl 1 rfl) ?_
        refine r_ifne (tgt := 51) hx hb d_M_count_44 (by decide) (by omega) (fun c_44 => ?_) (fun c_44 => absurd c_44 (by decide))
        refine lv_iload_n hx hb d_M_count_51 rfl (lv_at hl 1 rfl) ?_
        refine lv_iconst (v := nI 1) hx hb d_M_count_52 (by decide) ?_
        refine r_ne (tgt := 60) hx hb d_M_count_53 (by decide) (by omega) (by omega) (fun c_53 => ?_) (fun c_53 => absurd c_53 (by decide))
        refine lv_iload_n hx hb d_M_count_60 rfl (lv_at hl 1 rfl) ?_
        refine lv_iconst (v := nI 2) hx hb d_M_count_61 (by decide) ?_
        refine r_ne (tgt := 72) hx hb d_M_count_62 (by decide) (by omega) (by omega) (fun c_62 => ?_) (fun c_62 => absurd c_62 (by decide))
        refine lv_iload_n hx hb d_M_count_72 rfl (lv_at hl 1 rfl) ?_
        refine lv_iconst (v := nI 3) hx hb d_M_count_73 (by decide) ?_
        refine r_ne (tgt := 84) hx hb d_M_count_74 (by decide) (by omega) (by omega) (fun c_74 => ?_) (fun c_74 => absurd c_74 (by decide))
        refine lv_iload_n hx hb d_M_count_84 rfl (lv_at hl 1 rfl) ?_
        refine lv_iconst (v := nI 4) hx hb d_M_count_85 (by decide) ?_
        refine r_ne (tgt := 96) hx hb d_M_count_86 (by decide) (by omega) (by omega) (fun c_86 => absurd c_86 (by decide)) (fun c_86 => ?_)
        refine lv_aload_n hx hb d_M_count_89 rfl (lv_at hl 0 rfl) ?_
        refine r_get hx hb hts hown hK hP 0 rfl rfl in_M 7 (by decide) kf_M_52 rfl d_M_count_90 ?_
        refine lv_goto (tgt := 97) hx hb d_M_count_93 (by decide) ?_
        exact hend _ _ (MS.mk x.cel x.kin x.mv x.st x.mm x.msz f x.full) _ _ _ hP hS d_M_count_97 ⟨f, hf1, rfl, IX.y (by decide) hn ⟨fun z => absurd z (by decide), fun z => absurd z (by decide), fun z => absurd z (by decide), fun z => absurd z (by decide), fun _ => rfl⟩⟩
    · refine lv_iload_n hx hb d_M_count_43 rfl (lv_at hl 1 rfl) ?_
      refine lv_if_ne (tgt := 51) hx hb d_M_count_44 (by decide) (fun c_44 => ?_) (fun c_44 => absurd c_44 (ix_ne (m := 0) (by decide) (by decide) hr))
      refine lv_iload_n hx hb d_M_count_51 rfl (lv_at hl 1 rfl) ?_
      refine lv_iconst (v := nI 1) hx hb d_M_count_52 (by decide) ?_
      refine lv_icmp_ne (tgt := 60) hx hb d_M_count_53 (by decide) (fun c_53 => ?_) (fun c_53 => absurd c_53 (ix_ne (m := 1) (by decide) (by decide) hr))
      refine lv_iload_n hx hb d_M_count_60 rfl (lv_at hl 1 rfl) ?_
      refine lv_iconst (v := nI 2) hx hb d_M_count_61 (by decide) ?_
      refine lv_icmp_ne (tgt := 72) hx hb d_M_count_62 (by decide) (fun c_62 => ?_) (fun c_62 => absurd c_62 (ix_ne (m := 2) (by decide) (by decide) hr))
      refine lv_iload_n hx hb d_M_count_72 rfl (lv_at hl 1 rfl) ?_
      refine lv_iconst (v := nI 3) hx hb d_M_count_73 (by decide) ?_
      refine lv_icmp_ne (tgt := 84) hx hb d_M_count_74 (by decide) (fun c_74 => ?_) (fun c_74 => absurd c_74 (ix_ne (m := 3) (by decide) (by decide) hr))
      refine lv_iload_n hx hb d_M_count_84 rfl (lv_at hl 1 rfl) ?_
      refine lv_iconst (v := nI 4) hx hb d_M_count_85 (by decide) ?_
      refine lv_icmp_ne (tgt := 96) hx hb d_M_count_86 (by decide) (fun c_86 => ?_) (fun c_86 => absurd c_86 (ix_ne (m := 4) (by decide) (by decide) hr))
      refine lv_iconst (v := -1) hx hb d_M_count_96 (by decide) ?_
      exact hend _ _ (MS.mk x.cel x.kin x.mv x.st x.mm x.msz f x.full) _ _ _ hP hS d_M_count_97 ⟨f, hf1, rfl, IX.n (by decide) hr rfl⟩
  have loop : ∀ (f : Nat → Nat), (∀ i, f i ≤ 1) → (∀ a, a < x.mm → (f a = 1 ↔ RM x a)) → ∀ (n k : Nat), n + k = x.mm → ∀ (H : Heap) (locs : List Loc) (ls : Array Slot), va_P E.D classes (wMe E x.cel x.kin x.mv x.st x.mm x.msz f x.full) H → va_S (AM E) s.heap H locs → lv_has ls 5 [(0, .ref (E.ad 11)), (1, .int u), (2, .int (nI (cF f k))), (3, .int (nI (sM x))), (4, .int (nI k))] → W p l e rm_M_count s m args below meth c H locs 0 0 Q (F0 m 10 ls []) := by
    intro f hf1 hf2 n
    induction n with
    | zero =>
      intro k hk H locs ls hP hS hl
      have hk : k = x.mm := by omega
      subst hk
      rw [show cF f x.mm = cM x from (sM_eq hf2).2] at hl
      refine lv_iload hx hb d_M_count_10 (lv_at hl 4 rfl) ?_
      refine lv_aload_n hx hb d_M_count_12 rfl (lv_at hl 0 rfl) ?_
      refine r_get hx hb hts hown hK hP 0 rfl rfl in_M 4 (by decide) kf_M_32 rfl d_M_count_13 ?_
      refine r_ge (tgt := 43) hx hb d_M_count_16 (by decide) (by omega) (by omega) (fun c_16 => ?_) (fun c_16 => absurd c_16 (by omega))
      exact tail f hf1 _ _ _ hP hS (lv_sub hl [0, 1, 2, 3] rfl)
    | succ n ih =>
      intro k hk H locs ls hP hS hl
      have hfk := hf1 k
      refine lv_iload hx hb d_M_count_10 (lv_at hl 4 rfl) ?_
      refine lv_aload_n hx hb d_M_count_12 rfl (lv_at hl 0 rfl) ?_
      refine r_get hx hb hts hown hK hP 0 rfl rfl in_M 4 (by decide) kf_M_32 rfl d_M_count_13 ?_
      refine r_ge (tgt := 43) hx hb d_M_count_16 (by decide) (by omega) (by omega) (fun c_16 => absurd c_16 (by omega)) (fun c_16 => ?_)
      refine lv_aload_n hx hb d_M_count_19 rfl (lv_at hl 0 rfl) ?_
      refine r_get hx hb hts hown hK hP 0 rfl rfl in_M 6 (by decide) kf_M_20 rfl d_M_count_20 ?_
      refine lv_iload hx hb d_M_count_23 (lv_at hl 4 rfl) ?_
      refine r_zald hx hb hK hP 4 2 rfl rfl (by decide) (by omega) d_M_count_25 ?_
      refine r_ifeq (tgt := 35) hx hb d_M_count_26 (by decide) (by omega) (fun c_26 => ?_) (fun c_26 => ?_)
      · refine lv_iload_n hx hb d_M_count_35 rfl (lv_at hl 2 rfl) ?_
        refine r_top (show nI (cF f k) = nI (cF f (k + 1)) by rw [cF_0 (by omega)]) ?_
        refine lv_istore_n hx hb d_M_count_36 rfl hl (by decide) rfl (fun ls hl => ?_)
        refine r_inc hx hb d_M_count_37 hl 4 rfl (by decide) rfl (fun ls hl => ?_)
        refine lv_goto (tgt := 10) hx hb d_M_count_40 (by decide) ?_
        exact ih (k + 1) (by omega) _ _ _ hP hS (lv_sub hl [2, 3, 1, 4, 0] rfl)
      · refine lv_iload_n hx hb d_M_count_29 rfl (lv_at hl 2 rfl) ?_
        refine lv_iconst (v := nI 1) hx hb d_M_count_30 (by decide) ?_
        refine r_add hx hb d_M_count_31 ?_
        refine r_top (show nI (cF f k + 1) = nI (cF f (k + 1)) by rw [cF_1 (by omega)]) ?_
        refine lv_goto (tgt := 36) hx hb d_M_count_32 (by decide) ?_
        refine lv_istore_n hx hb d_M_count_36 rfl hl (by decide) rfl (fun ls hl => ?_)
        refine r_inc hx hb d_M_count_37 hl 4 rfl (by decide) rfl (fun ls hl => ?_)
        refine lv_goto (tgt := 10) hx hb d_M_count_40 (by decide) ?_
        exact ih (k + 1) (by omega) _ _ _ hP hS (lv_sub hl [2, 3, 1, 4, 0] rfl)
  refine lv_iconst (v := nI 0) hx hb d_M_count_0 (by decide) ?_
  refine lv_istore_n hx hb d_M_count_1 rfl hl (by decide) rfl (fun ls hl => ?_)
  refine lv_aload_n hx hb d_M_count_2 rfl (lv_at hl 1 rfl) ?_
  refine r_calli S (c_M_reachable l E x h) kc_M_reachable k0_M km_M_48 ki_M_reachable ks_M_reachable hd_M_reachable ⟨rfl, rfl⟩ ⟨by decide, by decide⟩ (zM_ok E) hz hK hP hS (fun _ h => h) 0 rfl rfl rfl hl.1 rfl (Nat.le_of_ble_eq_true rfl) ⟨Nat.zero_le _, Nat.zero_le _⟩ d_M_count_3 (fun q1 x1 H locs hw hP _ _ hS => ?_)
  obtain ⟨hq1, f, hf1, hf2, hx1⟩ := hw
  subst hq1
  rw [hx1] at hP
  refine lv_istore_n hx hb d_M_count_6 rfl hl (by decide) rfl (fun ls hl => ?_)
  refine lv_iconst (v := nI 0) hx hb d_M_count_7 (by decide) ?_
  refine lv_istore hx hb d_M_count_8 hl (by decide) rfl (fun ls hl => ?_)
  exact loop f hf1 hf2 x.mm 0 (by omega) _ _ _ hP hS (lv_sub hl [3, 4, 2, 1, 0] rfl)
end
section
/-! the component and the model agree: what is kept, and that they answer alike -/
def VC (g : Nat → Nat) (t : Nat) (w : Int32) (t' : Nat) (w' : Int32) : Prop := t' = t ∧ (t ≠ 2 → w' = w) ∧ (t = 2 → ∀ v, v < 1600 → w = nI v → w' = nI (g v))
def GV (g : Nat → Nat) (L : Nat → Prop) (t : Nat) (w : Int32) (t' : Nat) (w' : Int32) : Prop := VC g t w t' w' ∧ (t = 2 → ∃ v, v < 1600 ∧ w = nI v ∧ L v)
def Corr (g : Nat → Nat) (x : XS) (m : MS) : Prop := x.dp = m.st ∧ x.most = m.cel ∧ x.made = nI m.mm ∧ x.full = m.full ∧ (∀ s, Lv x.col x.wh s → g s < m.mm) ∧ (∀ s t, Lv x.col x.wh s → Lv x.col x.wh t → g s = g t → s = t) ∧ (∀ k, k < 10 + x.dp → GV g (Lv x.col x.wh) (x.rs k) (x.rv k) (m.kin k) (m.mv k)) ∧ (∀ s, Lv x.col x.wh s → m.msz (g s) = x.siz s ∧ ∀ k, k < x.siz s → GV g (Lv x.col x.wh) (x.srt (20 * s + k)) (x.val (20 * s + k)) (m.kin (60 + 20 * g s + k)) (m.mv (60 + 20 * g s + k)))
def SIM (g : Nat → Nat) (x : XS) (m : MS) : Prop := Inv x ∧ MI m ∧ Corr g x m
theorem GV.plain {g : Nat → Nat} {L : Nat → Prop} {t : Nat} {w : Int32} (h : t ≠ 2) : GV g L t w t w := ⟨⟨rfl, fun _ => rfl, fun e => absurd e h⟩, fun e => absurd e h⟩
theorem GV.obj {g : Nat → Nat} {L : Nat → Prop} {t t' : Nat} {w w' : Int32} (h : GV g L t w t' w') (ht : t = 2) : ∃ v, v < 1600 ∧ L v ∧ w = nI v ∧ w' = nI (g v) := by
  obtain ⟨v, h1, h2, h3⟩ := h.2 ht
  exact ⟨v, h1, h3, h2, h.1.2.2 ht v h1 h2⟩
theorem GV.mono {g g' : Nat → Nat} {L L' : Nat → Prop} {t t' : Nat} {w w' : Int32} (h : GV g L t w t' w') (hL : ∀ v, v < 1600 → L v → L' v ∧ g' v = g v) : GV g' L' t w t' w' := by
  refine ⟨⟨h.1.1, h.1.2.1, fun ht v hv he => ?_⟩, fun ht => ?_⟩
  · obtain ⟨v0, q1, q2, q3, q4⟩ := h.obj ht
    have e : v0 = v := (nI_eq (by omega) (by omega)).mp (q3.symm.trans he)
    subst e
    rw [(hL v0 q1 q2).2]
    exact q4
  · obtain ⟨v0, q1, q2, q3, q4⟩ := h.obj ht
    exact ⟨v0, q1, q3, (hL v0 q1 q2).1⟩
/-- what both hold at a register that holds an object -/
theorem Corr.reg {g : Nat → Nat} {x : XS} {m : MS} (h : Corr g x m) {j v : Nat} (hj : j < 10) (h2 : x.rs j = 2) (hv : v < 1600) (he : x.rv j = nI v) : Lv x.col x.wh v ∧ m.kin j = 2 ∧ m.mv j = nI (g v) ∧ g v < m.mm := by
  have q := h.2.2.2.2.2.2.1 j (by omega)
  obtain ⟨v0, q1, q2, q3, q4⟩ := q.obj h2
  have e : v0 = v := (nI_eq (by omega) (by omega)).mp (q3.symm.trans he)
  subst e
  exact ⟨q2, q.1.1.trans h2, q4, h.2.2.2.2.1 v0 q2⟩
theorem Corr.kin {g : Nat → Nat} {x : XS} {m : MS} (h : Corr g x m) {j : Nat} (hj : j < 10 + x.dp) : m.kin j = x.rs j := (h.2.2.2.2.2.2.1 j hj).1.1
theorem Corr.nob {g : Nat → Nat} {x : XS} {m : MS} (h : Corr g x m) {r : Int32} (hn : NOB x.rs r) : NOB m.kin r := by
  rcases hn with q | ⟨j, hj, e, q⟩
  · exact Or.inl q
  · exact Or.inr ⟨j, hj, e, by rw [h.kin (by omega)]; exact q⟩
theorem Corr.shr {g : Nat → Nat} {x x' : XS} {m : MS} (h : Corr g x m) (hs : Shr x x') (hi : Inv x') : Corr g x' m := by
  obtain ⟨a1, a2, a3, a4, a5, a6, a7, a8, a9, a10⟩ := hs
  obtain ⟨h1, h2, h3, h4, h5, h6, h7, h8⟩ := h
  refine ⟨a3.trans h1, a7.trans h2, a8.trans h3, a9.trans h4, fun s hl => h5 s (a10 s hl), fun s t hl ht e => h6 s t (a10 s hl) (a10 t ht) e, fun k hk => ?_, fun s hl => ?_⟩
  · have hr := hi.2.2.2.2.2.2.1 k hk
    rw [a3] at hk
    have q := h7 k hk
    rw [a1, a2] at hr ⊢
    exact ⟨q.1, hr⟩
  · have hc := hi.2.2.2.2.2.1 s hl
    obtain ⟨q1, q2⟩ := h8 s (a10 s hl)
    rw [a4, a5, a6] at hc
    rw [a4, a5, a6]
    exact ⟨q1, fun k hk => ⟨(q2 k hk).1, hc k hk⟩⟩
theorem SIM.rx {g : Nat → Nat} {x : XS} {m : MS} (h : SIM g x m) {s : Nat} (hr : RX x s) : RM m (g s) := by
  obtain ⟨hi, hm, h1, h2, h3, h4, h5, h6, h7, h8⟩ := h
  refine (hr (fun s => Lv x.col x.wh s ∧ RM m (g s)) (fun k v hk ht hv he => ?_) (fun a k v ha hk ht hv he => ?_)).2
  · have hl := hi.rx (RX.root hk ht hv he)
    have q := h7 k hk
    exact ⟨hl, RM.root (by rw [← h1]; exact hk) (q.1.1.trans ht) (h5 v hl) (q.1.2.2 ht v hv he)⟩
  · obtain ⟨q1, q2⟩ := h8 a ha.1
    have q := q2 k hk
    have hl : Lv x.col x.wh v := by
      obtain ⟨v0, r1, r2, r3, r4⟩ := q.obj ht
      rw [(nI_eq (by omega) (by omega)).mp (he.symm.trans r3)]
      exact r2
    exact ⟨hl, ha.2.step (by rw [q1]; exact hk) (q.1.1.trans ht) (h5 v hl) (q.1.2.2 ht v hv he)⟩
theorem SIM.rm {g : Nat → Nat} {x : XS} {m : MS} (h : SIM g x m) {a : Nat} (hr : RM m a) : ∃ s, s < 1600 ∧ RX x s ∧ g s = a := by
  obtain ⟨hi, hm, h1, h2, h3, h4, h5, h6, h7, h8⟩ := h
  have hmm := hm.2.2.2.2.2.1
  have := hr (fun a => ∃ s, Lv x.col x.wh s ∧ RX x s ∧ g s = a) (fun k b hk ht hb he => ?_) (fun a i b ha hi2 ht hb he => ?_)
  · obtain ⟨s, q1, q2, q3⟩ := this
    exact ⟨s, q1.1, q2, q3⟩
  · rw [← h1] at hk
    have q := h7 k hk
    have ht' : x.rs k = 2 := by rw [← q.1.1]; exact ht
    obtain ⟨v, r1, r2, r3, r4⟩ := q.obj ht'
    have e : g v = b := (nI_eq (by have := h5 v r2; omega) (by omega)).mp (r4.symm.trans he)
    exact ⟨v, r2, RX.root hk ht' r1 r3, e⟩
  · obtain ⟨s, q1, q2, rfl⟩ := ha
    obtain ⟨p1, p2⟩ := h8 s q1
    rw [p1] at hi2
    have q := p2 i hi2
    have ht' : x.srt (20 * s + i) = 2 := by rw [← q.1.1]; exact ht
    obtain ⟨v, r1, r2, r3, r4⟩ := q.obj ht'
    have e : g v = b := (nI_eq (by have := h5 v r2; omega) (by omega)).mp (r4.symm.trans he)
    exact ⟨v, r2, q2.step hi2 ht' r1 r3, e⟩
theorem sum_none {f : Nat → Nat} : ∀ {n : Nat}, (∀ i, i < n → f i = 0) → sumTo f n = 0 := by
  intro n
  induction n with
  | zero => intro _; rfl
  | succ n ih =>
    intro h
    simp only [sumTo]
    rw [ih (fun i hi => h i (by omega)), h n (by omega)]
theorem sum_bij {f h : Nat → Nat} {g : Nat → Nat} {M : Nat} : ∀ (N : Nat) (P Q : Nat → Prop), (∀ s, s < N → P s → g s < M ∧ Q (g s) ∧ f s = h (g s)) → (∀ s t, s < N → t < N → P s → P t → g s = g t → s = t) → (∀ a, a < M → Q a → ∃ s, s < N ∧ P s ∧ g s = a) →
    sumTo (fun s => @ite Nat (P s) (Classical.propDecidable _) (f s) 0) N = sumTo (fun a => @ite Nat (Q a) (Classical.propDecidable _) (h a) 0) M := by
  intro N
  induction N with
  | zero =>
    intro P Q _ _ h3
    refine (sum_none (fun a ha => ?_)).symm
    rw [if_neg]
    intro q
    obtain ⟨s, hs, -⟩ := h3 a ha q
    omega
  | succ N ih =>
    intro P Q h1 h2 h3
    simp only [sumTo]
    by_cases hp : P N
    · rw [if_pos hp]
      obtain ⟨q1, q2, q3⟩ := h1 N (by omega) hp
      have e := ih P (fun a => Q a ∧ a ≠ g N) (fun s hs hps => by
        obtain ⟨r1, r2, r3⟩ := h1 s (by omega) hps
        exact ⟨r1, ⟨r2, fun z => by have := h2 s N (by omega) (by omega) hps hp z; omega⟩, r3⟩) (fun s t hs ht => h2 s t (by omega) (by omega)) (fun a ha hq => by
        obtain ⟨s, r1, r2, r3⟩ := h3 a ha hq.1
        refine ⟨s, ?_, r2, r3⟩
        have : s ≠ N := fun z => hq.2 (by rw [← z]; exact r3.symm)
        omega)
      rw [e]
      have e2 := sumTo_at (f := fun a => @ite Nat (Q a ∧ a ≠ g N) (Classical.propDecidable _) (h a) 0) (g := fun a => @ite Nat (Q a) (Classical.propDecidable _) (h a) 0) (s := g N) (n := M) q1 (fun a _ hne => by
        by_cases hq : Q a
        · rw [if_pos ⟨hq, hne⟩, if_pos hq]
        · rw [if_neg (fun z => hq z.1), if_neg hq])
      rw [if_pos q2, if_neg (fun z => z.2 rfl)] at e2
      omega
    · rw [if_neg hp, Nat.add_zero]
      exact ih P Q (fun s hs => h1 s (by omega)) (fun s t hs ht => h2 s t (by omega) (by omega)) (fun a ha hq => by
        obtain ⟨s, r1, r2, r3⟩ := h3 a ha hq
        refine ⟨s, ?_, r2, r3⟩
        have : s ≠ N := fun z => hp (by rw [← z]; exact r2)
        omega)
theorem SIM.sums {g : Nat → Nat} {x : XS} {m : MS} (h : SIM g x m) : sR x = sM m ∧ cR x = cM m := by
  have hb : ∀ s, s < 1600 → RX x s → g s < m.mm ∧ RM m (g s) := fun s hs hr => ⟨h.2.2.2.2.2.2.1 s (h.1.rx hr), h.rx hr⟩
  have hj : ∀ s t, s < 1600 → t < 1600 → RX x s → RX x t → g s = g t → s = t := fun s t _ _ hs ht e => h.2.2.2.2.2.2.2.1 s t (h.1.rx hs) (h.1.rx ht) e
  constructor
  · exact sum_bij (f := fun s => 2 + x.siz s) (h := fun a => 2 + m.msz a) 1600 (RX x) (RM m) (fun s hs hr => ⟨(hb s hs hr).1, (hb s hs hr).2, by rw [(h.2.2.2.2.2.2.2.2.2 s (h.1.rx hr)).1]⟩) hj (fun a _ hq => h.rm hq)
  · exact sum_bij (f := fun _ => 1) (h := fun _ => 1) 1600 (RX x) (RM m) (fun s hs hr => ⟨(hb s hs hr).1, (hb s hs hr).2, rfl⟩) hj (fun a _ hq => h.rm hq)
theorem MI.flags {x : MS} (h : MI x) {f : Nat → Nat} (hf : ∀ i, f i ≤ 1) (full : Int32) : MI (MS.mk x.cel x.kin x.mv x.st x.mm x.msz f full) := ⟨h.1, h.2.1, h.2.2.1, h.2.2.2.1, hf, h.2.2.2.2.2.1, h.2.2.2.2.2.2.1, h.2.2.2.2.2.2.2⟩
theorem Inv.full {x : XS} (h : Inv x) (full : Int32) : Inv (XS.mk x.rs x.rv x.dp x.col x.siz x.srt x.val x.fre x.gry x.most x.fc x.gc x.us x.ob x.wh x.ph x.sw x.md x.made full) := h
theorem MI.of {g : Nat → Nat} {x : XS} {m : MS} (h : Corr g x m) : ∀ k, k < 10 + m.st → m.kin k = 2 → ∃ a, a < m.mm ∧ m.mv k = nI a := fun k hk ht => by
  rw [← h.1] at hk
  have q := h.2.2.2.2.2.2.1 k hk
  obtain ⟨v, r1, r2, r3, r4⟩ := q.obj (by rw [← q.1.1]; exact ht)
  exact ⟨g v, h.2.2.2.2.1 v r2, r4⟩
/-- registers and stack change, objects don't -/
theorem SIM.roots {g : Nat → Nat} {x : XS} {m : MS} (h : SIM g x m) {rs kin : Nat → Nat} {rv mv : Nat → Int32} {dp : Nat} (h2 : ∀ i, rs i ≤ 2) (hk2 : ∀ i, kin i ≤ 2) (hd : dp ≤ 50) (hgv : ∀ k, k < 10 + dp → GV g (Lv x.col x.wh) (rs k) (rv k) (kin k) (mv k)) (hhi : ∀ i, 60 ≤ i → kin i = m.kin i ∧ mv i = m.mv i) : SIM g (XS.mk rs rv dp x.col x.siz x.srt x.val x.fre x.gry x.most x.fc x.gc x.us x.ob x.wh x.ph x.sw x.md x.made x.full) (MS.mk m.cel kin mv dp m.mm m.msz m.rch m.full) := by
  obtain ⟨hi, hm, h1, hmo, h3, h4, h5, h6, h7, h8⟩ := id h
  have hc : Corr g (XS.mk rs rv dp x.col x.siz x.srt x.val x.fre x.gry x.most x.fc x.gc x.us x.ob x.wh x.ph x.sw x.md x.made x.full) (MS.mk m.cel kin mv dp m.mm m.msz m.rch m.full) := by
    refine ⟨rfl, hmo, h3, h4, h5, h6, hgv, fun s hs => ?_⟩
    obtain ⟨q1, q2⟩ := h8 s hs
    refine ⟨q1, fun k hk => ?_⟩
    show GV g (Lv x.col x.wh) (x.srt (20 * s + k)) (x.val (20 * s + k)) (kin (60 + 20 * g s + k)) (mv (60 + 20 * g s + k))
    rw [(hhi _ (by omega)).1, (hhi _ (by omega)).2]
    exact q2 k hk
  refine ⟨hi.roots h2 hd (fun k hk ht => (hgv k hk).2 ht) _ _, ⟨hk2, hm.2.1, hd, hm.2.2.2.1, hm.2.2.2.2.1, hm.2.2.2.2.2.1, MI.of hc, fun a ha i hi2 ht => ?_⟩, hc⟩
  have ht : kin (60 + 20 * a + i) = 2 := ht
  show ∃ b, b < m.mm ∧ mv (60 + 20 * a + i) = nI b
  rw [(hhi _ (by omega)).1] at ht
  rw [(hhi _ (by omega)).2]
  exact hm.2.2.2.2.2.2.2 a ha i hi2 ht
theorem up_le {f : Nat → Nat} {a c : Nat} (h : ∀ i, f i ≤ 2) (hc : c ≤ 2) (i : Nat) : va_up f a c i ≤ 2 := by
  by_cases z : i = a
  · rw [z, va_up_self]; exact hc
  · rw [va_up_ne _ _ z]; exact h i
theorem up_hi {α : Type} {f : Nat → α} {a : Nat} {c : α} (ha : a < 60) {i : Nat} (hi : 60 ≤ i) : va_up f a c i = f i := va_up_ne _ _ (by omega)
/-- one register changes -/
theorem SIM.reg {g : Nat → Nat} {x : XS} {m : MS} (h : SIM g x m) {a t t' : Nat} {w w' : Int32} (ha : a < 10) (ht : t ≤ 2) (hgv : GV g (Lv x.col x.wh) t w t' w') : SIM g (XS.mk (va_up x.rs a t) (va_up x.rv a w) x.dp x.col x.siz x.srt x.val x.fre x.gry x.most x.fc x.gc x.us x.ob x.wh x.ph x.sw x.md x.made x.full) (MS.mk m.cel (va_up m.kin a t') (va_up m.mv a w') m.st m.mm m.msz m.rch m.full) := by
  have hd := h.2.2.1
  have e : t' = t := hgv.1.1
  have := h.roots (rs := va_up x.rs a t) (rv := va_up x.rv a w) (kin := va_up m.kin a t') (mv := va_up m.mv a w') (dp := x.dp) (up_le h.1.1.2.2.2.1 ht) (up_le h.2.1.1 (by omega)) h.1.1.2.2.2.2.1 (fun k hk => by
    by_cases z : k = a
    · rw [z, va_up_self, va_up_self, va_up_self, va_up_self]; exact hgv
    · rw [va_up_ne _ _ z, va_up_ne _ _ z, va_up_ne _ _ z, va_up_ne _ _ z]; exact h.2.2.2.2.2.2.2.2.1 k hk) (fun i hi => ⟨up_hi (by omega) hi, up_hi (by omega) hi⟩)
  rw [← hd]
  exact this
end
section
/-! each call: the answers agree, and what is kept is kept -/
theorem SIM.gr {g : Nat → Nat} {x : XS} {m : MS} (h : SIM g x m) {k : Nat} (hk : k < 10 + x.dp) : GV g (Lv x.col x.wh) (x.rs k) (x.rv k) (m.kin k) (m.mv k) := h.2.2.2.2.2.2.2.2.1 k hk
theorem SIM.gc {g : Nat → Nat} {x : XS} {m : MS} (h : SIM g x m) {s k : Nat} (hs : Lv x.col x.wh s) (hk : k < x.siz s) : GV g (Lv x.col x.wh) (x.srt (20 * s + k)) (x.val (20 * s + k)) (m.kin (60 + 20 * g s + k)) (m.mv (60 + 20 * g s + k)) := (h.2.2.2.2.2.2.2.2.2 s hs).2 k hk
theorem SIM.sz {g : Nat → Nat} {x : XS} {m : MS} (h : SIM g x m) {s : Nat} (hs : Lv x.col x.wh s) : m.msz (g s) = x.siz s := (h.2.2.2.2.2.2.2.2.2 s hs).1
/-- one object's contents and size change -/
theorem SIM.write {g : Nat → Nat} {x : XS} {m : MS} (h : SIM g x m) {v n : Nat} (hl : Lv x.col x.wh v) (hn : n ≤ 20) {x2 : XS} (hi : Inv x2) (e1 : x2.rs = x.rs) (e2 : x2.rv = x.rv) (e3 : x2.dp = x.dp) (e4 : x2.most = x.most) (e5 : x2.made = x.made) (e6 : x2.full = x.full) (hlv : ∀ s, Lv x2.col x2.wh s ↔ Lv x.col x.wh s) (hsz : x2.siz = va_up x.siz v n)
    (hout : ∀ s k, s ≠ v → k < 20 → x2.srt (20 * s + k) = x.srt (20 * s + k) ∧ x2.val (20 * s + k) = x.val (20 * s + k)) {kin : Nat → Nat} {mv : Nat → Int32} (hk2 : ∀ i, kin i ≤ 2) (hlo : ∀ i, i < 60 → kin i = m.kin i ∧ mv i = m.mv i) (hmo : ∀ a k, a ≠ g v → k < 20 → kin (60 + 20 * a + k) = m.kin (60 + 20 * a + k) ∧ mv (60 + 20 * a + k) = m.mv (60 + 20 * a + k))
    (hin : ∀ k, k < n → GV g (Lv x.col x.wh) (x2.srt (20 * v + k)) (x2.val (20 * v + k)) (kin (60 + 20 * g v + k)) (mv (60 + 20 * g v + k))) {f : Nat → Nat} (hf : ∀ i, f i ≤ 1) : SIM g x2 (MS.mk m.cel kin mv m.st m.mm (va_up m.msz (g v) n) f m.full) := by
  obtain ⟨hx, hm, h1, hmo2, h3, h4, h5, h6, h7, h8⟩ := id h
  have hd := hx.1.2.2.2.2.1
  have up : ∀ {t t' : Nat} {w w' : Int32}, GV g (Lv x.col x.wh) t w t' w' → GV g (Lv x2.col x2.wh) t w t' w' := fun q => q.mono (fun v _ hv => ⟨(hlv v).mpr hv, rfl⟩)
  have hc : Corr g x2 (MS.mk m.cel kin mv m.st m.mm (va_up m.msz (g v) n) f m.full) := by
    refine ⟨e3.trans h1, e4.trans hmo2, e5.trans h3, e6.trans h4, fun s hs => h5 s ((hlv s).mp hs), fun s t hs ht e => h6 s t ((hlv s).mp hs) ((hlv t).mp ht) e, fun k hk => ?_, fun s hs => ?_⟩
    · show GV g (Lv x2.col x2.wh) (x2.rs k) (x2.rv k) (kin k) (mv k)
      rw [e3] at hk
      rw [e1, e2, (hlo k (by omega)).1, (hlo k (by omega)).2]
      exact up (h7 k hk)
    · have hs := (hlv s).mp hs
      show va_up m.msz (g v) n (g s) = x2.siz s ∧ ∀ k, k < x2.siz s → GV g (Lv x2.col x2.wh) (x2.srt (20 * s + k)) (x2.val (20 * s + k)) (kin (60 + 20 * g s + k)) (mv (60 + 20 * g s + k))
      rw [hsz]
      by_cases z : s = v
      · subst z
        rw [va_up_self, va_up_self]
        exact ⟨rfl, fun k hk => up (hin k hk)⟩
      · have zg : g s ≠ g v := fun e => z (h6 s v hs hl e)
        rw [va_up_ne _ _ z, va_up_ne _ _ zg]
        refine ⟨h.sz hs, fun k hk => ?_⟩
        have h20 := hx.1.2.1 s
        rw [(hout s k z (by omega)).1, (hout s k z (by omega)).2, (hmo _ k zg (by omega)).1, (hmo _ k zg (by omega)).2]
        exact up (h.gc hs hk)
  refine ⟨hi, ⟨hk2, fun i => ?_, hm.2.2.1, hm.2.2.2.1, hf, hm.2.2.2.2.2.1, MI.of hc, fun a ha i hi2 ht => ?_⟩, hc⟩
  · show va_up m.msz (g v) n i ≤ 20
    by_cases z : i = g v
    · rw [z, va_up_self]; exact hn
    · rw [va_up_ne _ _ z]; exact hm.2.1 i
  · have hi2 : i < va_up m.msz (g v) n a := hi2
    have ht : kin (60 + 20 * a + i) = 2 := ht
    show ∃ b, b < m.mm ∧ mv (60 + 20 * a + i) = nI b
    by_cases z : a = g v
    · subst z
      rw [va_up_self] at hi2
      have q := hin i hi2
      obtain ⟨w, r1, r2, r3, r4⟩ := q.obj (by rw [← q.1.1]; exact ht)
      exact ⟨g w, h5 w r2, r4⟩
    · rw [va_up_ne _ _ z] at hi2
      have h20 := hm.2.1 a
      rw [(hmo a i z (by omega)).1] at ht
      rw [(hmo a i z (by omega)).2]
      exact hm.2.2.2.2.2.2.2 a ha i hi2 ht
theorem tch_lv {x : XS} (h : Inv x) {o : Nat} (ho : o < 1600) : ∀ s, Lv (tch x.ph x.G o).1 x.wh s ↔ Lv x.col x.wh s := (tch_all (ph := x.ph) (g := x.G) (wh := x.wh) ho h.2.1 h.1.1 h.1.2.2.2.2.2.2).2.2.2.1
theorem layM_out {α : Type} {f : Nat → α} {o k : Nat} {c : α} (hk : k < 20) : ∀ a j, a ≠ o → j < 20 → va_up f (60 + 20 * o + k) c (60 + 20 * a + j) = f (60 + 20 * a + j) := fun a j ha hj => va_up_ne _ _ (by omega)
theorem SIM.lay {g : Nat → Nat} {x : XS} {m : MS} (h : SIM g x m) {v n b : Nat} (hl : Lv x.col x.wh v) (hn : n < x.siz v) (hb : b < 10) : SIM g (layX x v n b) (MS.mk m.cel (va_up m.kin (60 + 20 * g v + n) (m.kin b)) (va_up m.mv (60 + 20 * g v + n) (m.mv b)) m.st m.mm m.msz m.rch m.full) := by
  have h20 := h.1.1.2.1 v
  have hw := h.write (v := v) (n := x.siz v) hl h20 (x2 := layX x v n b) (h.1.lay hl hn hb) rfl rfl rfl rfl rfl rfl (tch_lv h.1 hl.1) (va_up_id _ _).symm (fun s k hs hk => ⟨lay_out (by omega) s k hs hk, lay_out (by omega) s k hs hk⟩) (kin := va_up m.kin (60 + 20 * g v + n) (m.kin b)) (mv := va_up m.mv (60 + 20 * g v + n) (m.mv b)) (up_le h.2.1.1 (h.2.1.1 b)) (fun i hi => ⟨va_up_ne _ _ (by omega), va_up_ne _ _ (by omega)⟩) (fun a k ha hk => ⟨layM_out (by omega) a k ha hk, layM_out (by omega) a k ha hk⟩) (fun k hk => by
    show GV g (Lv x.col x.wh) (va_up x.srt (20 * v + n) (x.rs b) (20 * v + k)) (va_up x.val (20 * v + n) (x.rv b) (20 * v + k)) _ _
    by_cases z : k = n
    · rw [z, va_up_self, va_up_self, va_up_self, va_up_self]
      exact h.gr (by omega)
    · rw [va_up_ne _ _ (by omega), va_up_ne _ _ (by omega), va_up_ne _ _ (by omega), va_up_ne _ _ (by omega)]
      exact h.gc hl hk) h.2.1.2.2.2.2.1
  rw [← h.sz hl, va_up_id] at hw
  exact hw
theorem SIM.grow {g : Nat → Nat} {x : XS} {m : MS} (h : SIM g x m) {v b : Nat} (hl : Lv x.col x.wh v) (hn : x.siz v < 20) (hb : b < 10) {f : Nat → Nat} (hf : ∀ i, f i ≤ 1) : SIM g (layX (growX x v) v (x.siz v) b) (MS.mk m.cel (va_up m.kin (60 + 20 * g v + m.msz (g v)) (m.kin b)) (va_up m.mv (60 + 20 * g v + m.msz (g v)) (m.mv b)) m.st m.mm (va_up m.msz (g v) (m.msz (g v) + 1)) f m.full) := by
  have hw := h.write (v := v) (n := x.siz v + 1) hl (by omega) (x2 := layX (growX x v) v (x.siz v) b) (h.1.grow hl hn hb) rfl rfl rfl rfl rfl rfl (tch_lv h.1 hl.1) rfl (fun s k hs hk => ⟨lay_out (by omega) s k hs hk, lay_out (by omega) s k hs hk⟩) (kin := va_up m.kin (60 + 20 * g v + x.siz v) (m.kin b)) (mv := va_up m.mv (60 + 20 * g v + x.siz v) (m.mv b)) (up_le h.2.1.1 (h.2.1.1 b)) (fun i hi => ⟨va_up_ne _ _ (by omega), va_up_ne _ _ (by omega)⟩) (fun a k ha hk => ⟨layM_out (by omega) a k ha hk, layM_out (by omega) a k ha hk⟩) (fun k hk => by
    show GV g (Lv x.col x.wh) (va_up x.srt (20 * v + x.siz v) (x.rs b) (20 * v + k)) (va_up x.val (20 * v + x.siz v) (x.rv b) (20 * v + k)) _ _
    by_cases z : k = x.siz v
    · rw [z, va_up_self, va_up_self, va_up_self, va_up_self]
      exact h.gr (by omega)
    · rw [va_up_ne _ _ (by omega), va_up_ne _ _ (by omega), va_up_ne _ _ (by omega), va_up_ne _ _ (by omega)]
      exact h.gc hl (by omega)) hf
  rw [← h.sz hl] at hw
  rw [← h.sz hl]
  exact hw
theorem SIM.shrink {g : Nat → Nat} {x : XS} {m : MS} (h : SIM g x m) {v : Nat} (hl : Lv x.col x.wh v) (h0 : x.siz v ≠ 0) : SIM g (XS.mk x.rs x.rv x.dp x.col (va_up x.siz v (x.siz v - 1)) x.srt x.val x.fre x.gry x.most x.fc x.gc (x.us - 1) x.ob x.wh x.ph x.sw x.md x.made x.full) (MS.mk m.cel (va_up m.kin (60 + 20 * g v + (m.msz (g v) - 1)) 0) (va_up m.mv (60 + 20 * g v + (m.msz (g v) - 1)) (nI 0)) m.st m.mm (va_up m.msz (g v) (m.msz (g v) - 1)) m.rch m.full) := by
  have h20 := h.1.1.2.1 v
  have hw := h.write (v := v) (n := x.siz v - 1) hl (by omega) (x2 := XS.mk x.rs x.rv x.dp x.col (va_up x.siz v (x.siz v - 1)) x.srt x.val x.fre x.gry x.most x.fc x.gc (x.us - 1) x.ob x.wh x.ph x.sw x.md x.made x.full) (h.1.shrink hl h0) rfl rfl rfl rfl rfl rfl (fun s => Iff.rfl) rfl (fun s k hs hk => ⟨rfl, rfl⟩) (kin := va_up m.kin (60 + 20 * g v + (x.siz v - 1)) 0) (mv := va_up m.mv (60 + 20 * g v + (x.siz v - 1)) (nI 0)) (up_le h.2.1.1 (by omega)) (fun i hi => ⟨va_up_ne _ _ (by omega), va_up_ne _ _ (by omega)⟩) (fun a k ha hk => ⟨layM_out (by omega) a k ha hk, layM_out (by omega) a k ha hk⟩) (fun k hk => by
    rw [va_up_ne _ _ (by omega), va_up_ne _ _ (by omega)]
    exact h.gc hl (by omega)) h.2.1.2.2.2.2.1
  rw [h.sz hl]
  exact hw
/-- a new object -/
theorem SIM.make {g : Nat → Nat} {x : XS} {m : MS} (h : SIM g x m) {o n a b : Nat} (h0 : 0 < x.fc) (ho : o = x.fre (x.fc - 1)) (hn : n ≤ 20) (ha : a < 10) (hb : b < 10) (hmm : m.mm < 520) {f : Nat → Nat} (hf : ∀ i, f i ≤ 1) : SIM (va_up g o m.mm) (newX x o n a b) (newM m f n a b) := by
  obtain ⟨hx, hm, h1, hmo2, h3, h4, h5, h6, h7, h8⟩ := id h
  have hd := hx.1.2.2.2.2.1
  obtain ⟨hi, el⟩ := hx.new h0 ho hn ha hb
  have ho1 : o < 1600 := by rw [ho]; exact (hx.2.2.1.1 _ (by omega)).1
  have hco : x.col o = 0 := by rw [ho]; exact (hx.2.2.1.1 _ (by omega)).2
  have hno : ∀ s, Lv x.col x.wh s → s ≠ o := fun s hs e => hs.2.1 (by rw [e]; exact hco)
  have up : ∀ {t t' : Nat} {w w' : Int32}, GV g (Lv x.col x.wh) t w t' w' → GV (va_up g o m.mm) (Lv (newX x o n a b).col (newX x o n a b).wh) t w t' w' := fun q => q.mono (fun v _ hv => ⟨(el v).mpr (Or.inl hv), va_up_ne _ _ (hno v hv)⟩)
  have hc : Corr (va_up g o m.mm) (newX x o n a b) (newM m f n a b) := by
    refine ⟨h1, hmo2, ?_, h4, fun s hs => ?_, fun s t hs ht e => ?_, fun k hk => ?_, fun s hs => ?_⟩
    · show x.made + nI 1 = nI (m.mm + 1)
      rw [h3, nI_add]
    · show va_up g o m.mm s < m.mm + 1
      rcases (el s).mp hs with q | q
      · rw [va_up_ne _ _ (hno s q)]
        have := h5 s q
        omega
      · rw [q, va_up_self]; omega
    · rcases (el s).mp hs with q | q
      · rw [va_up_ne _ _ (hno s q)] at e
        rcases (el t).mp ht with q2 | q2
        · rw [va_up_ne _ _ (hno t q2)] at e
          exact h6 s t q q2 e
        · rw [q2, va_up_self] at e
          have := h5 s q
          omega
      · rw [q, va_up_self] at e
        rcases (el t).mp ht with q2 | q2
        · rw [va_up_ne _ _ (hno t q2)] at e
          have := h5 t q2
          omega
        · rw [q, q2]
    · have hk : k < 10 + x.dp := hk
      show GV (va_up g o m.mm) (Lv (newX x o n a b).col (newX x o n a b).wh) (va_up x.rs a 2 k) (va_up x.rv a (nI o) k) (va_up (fillM m.kin m.mm n (m.kin b)) a 2 k) (va_up (fillM m.mv m.mm n (m.mv b)) a (nI m.mm) k)
      by_cases z : k = a
      · rw [z, va_up_self, va_up_self, va_up_self, va_up_self]
        refine ⟨⟨rfl, fun q => absurd rfl q, fun _ v hv he => ?_⟩, fun _ => ⟨o, ho1, rfl, (el o).mpr (Or.inr rfl)⟩⟩
        rw [← (nI_eq (by omega) (by omega)).mp he, va_up_self]
      · rw [va_up_ne _ _ z, va_up_ne _ _ z, va_up_ne _ _ z, va_up_ne _ _ z, fillM_lo (by omega), fillM_lo (by omega)]
        exact up (h7 k hk)
    · show va_up m.msz m.mm n (va_up g o m.mm s) = va_up x.siz o n s ∧ ∀ k, k < va_up x.siz o n s → GV (va_up g o m.mm) (Lv (newX x o n a b).col (newX x o n a b).wh) (fillN x.srt o n (x.rs b) (20 * s + k)) (fillN x.val o n (x.rv b) (20 * s + k)) (va_up (fillM m.kin m.mm n (m.kin b)) a 2 (60 + 20 * va_up g o m.mm s + k)) (va_up (fillM m.mv m.mm n (m.mv b)) a (nI m.mm) (60 + 20 * va_up g o m.mm s + k))
      rcases (el s).mp hs with q | q
      · have z := hno s q
        have zg : g s ≠ m.mm := by have := h5 s q; omega
        rw [va_up_ne _ _ z, va_up_ne _ _ z, va_up_ne _ _ zg]
        refine ⟨h.sz q, fun k hk => ?_⟩
        have h20 := hx.1.2.1 s
        rw [fill_out hn z (by omega), fill_out hn z (by omega), va_up_ne _ _ (by omega), va_up_ne _ _ (by omega), fillM_out hn zg (by omega), fillM_out hn zg (by omega)]
        exact up (h.gc q hk)
      · subst q
        rw [va_up_self, va_up_self, va_up_self]
        refine ⟨rfl, fun k hk => ?_⟩
        rw [fill_in hk, fill_in hk, va_up_ne _ _ (by omega), va_up_ne _ _ (by omega), fillM_in hk, fillM_in hk]
        exact up (h.gr (by omega))
  refine ⟨hi, ⟨fun i => ?_, fun i => ?_, hm.2.2.1, hm.2.2.2.1, hf, show m.mm + 1 ≤ 520 by omega, MI.of hc, fun a' ha' i hi2 ht => ?_⟩, hc⟩
  · refine up_le (fun i => ?_) (by omega) i
    unfold fillM
    split
    · exact hm.1 b
    · exact hm.1 i
  · show va_up m.msz m.mm n i ≤ 20
    by_cases z : i = m.mm
    · rw [z, va_up_self]; exact hn
    · rw [va_up_ne _ _ z]; exact hm.2.1 i
  · have ha' : a' < m.mm + 1 := ha'
    have hi2 : i < va_up m.msz m.mm n a' := hi2
    have ht : va_up (fillM m.kin m.mm n (m.kin b)) a 2 (60 + 20 * a' + i) = 2 := ht
    show ∃ c, c < m.mm + 1 ∧ va_up (fillM m.mv m.mm n (m.mv b)) a (nI m.mm) (60 + 20 * a' + i) = nI c
    rw [va_up_ne _ _ (by omega)] at ht ⊢
    by_cases z : a' = m.mm
    · subst z
      rw [va_up_self] at hi2
      rw [fillM_in hi2] at ht ⊢
      obtain ⟨c, q1, q2⟩ := hm.2.2.2.2.2.2.1 b (by omega) ht
      exact ⟨c, by omega, q2⟩
    · rw [va_up_ne _ _ z] at hi2
      have h20 := hm.2.1 a'
      rw [fillM_out hn z (by omega)] at ht ⊢
      obtain ⟨c, q1, q2⟩ := hm.2.2.2.2.2.2.2 a' (by omega) i hi2 ht
      exact ⟨c, by omega, q2⟩
theorem SIM.flags {g : Nat → Nat} {x : XS} {m : MS} (h : SIM g x m) {f : Nat → Nat} (hf : ∀ i, f i ≤ 1) : SIM g x (MS.mk m.cel m.kin m.mv m.st m.mm m.msz f m.full) := ⟨h.1, h.2.1.flags hf _, h.2.2⟩
theorem SIM.fulls {g : Nat → Nat} {x y : XS} {m : MS} (h : SIM g x m) (hy : Inv y) (hs : Shr x y) {f : Nat → Nat} (hf : ∀ i, f i ≤ 1) : SIM g (XS.mk y.rs y.rv y.dp y.col y.siz y.srt y.val y.fre y.gry y.most y.fc y.gc y.us y.ob y.wh y.ph y.sw y.md y.made (y.full + nI 1)) (MS.mk m.cel m.kin m.mv m.st m.mm m.msz f (m.full + nI 1)) := by
  have hc := h.2.2.shr hs hy
  refine ⟨hy.full _, h.2.1.flags hf _, hc.1, hc.2.1, hc.2.2.1, ?_, hc.2.2.2.2⟩
  show y.full + nI 1 = m.full + nI 1
  rw [hc.2.2.2.1]
theorem SIM.shr {g : Nat → Nat} {x y : XS} {m : MS} (h : SIM g x m) (hy : Inv y) (hs : Shr x y) : SIM g y m := ⟨hy, h.2.1, h.2.2.shr hs hy⟩
end
section
set_option maxHeartbeats 4000000 in
set_option maxRecDepth 100000 in
theorem sim_number {g : Nat → Nat} {x x' : XS} {m m' : MS} (h : SIM g x m) {r v q q2 : Int32} (hmm : m.mm < 520) (hX : IX r 10 (fun a => q = nI 1 ∧ x' = XS.mk (va_up x.rs a 1) (va_up x.rv a v) x.dp x.col x.siz x.srt x.val x.fre x.gry x.most x.fc x.gc x.us x.ob x.wh x.ph x.sw x.md x.made x.full) (q = nI 0 ∧ x' = x)) (hM : IX r 10 (fun a => q2 = nI 1 ∧ m' = MS.mk m.cel (va_up m.kin a 1) (va_up m.mv a v) m.st m.mm m.msz m.rch m.full) (q2 = nI 0 ∧ m' = m)) : q = q2 ∧ ∃ g', SIM g' x' m' ∧ m'.mm ≤ m.mm + 1 := by
  rcases ix_cases r (n := 10) (by decide) with ⟨a, ha, e⟩ | hr
  · obtain ⟨q1, rfl⟩ := hX.1 a ha e
    obtain ⟨p1, rfl⟩ := hM.1 a ha e
    exact ⟨q1.trans p1.symm, g, h.reg ha (by omega) (GV.plain (by decide)), Nat.le_succ _⟩
  · obtain ⟨q1, rfl⟩ := hX.2 hr
    obtain ⟨p1, rfl⟩ := hM.2 hr
    exact ⟨q1.trans p1.symm, g, h, Nat.le_succ _⟩
set_option maxHeartbeats 4000000 in
set_option maxRecDepth 100000 in
theorem sim_copy {g : Nat → Nat} {x x' : XS} {m m' : MS} (h : SIM g x m) {r t q q2 : Int32} (hmm : m.mm < 520) (hX : IX r 10 (fun a => (t = -1 → q = nI 1 ∧ x' = XS.mk (va_up x.rs a 0) (va_up x.rv a (nI 0)) x.dp x.col x.siz x.srt x.val x.fre x.gry x.most x.fc x.gc x.us x.ob x.wh x.ph x.sw x.md x.made x.full) ∧ (t ≠ -1 → IX t 10 (fun b => q = nI 1 ∧ x' = XS.mk (va_up x.rs a (x.rs b)) (va_up x.rv a (x.rv b)) x.dp x.col x.siz x.srt x.val x.fre x.gry x.most x.fc x.gc x.us x.ob x.wh x.ph x.sw x.md x.made x.full) (q = nI 0 ∧ x' = x))) (q = nI 0 ∧ x' = x)) (hM : IX r 10 (fun a => (t = -1 → q2 = nI 1 ∧ m' = MS.mk m.cel (va_up m.kin a 0) (va_up m.mv a (nI 0)) m.st m.mm m.msz m.rch m.full) ∧ (t ≠ -1 → IX t 10 (fun b => q2 = nI 1 ∧ m' = MS.mk m.cel (va_up m.kin a (m.kin b)) (va_up m.mv a (m.mv b)) m.st m.mm m.msz m.rch m.full) (q2 = nI 0 ∧ m' = m))) (q2 = nI 0 ∧ m' = m)) : q = q2 ∧ ∃ g', SIM g' x' m' ∧ m'.mm ≤ m.mm + 1 := by
  rcases ix_cases r (n := 10) (by decide) with ⟨a, ha, e⟩ | hr
  · by_cases ht : t = -1
    · obtain ⟨q1, rfl⟩ := (hX.1 a ha e).1 ht
      obtain ⟨p1, rfl⟩ := (hM.1 a ha e).1 ht
      exact ⟨q1.trans p1.symm, g, h.reg ha (by omega) (GV.plain (by decide)), Nat.le_succ _⟩
    · rcases ix_cases t (n := 10) (by decide) with ⟨b, hb, e2⟩ | hr
      · obtain ⟨q1, rfl⟩ := ((hX.1 a ha e).2 ht).1 b hb e2
        obtain ⟨p1, rfl⟩ := ((hM.1 a ha e).2 ht).1 b hb e2
        exact ⟨q1.trans p1.symm, g, h.reg ha (h.1.1.2.2.2.1 b) (h.gr (by omega)), Nat.le_succ _⟩
      · obtain ⟨q1, rfl⟩ := ((hX.1 a ha e).2 ht).2 hr
        obtain ⟨p1, rfl⟩ := ((hM.1 a ha e).2 ht).2 hr
        exact ⟨q1.trans p1.symm, g, h, Nat.le_succ _⟩
  · obtain ⟨q1, rfl⟩ := hX.2 hr
    obtain ⟨p1, rfl⟩ := hM.2 hr
    exact ⟨q1.trans p1.symm, g, h, Nat.le_succ _⟩
set_option maxHeartbeats 4000000 in
set_option maxRecDepth 100000 in
theorem sim_get {g : Nat → Nat} {x x' : XS} {m m' : MS} (h : SIM g x m) {r t k q q2 : Int32} (hmm : m.mm < 520) (hX : IX r 10 (fun a => OBJ x.rs x.rv 1600 t (fun j v => IX k (x.siz v) (fun n => q = nI 1 ∧ x' = XS.mk (va_up x.rs a (x.srt (20 * v + n))) (va_up x.rv a (x.val (20 * v + n))) x.dp x.col x.siz x.srt x.val x.fre x.gry x.most x.fc x.gc x.us x.ob x.wh x.ph x.sw x.md x.made x.full) (q = nI 0 ∧ x' = x)) (q = nI 0 ∧ x' = x)) (q = nI 0 ∧ x' = x)) (hM : IX r 10 (fun a => OBJ m.kin m.mv m.mm t (fun j v => IX k (m.msz v) (fun n => q2 = nI 1 ∧ m' = MS.mk m.cel (va_up m.kin a (m.kin (60 + 20 * v + n))) (va_up m.mv a (m.mv (60 + 20 * v + n))) m.st m.mm m.msz m.rch m.full) (q2 = nI 0 ∧ m' = m)) (q2 = nI 0 ∧ m' = m)) (q2 = nI 0 ∧ m' = m)) : q = q2 ∧ ∃ g', SIM g' x' m' ∧ m'.mm ≤ m.mm + 1 := by
  rcases ix_cases r (n := 10) (by decide) with ⟨a, ha, e⟩ | hr
  · have hX := hX.1 a ha e
    have hM := hM.1 a ha e
    rcases ob_cases h.1.ro t with ⟨j, v, hj, e2, h2, hv, he⟩ | hno
    · obtain ⟨hl, k2, ke, kl⟩ := h.2.2.reg hj h2 hv he
      have hX := hX.1 j v hj e2 h2 hv he
      have hM := hM.1 j (g v) hj e2 k2 kl ke
      have h20 := h.1.1.2.1 v
      rcases ix_cases k (n := x.siz v) (by omega) with ⟨n, hn, e3⟩ | hk
      · obtain ⟨q1, rfl⟩ := hX.1 n hn e3
        obtain ⟨p1, rfl⟩ := hM.1 n (by rw [h.sz hl]; exact hn) e3
        exact ⟨q1.trans p1.symm, g, h.reg ha (h.1.1.2.2.1 _) (h.gc hl hn), Nat.le_succ _⟩
      · obtain ⟨q1, rfl⟩ := hX.2 hk
        obtain ⟨p1, rfl⟩ := hM.2 (by rw [h.sz hl]; exact hk)
        exact ⟨q1.trans p1.symm, g, h, Nat.le_succ _⟩
    · obtain ⟨q1, rfl⟩ := hX.2 hno
      obtain ⟨p1, rfl⟩ := hM.2 (h.2.2.nob hno)
      exact ⟨q1.trans p1.symm, g, h, Nat.le_succ _⟩
  · obtain ⟨q1, rfl⟩ := hX.2 hr
    obtain ⟨p1, rfl⟩ := hM.2 hr
    exact ⟨q1.trans p1.symm, g, h, Nat.le_succ _⟩
set_option maxHeartbeats 4000000 in
set_option maxRecDepth 100000 in
theorem sim_set {g : Nat → Nat} {x x' : XS} {m m' : MS} (h : SIM g x m) {r k t q q2 : Int32} (hmm : m.mm < 520) (hX : IX t 10 (fun b => OBJ x.rs x.rv 1600 r (fun j v => IX k (x.siz v) (fun n => q = nI 1 ∧ x' = layX x v n b) (q = nI 0 ∧ x' = x)) (q = nI 0 ∧ x' = x)) (q = nI 0 ∧ x' = x)) (hM : IX t 10 (fun a => OBJ m.kin m.mv m.mm r (fun j v => IX k (m.msz v) (fun n => q2 = nI 1 ∧ m' = MS.mk m.cel (va_up m.kin (60 + 20 * v + n) (m.kin a)) (va_up m.mv (60 + 20 * v + n) (m.mv a)) m.st m.mm m.msz m.rch m.full) (q2 = nI 0 ∧ m' = m)) (q2 = nI 0 ∧ m' = m)) (q2 = nI 0 ∧ m' = m)) : q = q2 ∧ ∃ g', SIM g' x' m' ∧ m'.mm ≤ m.mm + 1 := by
  rcases ix_cases t (n := 10) (by decide) with ⟨a, ha, e⟩ | hr
  · have hX := hX.1 a ha e
    have hM := hM.1 a ha e
    rcases ob_cases h.1.ro r with ⟨j, v, hj, e2, h2, hv, he⟩ | hno
    · obtain ⟨hl, k2, ke, kl⟩ := h.2.2.reg hj h2 hv he
      have hX := hX.1 j v hj e2 h2 hv he
      have hM := hM.1 j (g v) hj e2 k2 kl ke
      have h20 := h.1.1.2.1 v
      rcases ix_cases k (n := x.siz v) (by omega) with ⟨n, hn, e3⟩ | hk
      · obtain ⟨q1, rfl⟩ := hX.1 n hn e3
        obtain ⟨p1, rfl⟩ := hM.1 n (by rw [h.sz hl]; exact hn) e3
        exact ⟨q1.trans p1.symm, g, h.lay hl hn ha, Nat.le_succ _⟩
      · obtain ⟨q1, rfl⟩ := hX.2 hk
        obtain ⟨p1, rfl⟩ := hM.2 (by rw [h.sz hl]; exact hk)
        exact ⟨q1.trans p1.symm, g, h, Nat.le_succ _⟩
    · obtain ⟨q1, rfl⟩ := hX.2 hno
      obtain ⟨p1, rfl⟩ := hM.2 (h.2.2.nob hno)
      exact ⟨q1.trans p1.symm, g, h, Nat.le_succ _⟩
  · obtain ⟨q1, rfl⟩ := hX.2 hr
    obtain ⟨p1, rfl⟩ := hM.2 hr
    exact ⟨q1.trans p1.symm, g, h, Nat.le_succ _⟩
set_option maxHeartbeats 4000000 in
set_option maxRecDepth 100000 in
theorem sim_push {g : Nat → Nat} {x x' : XS} {m m' : MS} (h : SIM g x m) {r q q2 : Int32} (hmm : m.mm < 520) (hX : IX r 10 (fun a => (x.dp = 50 → q = -1 ∧ x' = x) ∧ (x.dp ≠ 50 → q = nI (x.dp + 1) ∧ x' = XS.mk (va_up (va_up x.rs (10 + x.dp) (x.rs a)) a 0) (va_up (va_up x.rv (10 + x.dp) (x.rv a)) a (nI 0)) (x.dp + 1) x.col x.siz x.srt x.val x.fre x.gry x.most x.fc x.gc x.us x.ob x.wh x.ph x.sw x.md x.made x.full)) (q = -1 ∧ x' = x)) (hM : IX r 10 (fun a => (m.st = 50 → q2 = -1 ∧ m' = m) ∧ (m.st ≠ 50 → q2 = nI (m.st + 1) ∧ m' = MS.mk m.cel (va_up (va_up m.kin (10 + m.st) (m.kin a)) a 0) (va_up (va_up m.mv (10 + m.st) (m.mv a)) a (nI 0)) (m.st + 1) m.mm m.msz m.rch m.full)) (q2 = -1 ∧ m' = m)) : q = q2 ∧ ∃ g', SIM g' x' m' ∧ m'.mm ≤ m.mm + 1 := by
  have hd := h.2.2.1
  have h5 := h.1.1.2.2.2.2.1
  rw [← hd] at hM
  rcases ix_cases r (n := 10) (by decide) with ⟨a, ha, e⟩ | hr
  · have hX := hX.1 a ha e
    have hM := hM.1 a ha e
    by_cases h0 : x.dp = 50
    · obtain ⟨q1, rfl⟩ := hX.1 h0
      obtain ⟨p1, rfl⟩ := hM.1 h0
      exact ⟨q1.trans p1.symm, g, h, Nat.le_succ _⟩
    · obtain ⟨q1, rfl⟩ := hX.2 h0
      obtain ⟨p1, rfl⟩ := hM.2 h0
      refine ⟨q1.trans p1.symm, g, h.roots (up_le (up_le h.1.1.2.2.2.1 (h.1.1.2.2.2.1 a)) (by omega)) (up_le (up_le h.2.1.1 (h.2.1.1 a)) (by omega)) (by omega) (fun k hk => ?_) (fun i hi => ⟨?_, ?_⟩), Nat.le_succ _⟩
      · by_cases z : k = a
        · rw [z, va_up_self, va_up_self, va_up_self, va_up_self]
          exact GV.plain (by decide)
        · rw [va_up_ne _ _ z, va_up_ne _ _ z, va_up_ne _ _ z, va_up_ne _ _ z]
          by_cases z2 : k = 10 + x.dp
          · rw [z2, va_up_self, va_up_self, va_up_self, va_up_self]
            exact h.gr (by omega)
          · rw [va_up_ne _ _ z2, va_up_ne _ _ z2, va_up_ne _ _ z2, va_up_ne _ _ z2]
            exact h.gr (by omega)
      · rw [va_up_ne _ _ (by omega), va_up_ne _ _ (by omega)]
      · rw [va_up_ne _ _ (by omega), va_up_ne _ _ (by omega)]
  · obtain ⟨q1, rfl⟩ := hX.2 hr
    obtain ⟨p1, rfl⟩ := hM.2 hr
    exact ⟨q1.trans p1.symm, g, h, Nat.le_succ _⟩
set_option maxHeartbeats 4000000 in
set_option maxRecDepth 100000 in
theorem sim_pop {g : Nat → Nat} {x x' : XS} {m m' : MS} (h : SIM g x m) {r q q2 : Int32} (hmm : m.mm < 520) (hX : IX r 10 (fun a => (x.dp = 0 → q = -1 ∧ x' = x) ∧ (x.dp ≠ 0 → q = nI (x.dp - 1) ∧ x' = XS.mk (va_up x.rs a (x.rs (10 + (x.dp - 1)))) (va_up x.rv a (x.rv (10 + (x.dp - 1)))) (x.dp - 1) x.col x.siz x.srt x.val x.fre x.gry x.most x.fc x.gc x.us x.ob x.wh x.ph x.sw x.md x.made x.full)) (q = -1 ∧ x' = x)) (hM : IX r 10 (fun a => (m.st = 0 → q2 = -1 ∧ m' = m) ∧ (m.st ≠ 0 → q2 = nI (m.st - 1) ∧ m' = MS.mk m.cel (va_up m.kin a (m.kin (10 + (m.st - 1)))) (va_up m.mv a (m.mv (10 + (m.st - 1)))) (m.st - 1) m.mm m.msz m.rch m.full)) (q2 = -1 ∧ m' = m)) : q = q2 ∧ ∃ g', SIM g' x' m' ∧ m'.mm ≤ m.mm + 1 := by
  have hd := h.2.2.1
  have h5 := h.1.1.2.2.2.2.1
  rw [← hd] at hM
  rcases ix_cases r (n := 10) (by decide) with ⟨a, ha, e⟩ | hr
  · have hX := hX.1 a ha e
    have hM := hM.1 a ha e
    by_cases h0 : x.dp = 0
    · obtain ⟨q1, rfl⟩ := hX.1 h0
      obtain ⟨p1, rfl⟩ := hM.1 h0
      exact ⟨q1.trans p1.symm, g, h, Nat.le_succ _⟩
    · obtain ⟨q1, rfl⟩ := hX.2 h0
      obtain ⟨p1, rfl⟩ := hM.2 h0
      refine ⟨q1.trans p1.symm, g, h.roots (up_le h.1.1.2.2.2.1 (h.1.1.2.2.2.1 _)) (up_le h.2.1.1 (h.2.1.1 _)) (by omega) (fun k hk => ?_) (fun i hi => ⟨?_, ?_⟩), Nat.le_succ _⟩
      · by_cases z : k = a
        · rw [z, va_up_self, va_up_self, va_up_self, va_up_self]
          exact h.gr (by omega)
        · rw [va_up_ne _ _ z, va_up_ne _ _ z, va_up_ne _ _ z, va_up_ne _ _ z]
          exact h.gr (by omega)
      · rw [va_up_ne _ _ (by omega)]
      · rw [va_up_ne _ _ (by omega)]
  · obtain ⟨q1, rfl⟩ := hX.2 hr
    obtain ⟨p1, rfl⟩ := hM.2 hr
    exact ⟨q1.trans p1.symm, g, h, Nat.le_succ _⟩
set_option maxHeartbeats 4000000 in
set_option maxRecDepth 100000 in
theorem sim_look {g : Nat → Nat} {x x' : XS} {m m' : MS} (h : SIM g x m) {r q q2 : Int32} (hmm : m.mm < 520) (hX : x' = x ∧ IX r 10 (fun a => (x.rs a = 0 → q = -2) ∧ (x.rs a = 1 → q = -3) ∧ (x.rs a = 2 → ∀ v, v < 1600 → x.rv a = nI v → q = nI (x.siz v))) (q = -1)) (hM : m' = m ∧ IX r 10 (fun a => (m.kin a = 0 → q2 = -2) ∧ (m.kin a = 1 → q2 = -3) ∧ (m.kin a = 2 → ∀ v, v < m.mm → m.mv a = nI v → q2 = nI (m.msz v))) (q2 = -1)) : q = q2 ∧ ∃ g', SIM g' x' m' ∧ m'.mm ≤ m.mm + 1 := by
  obtain ⟨ex, hX⟩ := hX
  obtain ⟨em, hM⟩ := hM
  rw [ex, em]
  refine ⟨?_, g, h, Nat.le_succ _⟩
  rcases ix_cases r (n := 10) (by decide) with ⟨a, ha, e⟩ | hr
  · have hX := hX.1 a ha e
    have hM := hM.1 a ha e
    have hk := h.2.2.kin (j := a) (by omega)
    have h2 := h.1.1.2.2.2.1 a
    dsimp only at hM
    rw [hk] at hM
    rcases (show x.rs a = 0 ∨ x.rs a = 1 ∨ x.rs a = 2 by omega) with h0 | h0 | h0
    · rw [hX.1 h0, hM.1 h0]
    · rw [hX.2.1 h0, hM.2.1 h0]
    · obtain ⟨v, hv, he⟩ := h.1.ro a ha h0
      obtain ⟨hl, k2, ke, kl⟩ := h.2.2.reg ha h0 hv he
      rw [hX.2.2 h0 v hv he, hM.2.2 h0 (g v) kl ke, h.sz hl]
  · rw [hX.2 hr, hM.2 hr]
set_option maxHeartbeats 4000000 in
set_option maxRecDepth 100000 in
theorem sim_numberIn {g : Nat → Nat} {x x' : XS} {m m' : MS} (h : SIM g x m) {r q q2 : Int32} (hmm : m.mm < 520) (hX : x' = x ∧ IX r 10 (fun a => (x.rs a = 1 → q = x.rv a) ∧ (x.rs a ≠ 1 → q = nI 0)) (q = nI 0)) (hM : m' = m ∧ IX r 10 (fun a => (m.kin a = 1 → q2 = m.mv a) ∧ (m.kin a ≠ 1 → q2 = nI 0)) (q2 = nI 0)) : q = q2 ∧ ∃ g', SIM g' x' m' ∧ m'.mm ≤ m.mm + 1 := by
  obtain ⟨ex, hX⟩ := hX
  obtain ⟨em, hM⟩ := hM
  rw [ex, em]
  refine ⟨?_, g, h, Nat.le_succ _⟩
  rcases ix_cases r (n := 10) (by decide) with ⟨a, ha, e⟩ | hr
  · have hX := hX.1 a ha e
    have hM := hM.1 a ha e
    have qq := h.gr (k := a) (by omega)
    dsimp only at hM
    rw [qq.1.1] at hM
    by_cases h0 : x.rs a = 1
    · rw [hX.1 h0, hM.1 h0, qq.1.2.1 (by omega)]
    · rw [hX.2 h0, hM.2 h0]
  · rw [hX.2 hr, hM.2 hr]
set_option maxHeartbeats 4000000 in
set_option maxRecDepth 100000 in
theorem sim_same {g : Nat → Nat} {x x' : XS} {m m' : MS} (h : SIM g x m) {r t q q2 : Int32} (hmm : m.mm < 520) (hX : x' = x ∧ IX r 10 (fun a => IX t 10 (fun b => (x.rs a = x.rs b ∧ x.rv a = x.rv b → q = nI 1) ∧ (¬ (x.rs a = x.rs b ∧ x.rv a = x.rv b) → q = nI 0)) (q = -1)) (q = -1)) (hM : m' = m ∧ IX r 10 (fun a => IX t 10 (fun b => (m.kin a = m.kin b ∧ m.mv a = m.mv b → q2 = nI 1) ∧ (¬ (m.kin a = m.kin b ∧ m.mv a = m.mv b) → q2 = nI 0)) (q2 = -1)) (q2 = -1)) : q = q2 ∧ ∃ g', SIM g' x' m' ∧ m'.mm ≤ m.mm + 1 := by
  obtain ⟨ex, hX⟩ := hX
  obtain ⟨em, hM⟩ := hM
  rw [ex, em]
  refine ⟨?_, g, h, Nat.le_succ _⟩
  rcases ix_cases r (n := 10) (by decide) with ⟨a, ha, e⟩ | hr
  · have hX := hX.1 a ha e
    have hM := hM.1 a ha e
    rcases ix_cases t (n := 10) (by decide) with ⟨b, hb, e2⟩ | hr
    · have hX := hX.1 b hb e2
      have hM := hM.1 b hb e2
      have qa := h.gr (k := a) (by omega)
      have qb := h.gr (k := b) (by omega)
      rw [qa.1.1, qb.1.1] at hM
      have hiff : (x.rs a = x.rs b ∧ x.rv a = x.rv b) ↔ (x.rs a = x.rs b ∧ m.mv a = m.mv b) := by
        constructor
        · intro z
          refine ⟨z.1, ?_⟩
          by_cases h2 : x.rs a = 2
          · obtain ⟨v, r1, r2, r3, r4⟩ := qa.obj h2
            rw [r4, qb.1.2.2 (by omega) v r1 (by rw [← z.2]; exact r3)]
          · rw [qa.1.2.1 h2, qb.1.2.1 (by omega)]
            exact z.2
        · intro z
          refine ⟨z.1, ?_⟩
          by_cases h2 : x.rs a = 2
          · obtain ⟨v, r1, r2, r3, r4⟩ := qa.obj h2
            obtain ⟨w, s1, s2, s3, s4⟩ := qb.obj (by omega)
            have l1 := h.2.2.2.2.2.2.1 v r2
            have l2 := h.2.2.2.2.2.2.1 w s2
            have hg : g v = g w := (nI_eq (by omega) (by omega)).mp (by rw [← r4, ← s4]; exact z.2)
            rw [r3, s3, h.2.2.2.2.2.2.2.1 v w r2 s2 hg]
          · rw [← qa.1.2.1 h2, ← qb.1.2.1 (by omega)]
            exact z.2
      by_cases hc : x.rs a = x.rs b ∧ x.rv a = x.rv b
      · rw [hX.1 hc, hM.1 (hiff.mp hc)]
      · rw [hX.2 hc, hM.2 (fun z => hc (hiff.mpr z))]
    · rw [hX.2 hr, hM.2 hr]
  · rw [hX.2 hr, hM.2 hr]
set_option maxHeartbeats 4000000 in
set_option maxRecDepth 100000 in
theorem sim_shrink {g : Nat → Nat} {x x' : XS} {m m' : MS} (h : SIM g x m) {r q q2 : Int32} (hmm : m.mm < 520) (hX : OBJ x.rs x.rv 1600 r (fun j v => (x.siz v = 0 → q = -1 ∧ x' = x) ∧ (x.siz v ≠ 0 → q = nI (x.siz v - 1) ∧ x' = XS.mk x.rs x.rv x.dp x.col (va_up x.siz v (x.siz v - 1)) x.srt x.val x.fre x.gry x.most x.fc x.gc (x.us - 1) x.ob x.wh x.ph x.sw x.md x.made x.full)) (q = -1 ∧ x' = x)) (hM : OBJ m.kin m.mv m.mm r (fun j v => (m.msz v = 0 → q2 = -1 ∧ m' = m) ∧ (m.msz v ≠ 0 → q2 = nI (m.msz v - 1) ∧ m' = MS.mk m.cel (va_up m.kin (60 + 20 * v + (m.msz v - 1)) 0) (va_up m.mv (60 + 20 * v + (m.msz v - 1)) (nI 0)) m.st m.mm (va_up m.msz v (m.msz v - 1)) m.rch m.full)) (q2 = -1 ∧ m' = m)) : q = q2 ∧ ∃ g', SIM g' x' m' ∧ m'.mm ≤ m.mm + 1 := by
  rcases ob_cases h.1.ro r with ⟨j, v, hj, e2, h2, hv, he⟩ | hno
  · obtain ⟨hl, k2, ke, kl⟩ := h.2.2.reg hj h2 hv he
    have hX := hX.1 j v hj e2 h2 hv he
    have hM := hM.1 j (g v) hj e2 k2 kl ke
    have hsz := h.sz hl
    by_cases h0 : x.siz v = 0
    · obtain ⟨q1, rfl⟩ := hX.1 h0
      obtain ⟨p1, rfl⟩ := hM.1 (hsz.trans h0)
      exact ⟨q1.trans p1.symm, g, h, Nat.le_succ _⟩
    · obtain ⟨q1, rfl⟩ := hX.2 h0
      obtain ⟨p1, rfl⟩ := hM.2 (by omega)
      exact ⟨by rw [q1, p1, hsz], g, h.shrink hl h0, Nat.le_succ _⟩
  · obtain ⟨q1, rfl⟩ := hX.2 hno
    obtain ⟨p1, rfl⟩ := hM.2 (h.2.2.nob hno)
    exact ⟨q1.trans p1.symm, g, h, Nat.le_succ _⟩
set_option maxHeartbeats 4000000 in
set_option maxRecDepth 100000 in
theorem sim_count {g : Nat → Nat} {x x' : XS} {m m' : MS} (h : SIM g x m) {u q q2 : Int32} (hmm : m.mm < 520) (hX : IX u 5 (fun n => (n = 0 → Inv x' ∧ Shr x x' ∧ q = nI (sR x)) ∧ (n = 1 → Inv x' ∧ Shr x x' ∧ q = nI (cR x)) ∧ (n = 2 → x' = x ∧ q = nI x.dp) ∧ (n = 3 → x' = x ∧ q = x.made) ∧ (n = 4 → x' = x ∧ q = x.full)) (q = -1 ∧ x' = x)) (hM : ∃ f : Nat → Nat, (∀ i, f i ≤ 1) ∧ m' = MS.mk m.cel m.kin m.mv m.st m.mm m.msz f m.full ∧ IX u 5 (fun n => (n = 0 → q2 = nI (sM m)) ∧ (n = 1 → q2 = nI (cM m)) ∧ (n = 2 → q2 = nI m.st) ∧ (n = 3 → q2 = nI m.mm) ∧ (n = 4 → q2 = m.full)) (q2 = -1)) : q = q2 ∧ ∃ g', SIM g' x' m' ∧ m'.mm ≤ m.mm + 1 := by
  obtain ⟨f, hf, em, hM⟩ := hM
  rw [em]
  have hs := h.sums
  have hfl := h.flags hf
  rcases ix_cases u (n := 5) (by decide) with ⟨n, hn, e⟩ | hr
  · obtain ⟨x0, x1, x2, x3, x4⟩ := hX.1 n hn e
    obtain ⟨m0, m1, m2, m3, m4⟩ := hM.1 n hn e
    rcases (show n = 0 ∨ n = 1 ∨ n = 2 ∨ n = 3 ∨ n = 4 by omega) with z | z | z | z | z
    · obtain ⟨i1, i2, i3⟩ := x0 z
      exact ⟨by rw [i3, m0 z, hs.1], g, hfl.shr i1 i2, Nat.le_succ _⟩
    · obtain ⟨i1, i2, i3⟩ := x1 z
      exact ⟨by rw [i3, m1 z, hs.2], g, hfl.shr i1 i2, Nat.le_succ _⟩
    · obtain ⟨i1, i2⟩ := x2 z
      rw [i1]
      exact ⟨by rw [i2, m2 z, h.2.2.1], g, hfl, Nat.le_succ _⟩
    · obtain ⟨i1, i2⟩ := x3 z
      rw [i1]
      exact ⟨by rw [i2, m3 z, h.2.2.2.2.1], g, hfl, Nat.le_succ _⟩
    · obtain ⟨i1, i2⟩ := x4 z
      rw [i1]
      exact ⟨by rw [i2, m4 z, h.2.2.2.2.2.1], g, hfl, Nat.le_succ _⟩
  · obtain ⟨i1, i2⟩ := hX.2 hr
    rw [i2]
    exact ⟨by rw [i1, hM.2 hr], g, hfl, Nat.le_succ _⟩
set_option maxHeartbeats 4000000 in
set_option maxRecDepth 100000 in
theorem sim_grow {g : Nat → Nat} {x x' : XS} {m m' : MS} (h : SIM g x m) {r t q q2 : Int32} (hmm : m.mm < 520) (hX : IX t 10 (fun b => OBJ x.rs x.rv 1600 r (fun j v => (x.siz v = 20 → q = -1 ∧ x' = x) ∧ (x.siz v ≠ 20 → ∃ y : XS, Inv y ∧ Shr x y ∧ ((q = nI 0 ∧ x' = XS.mk y.rs y.rv y.dp y.col y.siz y.srt y.val y.fre y.gry y.most y.fc y.gc y.us y.ob y.wh y.ph y.sw y.md y.made (y.full + nI 1) ∧ x.most < sR x + 1) ∨ (q = nI (x.siz v + 1) ∧ sR x + 1 ≤ x.most ∧ Inv x' ∧ Shr (layX (growX y v) v (y.siz v) b) x')))) (q = -1 ∧ x' = x)) (q = -1 ∧ x' = x)) (hM : OBJ m.kin m.mv m.mm r (fun j v => IX t 10 (fun b => (m.msz v = 20 → q2 = -1 ∧ m' = m) ∧ (m.msz v ≠ 20 → ∃ f : Nat → Nat, (∀ i, f i ≤ 1) ∧ ((q2 = nI 0 ∧ m.cel < sM m + 1 ∧ m' = MS.mk m.cel m.kin m.mv m.st m.mm m.msz f (m.full + nI 1)) ∨ (q2 = nI (m.msz v + 1) ∧ sM m + 1 ≤ m.cel ∧ m' = MS.mk m.cel (va_up m.kin (60 + 20 * v + m.msz v) (m.kin b)) (va_up m.mv (60 + 20 * v + m.msz v) (m.mv b)) m.st m.mm (va_up m.msz v (m.msz v + 1)) f m.full)))) (q2 = -1 ∧ m' = m)) (q2 = -1 ∧ m' = m)) : q = q2 ∧ ∃ g', SIM g' x' m' ∧ m'.mm ≤ m.mm + 1 := by
  have hs := h.sums.1
  have hmo : x.most = m.cel := h.2.2.2.1
  rcases ix_cases t (n := 10) (by decide) with ⟨b, hb, e⟩ | hr
  · have hX := hX.1 b hb e
    rcases ob_cases h.1.ro r with ⟨j, v, hj, e2, h2, hv, he⟩ | hno
    · obtain ⟨hl, k2, ke, kl⟩ := h.2.2.reg hj h2 hv he
      have hX := hX.1 j v hj e2 h2 hv he
      have hM := (hM.1 j (g v) hj e2 k2 kl ke).1 b hb e
      have hsz := h.sz hl
      have h20 := h.1.1.2.1 v
      by_cases h0 : x.siz v = 20
      · obtain ⟨q1, rfl⟩ := hX.1 h0
        obtain ⟨p1, rfl⟩ := hM.1 (hsz.trans h0)
        exact ⟨q1.trans p1.symm, g, h, Nat.le_succ _⟩
      · obtain ⟨y, hy, hsh, hor⟩ := hX.2 h0
        obtain ⟨f, hf, hom⟩ := hM.2 (by omega)
        rcases hor with ⟨q1, ex, q3⟩ | ⟨q1, q3, q4, q5⟩
        · rcases hom with ⟨p1, p2, p3⟩ | ⟨p1, p2, p3⟩
          · rw [ex, p3]
            exact ⟨q1.trans p1.symm, g, h.fulls hy hsh hf, Nat.le_succ _⟩
          · exfalso
            omega
        · rcases hom with ⟨p1, p2, p3⟩ | ⟨p1, p2, p3⟩
          · exfalso
            omega
          · rw [p3]
            have hyy := h.shr hy hsh
            have hly : Lv y.col y.wh v := (hyy.2.2.reg hj (by rw [hsh.1]; exact h2) hv (by rw [hsh.2.1]; exact he)).1
            have h20y : y.siz v < 20 := by rw [hsh.2.2.2.1]; omega
            exact ⟨by rw [q1, p1, hsz], g, (hyy.grow hly h20y hb hf).shr q4 q5, Nat.le_succ _⟩
    · obtain ⟨q1, rfl⟩ := hX.2 hno
      obtain ⟨p1, rfl⟩ := hM.2 (h.2.2.nob hno)
      exact ⟨q1.trans p1.symm, g, h, Nat.le_succ _⟩
  · obtain ⟨q1, ex⟩ := hX.2 hr
    rw [ex]
    rcases ob_cases h.2.1.ro r with ⟨j, v, hj, e2, h2, hv, he⟩ | hno
    · obtain ⟨p1, em⟩ := (hM.1 j v hj e2 h2 hv he).2 hr
      rw [em]
      exact ⟨q1.trans p1.symm, g, h, Nat.le_succ _⟩
    · obtain ⟨p1, em⟩ := hM.2 hno
      rw [em]
      exact ⟨q1.trans p1.symm, g, h, Nat.le_succ _⟩
set_option maxHeartbeats 4000000 in
set_option maxRecDepth 100000 in
theorem sim_make {g : Nat → Nat} {x x' : XS} {m m' : MS} (h : SIM g x m) {r u t q q2 : Int32} (hmm : m.mm < 520) (hX : IX r 10 (fun a => IX t 10 (fun b => IX u 21 (fun n => ∃ y : XS, Inv y ∧ Shr x y ∧ ((q = nI 0 ∧ x' = XS.mk y.rs y.rv y.dp y.col y.siz y.srt y.val y.fre y.gry y.most y.fc y.gc y.us y.ob y.wh y.ph y.sw y.md y.made (y.full + nI 1) ∧ x.most < sR x + (2 + n)) ∨ (q = nI 1 ∧ sR x + (2 + n) ≤ x.most ∧ Inv x' ∧ ∃ o, 0 < y.fc ∧ o = y.fre (y.fc - 1) ∧ Shr (newX y o n a b) x'))) (q = -1 ∧ x' = x)) (q = -1 ∧ x' = x)) (q = -1 ∧ x' = x)) (hM : IX r 10 (fun a => IX t 10 (fun b => IX u 21 (fun n => ∃ f : Nat → Nat, (∀ i, f i ≤ 1) ∧ ((q2 = nI 0 ∧ m.cel < sM m + (2 + n) ∧ m' = MS.mk m.cel m.kin m.mv m.st m.mm m.msz f (m.full + nI 1)) ∨ (q2 = nI 1 ∧ sM m + (2 + n) ≤ m.cel ∧ m' = newM m f n a b))) (q2 = -1 ∧ m' = m)) (q2 = -1 ∧ m' = m)) (q2 = -1 ∧ m' = m)) : q = q2 ∧ ∃ g', SIM g' x' m' ∧ m'.mm ≤ m.mm + 1 := by
  have hs := h.sums.1
  have hmo : x.most = m.cel := h.2.2.2.1
  rcases ix_cases r (n := 10) (by decide) with ⟨a, ha, e⟩ | hr
  · have hX := hX.1 a ha e
    have hM := hM.1 a ha e
    rcases ix_cases t (n := 10) (by decide) with ⟨b, hb, e2⟩ | hr
    · have hX := hX.1 b hb e2
      have hM := hM.1 b hb e2
      rcases ix_cases u (n := 21) (by decide) with ⟨n, hn, e3⟩ | hr
      · obtain ⟨y, hy, hsh, hor⟩ := hX.1 n hn e3
        obtain ⟨f, hf, hom⟩ := hM.1 n hn e3
        rcases hor with ⟨q1, ex, q3⟩ | ⟨q1, q3, q4, o, q5, q6, q7⟩
        · rcases hom with ⟨p1, p2, p3⟩ | ⟨p1, p2, p3⟩
          · rw [ex, p3]
            exact ⟨q1.trans p1.symm, g, h.fulls hy hsh hf, Nat.le_succ _⟩
          · exfalso
            omega
        · rcases hom with ⟨p1, p2, p3⟩ | ⟨p1, p2, p3⟩
          · exfalso
            omega
          · rw [p3]
            exact ⟨q1.trans p1.symm, _, ((h.shr hy hsh).make q5 q6 (by omega) ha hb hmm hf).shr q4 q7, Nat.le_refl _⟩
      · obtain ⟨q1, rfl⟩ := hX.2 hr
        obtain ⟨p1, rfl⟩ := hM.2 hr
        exact ⟨q1.trans p1.symm, g, h, Nat.le_succ _⟩
    · obtain ⟨q1, rfl⟩ := hX.2 hr
      obtain ⟨p1, rfl⟩ := hM.2 hr
      exact ⟨q1.trans p1.symm, g, h, Nat.le_succ _⟩
  · obtain ⟨q1, rfl⟩ := hX.2 hr
    obtain ⟨p1, rfl⟩ := hM.2 hr
    exact ⟨q1.trans p1.symm, g, h, Nat.le_succ _⟩
end
section
/-! the constructors -/
set_option maxHeartbeats 4000000 in
set_option maxRecDepth 100000 in
theorem c_R_init (l : Launch) (D : va_G) (h0 sz : Nat) : Met l y_R_init w_R_init rm_R_init (va_Pc [.ref h0] (fun U => U.heap.size = sz ∧ va_P D classes [(h0, .inr (0, [.null, .null, .int (nI 0)]))] U.heap ∧ va_K D classes [] U ∧ va_D (fun _ => True) [(h0, .inr (0, [.null, .null, .int (nI 0)]))])) (va_Qv (fun _ : Nat × Nat × ClassId × ClassId => True) (fun u t => va_P D classes [(h0, .inr (0, [.ref u.1, .ref u.2.1, .int (nI 0)])), (u.1, .inl (u.2.2.1, 60, .inl (fun _ => nI 0))), (u.2.1, .inl (u.2.2.2, 60, .inl (fun _ => nI 0)))] t.heap ∧ va_K D classes [(u.2.2.1, .byte), (u.2.2.2, .int)] t ∧ va_D (va_A [(h0, .inr (0, [.null, .null, .int (nI 0)]))] sz) [(h0, .inr (0, [.ref u.1, .ref u.2.1, .int (nI 0)])), (u.1, .inl (u.2.2.1, 60, .inl (fun _ => nI 0))), (u.2.1, .inl (u.2.2.2, 60, .inl (fun _ => nI 0)))]) (va_A [(h0, .inr (0, [.null, .null, .int (nI 0)]))] sz)) 2 120 (va_A [(h0, .inr (0, [.null, .null, .int (nI 0)]))] sz) := by
  refine Met.ofW (cc := b_R_init) (maxL := 1) (ret := none) (by decide) rfl ?_
  intro p e s m args below meth c s₁ B hml hv
  obtain ⟨rfl, hsz, hP, hK, hD0⟩ := hv
  have hx := B.exec
  have hb := B.bytes
  have hr := B.returns
  have hts : ∀ w ∈ TBL, w.before [.ref h0].toArray s = true := fun w hw => atoms_spec (ws := w_R_init) B.pre w (List.mem_cons_of_mem _ hw)
  have hown : s.vm.findClass "SliceHeap$Roots" = some m.cls := findClass_of_methodNamed B.named
  have hlocks := B.notSynchronized
  have hin : meth.name = "<init>" := (name_of_methodNamed B.named B.method).1
  subst hsz
  have hD := hD0.self (sz := s.heap.size)
  generalize hAe : va_A [(h0, .inr (0, [.null, .null, .int (nI 0)]))] s.heap.size = A at hD ⊢
  have hA : ∀ q : Nat, s.heap.size ≤ q → A q := fun q h => by rw [← hAe]; exact Or.inr h
  have hS : va_S A s.heap s.heap [] := va_S.rf
  have hl := lv_entry ([.ref h0]) (n := 1) (Nat.le_of_ble_eq_true rfl)
  rw [lg_entry_eq]
  generalize (lg_sl ([.ref h0]) ++ List.replicate (1 - (lg_sl ([.ref h0])).length) Slot.unset).toArray = ls at hl ⊢
  have hl : lv_has ls 1 (lv_args 0 [.ref h0]) := hl
  refine lv_aload_n hx hb d_R_init_0 rfl (lv_at hl 0 rfl) ?_
  refine W.objInit hx hb hown (hts _ km_R_1) (hts _ ki_O_init) (hts _ kc_O_init) rfl (by rw [hml]; exact hl.1) rfl d_R_init_1 (Nat.le_of_ble_eq_true rfl) (Nat.le_of_ble_eq_true rfl) ?_
  refine W.eq (g2 := F0 m 4 ls []) rfl ?_
  refine lv_aload_n hx hb d_R_init_4 rfl (lv_at hl 0 rfl) ?_
  refine lv_bipush (v := nI 60) hx hb d_R_init_5 (by decide) ?_
  refine va_newa (atype := .byte) (a0 := (60, .inl (fun _ => nI 0))) (N' := 60) (ty := .byte) hx hb (hts _ ka_byte) rfl hK hP hD hS hA (fun _ => rfl) (by decide) (by decide) (by decide) (Nat.le_of_ble_eq_true rfl) (Nat.le_of_ble_eq_true rfl) d_R_init_7 (fun q1 c1 H hK hP hD hS => ?_)
  have hP : va_P D classes [(h0, .inr (0, [.null, .null, .int (nI 0)])), (q1, .inl (c1, 60, .inl (fun _ => nI 0)))] H := hP
  have hD : va_D A [(h0, .inr (0, [.null, .null, .int (nI 0)])), (q1, .inl (c1, 60, .inl (fun _ => nI 0)))] := hD
  have hK : va_K D classes [(c1, .byte)] s := hK
  refine va_putF (ci := 0) (v := .ref q1) (ty := .array .byte) hx hb hts in_R t_R t_R_ok n_R hown hK hP hD hS 0 rfl rfl 0 (by decide) (hts _ kf_R_9) (fun _ h9 => h9) rfl hin rfl (by decide +kernel) rfl rfl (Nat.le_of_ble_eq_true rfl) d_R_init_9 (fun H locs hP hD hS => ?_)
  have hP : va_P D classes [(h0, .inr (0, [.ref q1, .null, .int (nI 0)])), (q1, .inl (c1, 60, .inl (fun _ => nI 0)))] H := hP
  have hD : va_D A [(h0, .inr (0, [.ref q1, .null, .int (nI 0)])), (q1, .inl (c1, 60, .inl (fun _ => nI 0)))] := hD
  have hK : va_K D classes [(c1, .byte)] s := hK
  refine lv_aload_n hx hb d_R_init_12 rfl (lv_at hl 0 rfl) ?_
  refine lv_bipush (v := nI 60) hx hb d_R_init_13 (by decide) ?_
  refine va_newa (atype := .int) (a0 := (60, .inl (fun _ => nI 0))) (N' := 60) (ty := .int) hx hb (hts _ ka_int) rfl hK hP hD hS hA (fun _ => rfl) (by decide) (by decide) (by decide) (Nat.le_of_ble_eq_true rfl) (Nat.le_of_ble_eq_true rfl) d_R_init_15 (fun q2 c2 H hK hP hD hS => ?_)
  have hP : va_P D classes [(h0, .inr (0, [.ref q1, .null, .int (nI 0)])), (q1, .inl (c1, 60, .inl (fun _ => nI 0))), (q2, .inl (c2, 60, .inl (fun _ => nI 0)))] H := hP
  have hD : va_D A [(h0, .inr (0, [.ref q1, .null, .int (nI 0)])), (q1, .inl (c1, 60, .inl (fun _ => nI 0))), (q2, .inl (c2, 60, .inl (fun _ => nI 0)))] := hD
  have hK : va_K D classes [(c1, .byte), (c2, .int)] s := hK
  refine va_putF (ci := 0) (v := .ref q2) (ty := .array .int) hx hb hts in_R t_R t_R_ok n_R hown hK hP hD hS 0 rfl rfl 1 (by decide) (hts _ kf_R_13) (fun _ h9 => h9) rfl hin rfl (by decide +kernel) rfl rfl (Nat.le_of_ble_eq_true rfl) d_R_init_17 (fun H locs hP hD hS => ?_)
  have hP : va_P D classes [(h0, .inr (0, [.ref q1, .ref q2, .int (nI 0)])), (q1, .inl (c1, 60, .inl (fun _ => nI 0))), (q2, .inl (c2, 60, .inl (fun _ => nI 0)))] H := hP
  have hD : va_D A [(h0, .inr (0, [.ref q1, .ref q2, .int (nI 0)])), (q1, .inl (c1, 60, .inl (fun _ => nI 0))), (q2, .inl (c2, 60, .inl (fun _ => nI 0)))] := hD
  have hK : va_K D classes [(c1, .byte), (c2, .int)] s := hK
  refine W.widen (k := 2) (n := 120) (Nat.le_of_ble_eq_true rfl) (Nat.le_of_ble_eq_true rfl) ?_
  exact W.vret hx hb hr (fun t ht hW => ⟨⟨(q1, q2, c1, c2), rfl, trivial, by rw [ht]; exact hP, va_K.moved hW.alike hK, hD⟩, hS.F ht⟩) hS.2.2 d_R_init_20 hlocks
end
section
/-- the cells that a constructor takes -/
def mst (u : Int32) : Nat := if 20 ≤ u.toInt ∧ u.toInt ≤ 3000 then u.toInt.toNat else 300
theorem mst_y {u : Int32} (h1 : ¬ u < nI 20) (h2 : ¬ nI 3000 < u) : u = nI (mst u) := by
  rw [Int32.lt_iff_toInt_lt, nI_toInt (by decide)] at h1 h2
  unfold mst
  rw [if_pos ⟨by omega, by omega⟩]
  refine Int32.toInt_inj.mp ?_
  rw [nI_toInt (by omega)]
  omega
theorem mst_n {u : Int32} (h : u < nI 20 ∨ nI 3000 < u) : nI 300 = nI (mst u) := by
  rw [Int32.lt_iff_toInt_lt, Int32.lt_iff_toInt_lt, nI_toInt (by decide), nI_toInt (by decide)] at h
  unfold mst
  rw [if_neg (by omega)]
theorem mst_le (u : Int32) : mst u ≤ 3000 := by
  unfold mst
  split <;> omega
set_option maxHeartbeats 4000000 in
set_option maxRecDepth 100000 in
theorem c_M_init (l : Launch) (D : va_G) (h0 sz : Nat) (cl : Int32) : Met l y_M_init w_M_init rm_M_init (va_Pc [.ref h0, .int cl] (fun U => U.heap.size = sz ∧ va_P D classes [(h0, .inr (3, [.int (nI 0), .null, .null, .int (nI 0), .int (nI 0), .null, .null, .int (nI 0)]))] U.heap ∧ va_K D classes [] U ∧ va_D (fun _ => True) [(h0, .inr (3, [.int (nI 0), .null, .null, .int (nI 0), .int (nI 0), .null, .null, .int (nI 0)]))])) (va_Qv (fun _ : Nat × Nat × Nat × Nat × ClassId × ClassId × ClassId × ClassId => True) (fun u t => va_P D classes [(h0, .inr (3, [.int (nI (mst cl)), .ref u.1, .ref u.2.1, .int (nI 0), .int (nI 0), .ref u.2.2.1, .ref u.2.2.2.1, .int (nI 0)])), (u.1, .inl (u.2.2.2.2.1, 10460, .inl (fun _ => nI 0))), (u.2.1, .inl (u.2.2.2.2.2.1, 10460, .inl (fun _ => nI 0))), (u.2.2.1, .inl (u.2.2.2.2.2.2.1, 520, .inl (fun _ => nI 0))), (u.2.2.2.1, .inl (u.2.2.2.2.2.2.2, 520, .inl (fun _ => nI 0)))] t.heap ∧ va_K D classes [(u.2.2.2.2.1, .byte), (u.2.2.2.2.2.1, .int), (u.2.2.2.2.2.2.1, .int), (u.2.2.2.2.2.2.2, .boolean)] t ∧ va_D (va_A [(h0, .inr (3, [.int (nI 0), .null, .null, .int (nI 0), .int (nI 0), .null, .null, .int (nI 0)]))] sz) [(h0, .inr (3, [.int (nI (mst cl)), .ref u.1, .ref u.2.1, .int (nI 0), .int (nI 0), .ref u.2.2.1, .ref u.2.2.2.1, .int (nI 0)])), (u.1, .inl (u.2.2.2.2.1, 10460, .inl (fun _ => nI 0))), (u.2.1, .inl (u.2.2.2.2.2.1, 10460, .inl (fun _ => nI 0))), (u.2.2.1, .inl (u.2.2.2.2.2.2.1, 520, .inl (fun _ => nI 0))), (u.2.2.2.1, .inl (u.2.2.2.2.2.2.2, 520, .inl (fun _ => nI 0)))]) (va_A [(h0, .inr (3, [.int (nI 0), .null, .null, .int (nI 0), .int (nI 0), .null, .null, .int (nI 0)]))] sz)) 4 21960 (va_A [(h0, .inr (3, [.int (nI 0), .null, .null, .int (nI 0), .int (nI 0), .null, .null, .int (nI 0)]))] sz) := by
  refine Met.ofW (cc := b_M_init) (maxL := 2) (ret := none) (by decide) rfl ?_
  intro p e s m args below meth c s₁ B hml hv
  obtain ⟨rfl, hsz, hP, hK, hD0⟩ := hv
  have hx := B.exec
  have hb := B.bytes
  have hr := B.returns
  have hts : ∀ w ∈ TBL, w.before [.ref h0, .int cl].toArray s = true := fun w hw => atoms_spec (ws := w_M_init) B.pre w (List.mem_cons_of_mem _ hw)
  have hown : s.vm.findClass "SliceHeapModel" = some m.cls := findClass_of_methodNamed B.named
  have hlocks := B.notSynchronized
  have hin : meth.name = "<init>" := (name_of_methodNamed B.named B.method).1
  subst hsz
  have hD := hD0.self (sz := s.heap.size)
  generalize hAe : va_A [(h0, .inr (3, [.int (nI 0), .null, .null, .int (nI 0), .int (nI 0), .null, .null, .int (nI 0)]))] s.heap.size = A at hD ⊢
  have hA : ∀ q : Nat, s.heap.size ≤ q → A q := fun q h => by rw [← hAe]; exact Or.inr h
  have hS : va_S A s.heap s.heap [] := va_S.rf
  have hl := lv_entry ([.ref h0, .int cl]) (n := 2) (Nat.le_of_ble_eq_true rfl)
  rw [lg_entry_eq]
  generalize (lg_sl ([.ref h0, .int cl]) ++ List.replicate (2 - (lg_sl ([.ref h0, .int cl])).length) Slot.unset).toArray = ls at hl ⊢
  have hl : lv_has ls 2 (lv_args 0 [.ref h0, .int cl]) := hl
  refine lv_aload_n hx hb d_M_init_0 rfl (lv_at hl 0 rfl) ?_
  refine W.objInit hx hb hown (hts _ km_M_1) (hts _ ki_O_init) (hts _ kc_O_init) rfl (by rw [hml]; exact hl.1) rfl d_M_init_1 (Nat.le_of_ble_eq_true rfl) (Nat.le_of_ble_eq_true rfl) ?_
  refine W.eq (g2 := F0 m 4 ls []) rfl ?_
  refine lv_aload_n hx hb d_M_init_4 rfl (lv_at hl 0 rfl) ?_
  refine lv_sipush (v := nI 10460) hx hb d_M_init_5 (by decide) ?_
  refine va_newa (atype := .byte) (a0 := (10460, .inl (fun _ => nI 0))) (N' := 10460) (ty := .byte) hx hb (hts _ ka_byte) rfl hK hP hD hS hA (fun _ => rfl) (by decide) (by decide) (by decide) (Nat.le_of_ble_eq_true rfl) (Nat.le_of_ble_eq_true rfl) d_M_init_8 (fun q1 c1 H hK hP hD hS => ?_)
  have hP : va_P D classes [(h0, .inr (3, [.int (nI 0), .null, .null, .int (nI 0), .int (nI 0), .null, .null, .int (nI 0)])), (q1, .inl (c1, 10460, .inl (fun _ => nI 0)))] H := hP
  have hD : va_D A [(h0, .inr (3, [.int (nI 0), .null, .null, .int (nI 0), .int (nI 0), .null, .null, .int (nI 0)])), (q1, .inl (c1, 10460, .inl (fun _ => nI 0)))] := hD
  have hK : va_K D classes [(c1, .byte)] s := hK
  refine va_putF (ci := 3) (v := .ref q1) (ty := .array .byte) hx hb hts in_M t_M t_M_ok n_M hown hK hP hD hS 0 rfl rfl 1 (by decide) (hts _ kf_M_7) (fun _ h9 => h9) rfl hin rfl (by decide +kernel) rfl rfl (Nat.le_of_ble_eq_true rfl) d_M_init_10 (fun H locs hP hD hS => ?_)
  have hP : va_P D classes [(h0, .inr (3, [.int (nI 0), .ref q1, .null, .int (nI 0), .int (nI 0), .null, .null, .int (nI 0)])), (q1, .inl (c1, 10460, .inl (fun _ => nI 0)))] H := hP
  have hD : va_D A [(h0, .inr (3, [.int (nI 0), .ref q1, .null, .int (nI 0), .int (nI 0), .null, .null, .int (nI 0)])), (q1, .inl (c1, 10460, .inl (fun _ => nI 0)))] := hD
  have hK : va_K D classes [(c1, .byte)] s := hK
  refine lv_aload_n hx hb d_M_init_13 rfl (lv_at hl 0 rfl) ?_
  refine lv_sipush (v := nI 10460) hx hb d_M_init_14 (by decide) ?_
  refine va_newa (atype := .int) (a0 := (10460, .inl (fun _ => nI 0))) (N' := 10460) (ty := .int) hx hb (hts _ ka_int) rfl hK hP hD hS hA (fun _ => rfl) (by decide) (by decide) (by decide) (Nat.le_of_ble_eq_true rfl) (Nat.le_of_ble_eq_true rfl) d_M_init_17 (fun q2 c2 H hK hP hD hS => ?_)
  have hP : va_P D classes [(h0, .inr (3, [.int (nI 0), .ref q1, .null, .int (nI 0), .int (nI 0), .null, .null, .int (nI 0)])), (q1, .inl (c1, 10460, .inl (fun _ => nI 0))), (q2, .inl (c2, 10460, .inl (fun _ => nI 0)))] H := hP
  have hD : va_D A [(h0, .inr (3, [.int (nI 0), .ref q1, .null, .int (nI 0), .int (nI 0), .null, .null, .int (nI 0)])), (q1, .inl (c1, 10460, .inl (fun _ => nI 0))), (q2, .inl (c2, 10460, .inl (fun _ => nI 0)))] := hD
  have hK : va_K D classes [(c1, .byte), (c2, .int)] s := hK
  refine va_putF (ci := 3) (v := .ref q2) (ty := .array .int) hx hb hts in_M t_M t_M_ok n_M hown hK hP hD hS 0 rfl rfl 2 (by decide) (hts _ kf_M_13) (fun _ h9 => h9) rfl hin rfl (by decide +kernel) rfl rfl (Nat.le_of_ble_eq_true rfl) d_M_init_19 (fun H locs hP hD hS => ?_)
  have hP : va_P D classes [(h0, .inr (3, [.int (nI 0), .ref q1, .ref q2, .int (nI 0), .int (nI 0), .null, .null, .int (nI 0)])), (q1, .inl (c1, 10460, .inl (fun _ => nI 0))), (q2, .inl (c2, 10460, .inl (fun _ => nI 0)))] H := hP
  have hD : va_D A [(h0, .inr (3, [.int (nI 0), .ref q1, .ref q2, .int (nI 0), .int (nI 0), .null, .null, .int (nI 0)])), (q1, .inl (c1, 10460, .inl (fun _ => nI 0))), (q2, .inl (c2, 10460, .inl (fun _ => nI 0)))] := hD
  have hK : va_K D classes [(c1, .byte), (c2, .int)] s := hK
  refine lv_aload_n hx hb d_M_init_22 rfl (lv_at hl 0 rfl) ?_
  refine lv_sipush (v := nI 520) hx hb d_M_init_23 (by decide) ?_
  refine va_newa (atype := .int) (a0 := (520, .inl (fun _ => nI 0))) (N' := 520) (ty := .int) hx hb (hts _ ka_int) rfl hK hP hD hS hA (fun _ => rfl) (by decide) (by decide) (by decide) (Nat.le_of_ble_eq_true rfl) (Nat.le_of_ble_eq_true rfl) d_M_init_26 (fun q3 c3 H hK hP hD hS => ?_)
  have hP : va_P D classes [(h0, .inr (3, [.int (nI 0), .ref q1, .ref q2, .int (nI 0), .int (nI 0), .null, .null, .int (nI 0)])), (q1, .inl (c1, 10460, .inl (fun _ => nI 0))), (q2, .inl (c2, 10460, .inl (fun _ => nI 0))), (q3, .inl (c3, 520, .inl (fun _ => nI 0)))] H := hP
  have hD : va_D A [(h0, .inr (3, [.int (nI 0), .ref q1, .ref q2, .int (nI 0), .int (nI 0), .null, .null, .int (nI 0)])), (q1, .inl (c1, 10460, .inl (fun _ => nI 0))), (q2, .inl (c2, 10460, .inl (fun _ => nI 0))), (q3, .inl (c3, 520, .inl (fun _ => nI 0)))] := hD
  have hK : va_K D classes [(c1, .byte), (c2, .int), (c3, .int)] s := hK
  refine va_putF (ci := 3) (v := .ref q3) (ty := .array .int) hx hb hts in_M t_M t_M_ok n_M hown hK hP hD hS 0 rfl rfl 5 (by decide) (hts _ kf_M_17) (fun _ h9 => h9) rfl hin rfl (by decide +kernel) rfl rfl (Nat.le_of_ble_eq_true rfl) d_M_init_28 (fun H locs hP hD hS => ?_)
  have hP : va_P D classes [(h0, .inr (3, [.int (nI 0), .ref q1, .ref q2, .int (nI 0), .int (nI 0), .ref q3, .null, .int (nI 0)])), (q1, .inl (c1, 10460, .inl (fun _ => nI 0))), (q2, .inl (c2, 10460, .inl (fun _ => nI 0))), (q3, .inl (c3, 520, .inl (fun _ => nI 0)))] H := hP
  have hD : va_D A [(h0, .inr (3, [.int (nI 0), .ref q1, .ref q2, .int (nI 0), .int (nI 0), .ref q3, .null, .int (nI 0)])), (q1, .inl (c1, 10460, .inl (fun _ => nI 0))), (q2, .inl (c2, 10460, .inl (fun _ => nI 0))), (q3, .inl (c3, 520, .inl (fun _ => nI 0)))] := hD
  have hK : va_K D classes [(c1, .byte), (c2, .int), (c3, .int)] s := hK
  refine lv_aload_n hx hb d_M_init_31 rfl (lv_at hl 0 rfl) ?_
  refine lv_sipush (v := nI 520) hx hb d_M_init_32 (by decide) ?_
  refine va_newa (atype := .boolean) (a0 := (520, .inl (fun _ => nI 0))) (N' := 520) (ty := .boolean) hx hb (hts _ ka_boolean) rfl hK hP hD hS hA (fun _ => rfl) (by decide) (by decide) (by decide) (Nat.le_of_ble_eq_true rfl) (Nat.le_of_ble_eq_true rfl) d_M_init_35 (fun q4 c4 H hK hP hD hS => ?_)
  have hP : va_P D classes [(h0, .inr (3, [.int (nI 0), .ref q1, .ref q2, .int (nI 0), .int (nI 0), .ref q3, .null, .int (nI 0)])), (q1, .inl (c1, 10460, .inl (fun _ => nI 0))), (q2, .inl (c2, 10460, .inl (fun _ => nI 0))), (q3, .inl (c3, 520, .inl (fun _ => nI 0))), (q4, .inl (c4, 520, .inl (fun _ => nI 0)))] H := hP
  have hD : va_D A [(h0, .inr (3, [.int (nI 0), .ref q1, .ref q2, .int (nI 0), .int (nI 0), .ref q3, .null, .int (nI 0)])), (q1, .inl (c1, 10460, .inl (fun _ => nI 0))), (q2, .inl (c2, 10460, .inl (fun _ => nI 0))), (q3, .inl (c3, 520, .inl (fun _ => nI 0))), (q4, .inl (c4, 520, .inl (fun _ => nI 0)))] := hD
  have hK : va_K D classes [(c1, .byte), (c2, .int), (c3, .int), (c4, .boolean)] s := hK
  refine va_putF (ci := 3) (v := .ref q4) (ty := .array .boolean) hx hb hts in_M t_M t_M_ok n_M hown hK hP hD hS 0 rfl rfl 6 (by decide) (hts _ kf_M_20) (fun _ h9 => h9) rfl hin rfl (by decide +kernel) rfl rfl (Nat.le_of_ble_eq_true rfl) d_M_init_37 (fun H locs hP hD hS => ?_)
  have hP : va_P D classes [(h0, .inr (3, [.int (nI 0), .ref q1, .ref q2, .int (nI 0), .int (nI 0), .ref q3, .ref q4, .int (nI 0)])), (q1, .inl (c1, 10460, .inl (fun _ => nI 0))), (q2, .inl (c2, 10460, .inl (fun _ => nI 0))), (q3, .inl (c3, 520, .inl (fun _ => nI 0))), (q4, .inl (c4, 520, .inl (fun _ => nI 0)))] H := hP
  have hD : va_D A [(h0, .inr (3, [.int (nI 0), .ref q1, .ref q2, .int (nI 0), .int (nI 0), .ref q3, .ref q4, .int (nI 0)])), (q1, .inl (c1, 10460, .inl (fun _ => nI 0))), (q2, .inl (c2, 10460, .inl (fun _ => nI 0))), (q3, .inl (c3, 520, .inl (fun _ => nI 0))), (q4, .inl (c4, 520, .inl (fun _ => nI 0)))] := hD
  have hK : va_K D classes [(c1, .byte), (c2, .int), (c3, .int), (c4, .boolean)] s := hK
  have fin : W p l e rm_M_init s m [Value.ref h0, .int cl].toArray below meth c H locs (0 + 1 + 1 + 1 + 1) (0 + 10460 + 10460 + 520 + 520) (MQ below (va_Qv (fun _ : Nat × Nat × Nat × Nat × ClassId × ClassId × ClassId × ClassId => True) (fun u t => va_P D classes [(h0, .inr (3, [.int (nI (mst cl)), .ref u.1, .ref u.2.1, .int (nI 0), .int (nI 0), .ref u.2.2.1, .ref u.2.2.2.1, .int (nI 0)])), (u.1, .inl (u.2.2.2.2.1, 10460, .inl (fun _ => nI 0))), (u.2.1, .inl (u.2.2.2.2.2.1, 10460, .inl (fun _ => nI 0))), (u.2.2.1, .inl (u.2.2.2.2.2.2.1, 520, .inl (fun _ => nI 0))), (u.2.2.2.1, .inl (u.2.2.2.2.2.2.2, 520, .inl (fun _ => nI 0)))] t.heap ∧ va_K D classes [(u.2.2.2.2.1, .byte), (u.2.2.2.2.2.1, .int), (u.2.2.2.2.2.2.1, .int), (u.2.2.2.2.2.2.2, .boolean)] t ∧ va_D A [(h0, .inr (3, [.int (nI (mst cl)), .ref u.1, .ref u.2.1, .int (nI 0), .int (nI 0), .ref u.2.2.1, .ref u.2.2.2.1, .int (nI 0)])), (u.1, .inl (u.2.2.2.2.1, 10460, .inl (fun _ => nI 0))), (u.2.1, .inl (u.2.2.2.2.2.1, 10460, .inl (fun _ => nI 0))), (u.2.2.1, .inl (u.2.2.2.2.2.2.1, 520, .inl (fun _ => nI 0))), (u.2.2.2.1, .inl (u.2.2.2.2.2.2.2, 520, .inl (fun _ => nI 0)))]) A) [Value.ref h0, .int cl].toArray s 4 21960 A) (F0 m 61 ls [.int (nI (mst cl)), .ref h0]) := by
    refine va_putF (ci := 3) (v := .int (nI (mst cl))) (ty := .int) hx hb hts in_M t_M t_M_ok n_M hown hK hP hD hS 0 rfl rfl 0 (by decide) (hts _ kf_M_24) (fun _ h9 => h9) rfl hin rfl (by decide +kernel) rfl rfl (Nat.le_of_ble_eq_true rfl) d_M_init_61 (fun H locs hP hD hS => ?_)
    have hP : va_P D classes [(h0, .inr (3, [.int (nI (mst cl)), .ref q1, .ref q2, .int (nI 0), .int (nI 0), .ref q3, .ref q4, .int (nI 0)])), (q1, .inl (c1, 10460, .inl (fun _ => nI 0))), (q2, .inl (c2, 10460, .inl (fun _ => nI 0))), (q3, .inl (c3, 520, .inl (fun _ => nI 0))), (q4, .inl (c4, 520, .inl (fun _ => nI 0)))] H := hP
    have hD : va_D A [(h0, .inr (3, [.int (nI (mst cl)), .ref q1, .ref q2, .int (nI 0), .int (nI 0), .ref q3, .ref q4, .int (nI 0)])), (q1, .inl (c1, 10460, .inl (fun _ => nI 0))), (q2, .inl (c2, 10460, .inl (fun _ => nI 0))), (q3, .inl (c3, 520, .inl (fun _ => nI 0))), (q4, .inl (c4, 520, .inl (fun _ => nI 0)))] := hD
    have hK : va_K D classes [(c1, .byte), (c2, .int), (c3, .int), (c4, .boolean)] s := hK
    refine W.widen (k := 4) (n := 21960) (Nat.le_of_ble_eq_true rfl) (Nat.le_of_ble_eq_true rfl) ?_
    exact W.vret hx hb hr (fun t ht hW => ⟨⟨(q1, q2, q3, q4, c1, c2, c3, c4), rfl, trivial, by rw [ht]; exact hP, va_K.moved hW.alike hK, hD⟩, hS.F ht⟩) hS.2.2 d_M_init_64 hlocks
  refine lv_aload_n hx hb d_M_init_40 rfl (lv_at hl 0 rfl) ?_
  refine lv_iload_n hx hb d_M_init_41 rfl (lv_at hl 1 rfl) ?_
  refine lv_bipush (v := nI 20) hx hb d_M_init_42 (by decide) ?_
  refine lv_icmp_lt (tgt := 58) hx hb d_M_init_44 (by decide) (fun h1 => ?_) (fun h1 => ?_)
  · refine lv_sipush (v := nI 300) hx hb d_M_init_58 (by decide) ?_
    refine r_top (mst_n (Or.inl h1)) ?_
    exact fin
  · refine lv_iload_n hx hb d_M_init_47 rfl (lv_at hl 1 rfl) ?_
    refine lv_sipush (v := nI 3000) hx hb d_M_init_48 (by decide) ?_
    refine lv_icmp_gt (tgt := 58) hx hb d_M_init_51 (by decide) (fun h2 => ?_) (fun h2 => ?_)
    · refine lv_sipush (v := nI 300) hx hb d_M_init_58 (by decide) ?_
      refine r_top (mst_n (Or.inr h2)) ?_
      exact fin
    · refine lv_iload_n hx hb d_M_init_54 rfl (lv_at hl 1 rfl) ?_
      refine lv_goto (tgt := 61) hx hb d_M_init_55 (by decide) ?_
      refine r_top (mst_y h1 h2) ?_
      exact fin
end
section
/-! Heap's and SliceHeap's constructors -/
def frN (k : Nat) : Nat → Nat := fun i => if i < k then 1599 - i else 0
theorem frN_s (k : Nat) : va_up (frN k) k (1599 - k) = frN (k + 1) := by
  funext i
  unfold frN
  by_cases q : i = k
  · rw [q, va_up_self, if_pos (show k < k + 1 by omega)]
  · rw [va_up_ne _ _ q]
    by_cases q2 : i < k
    · rw [if_pos q2, if_pos (show i < k + 1 by omega)]
    · rw [if_neg q2, if_neg (show ¬ i < k + 1 by omega)]
def x0 (mo : Nat) : XS := XS.mk (fun _ => 0) (fun _ => nI 0) 0 (fun _ => 0) (fun _ => 0) (fun _ => 0) (fun _ => nI 0) (frN 1600) (fun _ => 0) mo 1600 0 0 0 1 0 0 (nI 0) (nI 0) (nI 0)
theorem va_D.same {A : Nat → Prop} {ws ws' : va_W} (h : va_D A ws) (e : ws.map (fun q => q.1) = ws'.map (fun q => q.1)) : va_D A ws' := by
  have at' : ∀ (k : Nat) (q : Nat × va_E), ws'[k]? = some q → ∃ p : Nat × va_E, ws[k]? = some p ∧ p.1 = q.1 := fun k q hq => by
    have h1 : (ws'.map (fun q => q.1))[k]? = some q.1 := by rw [List.getElem?_map, hq]; rfl
    rw [← e, List.getElem?_map] at h1
    cases hp : ws[k]? with
    | none => rw [hp] at h1; cases h1
    | some p => rw [hp] at h1; exact ⟨p, rfl, Option.some.inj h1⟩
  refine ⟨fun i j p q hp hq hpq => ?_, fun k q hq => ?_⟩
  · obtain ⟨p', a1, a2⟩ := at' i p hp
    obtain ⟨q', b1, b2⟩ := at' j q hq
    exact h.1 i j p' q' a1 b1 (by rw [a2, b2, hpq])
  · obtain ⟨p', a1, a2⟩ := at' k q hq
    rw [← a2]
    exact h.2 k p' a1
theorem arr_one {s : State} {D : va_G} {tys : List (ClassId × FieldType)} (hK : va_K D classes tys s) {i j : Nat} {c1 c2 : ClassId} {ty : FieldType} (h : ∀ c, va_RA s c ty → s.vm.findClass ("[" ++ ty.toString) = some c) (hi : tys[i]? = some (c1, ty)) (hj : tys[j]? = some (c2, ty)) : c1 = c2 := Option.some.inj ((h c1 (hK.2 i _ hi).2).symm.trans (h c2 (hK.2 j _ hj).2))
def ad6 (a b c d e f : Nat) : Nat → Nat := fun k => match k with
  | 5 => a
  | 6 => b
  | 7 => c
  | 8 => d
  | 9 => e
  | _ => f
def adX (h r a b hh : Nat) (g : Nat → Nat) : Nat → Nat := fun k => match k with
  | 0 => h
  | 1 => r
  | 2 => a
  | 3 => b
  | 4 => hh
  | k => g k
set_option maxHeartbeats 4000000 in
set_option maxRecDepth 100000 in
theorem c_H_init (l : Launch) (D : va_G) (h0 r0 sz mo : Nat) : Met l y_H_init w_H_init rm_H_init (va_Pc [.ref h0, .ref r0, .int (nI mo)] (fun U => U.heap.size = sz ∧ va_P D classes [(h0, .inr (1, [.null, .null, .null, .null, .null, .null, .null, .int (nI 0), .int (nI 0), .int (nI 0), .int (nI 0), .int (nI 0), .int (nI 0), .int (nI 0), .int (nI 0), .int (nI 0)]))] U.heap ∧ va_K D classes [] U ∧ va_D (fun _ => True) [(h0, .inr (1, [.null, .null, .null, .null, .null, .null, .null, .int (nI 0), .int (nI 0), .int (nI 0), .int (nI 0), .int (nI 0), .int (nI 0), .int (nI 0), .int (nI 0), .int (nI 0)]))])) (va_Qv (fun _ : ClassId × ClassId × (Nat → Nat) => True) (fun u t => va_P D classes [(h0, .inr (1, [(.ref (u.2.2 5)), (.ref (u.2.2 6)), (.ref (u.2.2 7)), (.ref (u.2.2 8)), (.ref (u.2.2 9)), (.ref (u.2.2 10)), .ref r0, .int (nI mo), .int (nI 1600), .int (nI 0), .int (nI 0), .int (nI 0), .int (nI 1), .int (nI 0), .int (nI 0), .int (nI 0)])), (u.2.2 5, .inl (u.1, 1600, .inl (fun _ => nI 0))), (u.2.2 6, .inl (u.1, 1600, .inl (fun _ => nI 0))), (u.2.2 7, .inl (u.1, 32000, .inl (fun _ => nI 0))), (u.2.2 8, .inl (u.2.1, 32000, .inl (fun _ => nI 0))), (u.2.2 9, .inl (u.2.1, 1600, .inl (fun i => nI (frN 1600 i)))), (u.2.2 10, .inl (u.2.1, 1600, .inl (fun _ => nI 0)))] t.heap ∧ va_K D classes [(u.1, .byte), (u.2.1, .int)] t ∧ va_D (va_A [(h0, .inr (1, [.null, .null, .null, .null, .null, .null, .null, .int (nI 0), .int (nI 0), .int (nI 0), .int (nI 0), .int (nI 0), .int (nI 0), .int (nI 0), .int (nI 0), .int (nI 0)]))] sz) [(h0, .inr (1, [(.ref (u.2.2 5)), (.ref (u.2.2 6)), (.ref (u.2.2 7)), (.ref (u.2.2 8)), (.ref (u.2.2 9)), (.ref (u.2.2 10)), .ref r0, .int (nI mo), .int (nI 1600), .int (nI 0), .int (nI 0), .int (nI 0), .int (nI 1), .int (nI 0), .int (nI 0), .int (nI 0)])), (u.2.2 5, .inl (u.1, 1600, .inl (fun _ => nI 0))), (u.2.2 6, .inl (u.1, 1600, .inl (fun _ => nI 0))), (u.2.2 7, .inl (u.1, 32000, .inl (fun _ => nI 0))), (u.2.2 8, .inl (u.2.1, 32000, .inl (fun _ => nI 0))), (u.2.2 9, .inl (u.2.1, 1600, .inl (fun i => nI (frN 1600 i)))), (u.2.2 10, .inl (u.2.1, 1600, .inl (fun _ => nI 0)))]) (va_A [(h0, .inr (1, [.null, .null, .null, .null, .null, .null, .null, .int (nI 0), .int (nI 0), .int (nI 0), .int (nI 0), .int (nI 0), .int (nI 0), .int (nI 0), .int (nI 0), .int (nI 0)]))] sz)) 6 70400 (va_A [(h0, .inr (1, [.null, .null, .null, .null, .null, .null, .null, .int (nI 0), .int (nI 0), .int (nI 0), .int (nI 0), .int (nI 0), .int (nI 0), .int (nI 0), .int (nI 0), .int (nI 0)]))] sz) := by
  refine Met.ofW (cc := b_H_init) (maxL := 4) (ret := none) (by decide) rfl ?_
  intro p e s m args below meth c s₁ B hml hv
  obtain ⟨rfl, hsz, hP, hK, hD0⟩ := hv
  have hx := B.exec
  have hb := B.bytes
  have hr := B.returns
  have hts : ∀ w ∈ TBL, w.before [.ref h0, .ref r0, .int (nI mo)].toArray s = true := fun w hw => atoms_spec (ws := w_H_init) B.pre w (List.mem_cons_of_mem _ hw)
  have hown : s.vm.findClass "SliceHeap$Heap" = some m.cls := findClass_of_methodNamed B.named
  have hlocks := B.notSynchronized
  have hin : meth.name = "<init>" := (name_of_methodNamed B.named B.method).1
  subst hsz
  have hD := hD0.self (sz := s.heap.size)
  generalize hAe : va_A [(h0, .inr (1, [.null, .null, .null, .null, .null, .null, .null, .int (nI 0), .int (nI 0), .int (nI 0), .int (nI 0), .int (nI 0), .int (nI 0), .int (nI 0), .int (nI 0), .int (nI 0)]))] s.heap.size = A at hD ⊢
  have hA : ∀ q : Nat, s.heap.size ≤ q → A q := fun q h => by rw [← hAe]; exact Or.inr h
  have hS : va_S A s.heap s.heap [] := va_S.rf
  have hl := lv_entry ([.ref h0, .ref r0, .int (nI mo)]) (n := 4) (Nat.le_of_ble_eq_true rfl)
  rw [lg_entry_eq]
  generalize (lg_sl ([.ref h0, .ref r0, .int (nI mo)]) ++ List.replicate (4 - (lg_sl ([.ref h0, .ref r0, .int (nI mo)])).length) Slot.unset).toArray = ls at hl ⊢
  have hl : lv_has ls 4 (lv_args 0 [.ref h0, .ref r0, .int (nI mo)]) := hl
  refine lv_aload_n hx hb d_H_init_0 rfl (lv_at hl 0 rfl) ?_
  refine W.objInit hx hb hown (hts _ km_H_1) (hts _ ki_O_init) (hts _ kc_O_init) rfl (by rw [hml]; exact hl.1) rfl d_H_init_1 (Nat.le_of_ble_eq_true rfl) (Nat.le_of_ble_eq_true rfl) ?_
  refine W.eq (g2 := F0 m 4 ls []) rfl ?_
  refine lv_aload_n hx hb d_H_init_4 rfl (lv_at hl 0 rfl) ?_
  refine lv_sipush (v := nI 1600) hx hb d_H_init_5 (by decide) ?_
  refine va_newa (atype := .byte) (a0 := (1600, .inl (fun _ => nI 0))) (N' := 1600) (ty := .byte) hx hb (hts _ ka_byte) rfl hK hP hD hS hA (fun _ => rfl) (by decide) (by decide) (by decide) (Nat.le_of_ble_eq_true rfl) (Nat.le_of_ble_eq_true rfl) d_H_init_8 (fun q1 c1 H hK hP hD hS => ?_)
  have hP : va_P D classes [(h0, .inr (1, [.null, .null, .null, .null, .null, .null, .null, .int (nI 0), .int (nI 0), .int (nI 0), .int (nI 0), .int (nI 0), .int (nI 0), .int (nI 0), .int (nI 0), .int (nI 0)])), (q1, .inl (c1, 1600, .inl (fun _ => nI 0)))] H := hP
  have hD : va_D A [(h0, .inr (1, [.null, .null, .null, .null, .null, .null, .null, .int (nI 0), .int (nI 0), .int (nI 0), .int (nI 0), .int (nI 0), .int (nI 0), .int (nI 0), .int (nI 0), .int (nI 0)])), (q1, .inl (c1, 1600, .inl (fun _ => nI 0)))] := hD
  have hK : va_K D classes [(c1, .byte)] s := hK
  refine va_putF (ci := 1) (v := .ref q1) (ty := .array .byte) hx hb hts in_H t_H t_H_ok n_H hown hK hP hD hS 0 rfl rfl 0 (by decide) (hts _ kf_H_9) (fun _ h9 => h9) rfl hin rfl (by decide +kernel) rfl rfl (Nat.le_of_ble_eq_true rfl) d_H_init_10 (fun H locs hP hD hS => ?_)
  have hP : va_P D classes [(h0, .inr (1, [.ref q1, .null, .null, .null, .null, .null, .null, .int (nI 0), .int (nI 0), .int (nI 0), .int (nI 0), .int (nI 0), .int (nI 0), .int (nI 0), .int (nI 0), .int (nI 0)])), (q1, .inl (c1, 1600, .inl (fun _ => nI 0)))] H := hP
  have hD : va_D A [(h0, .inr (1, [.ref q1, .null, .null, .null, .null, .null, .null, .int (nI 0), .int (nI 0), .int (nI 0), .int (nI 0), .int (nI 0), .int (nI 0), .int (nI 0), .int (nI 0), .int (nI 0)])), (q1, .inl (c1, 1600, .inl (fun _ => nI 0)))] := hD
  have hK : va_K D classes [(c1, .byte)] s := hK
  refine lv_aload_n hx hb d_H_init_13 rfl (lv_at hl 0 rfl) ?_
  refine lv_sipush (v := nI 1600) hx hb d_H_init_14 (by decide) ?_
  refine va_newa (atype := .byte) (a0 := (1600, .inl (fun _ => nI 0))) (N' := 1600) (ty := .byte) hx hb (hts _ ka_byte) rfl hK hP hD hS hA (fun _ => rfl) (by decide) (by decide) (by decide) (Nat.le_of_ble_eq_true rfl) (Nat.le_of_ble_eq_true rfl) d_H_init_17 (fun q2 c2 H hK hP hD hS => ?_)
  have hP : va_P D classes [(h0, .inr (1, [.ref q1, .null, .null, .null, .null, .null, .null, .int (nI 0), .int (nI 0), .int (nI 0), .int (nI 0), .int (nI 0), .int (nI 0), .int (nI 0), .int (nI 0), .int (nI 0)])), (q1, .inl (c1, 1600, .inl (fun _ => nI 0))), (q2, .inl (c2, 1600, .inl (fun _ => nI 0)))] H := hP
  have hD : va_D A [(h0, .inr (1, [.ref q1, .null, .null, .null, .null, .null, .null, .int (nI 0), .int (nI 0), .int (nI 0), .int (nI 0), .int (nI 0), .int (nI 0), .int (nI 0), .int (nI 0), .int (nI 0)])), (q1, .inl (c1, 1600, .inl (fun _ => nI 0))), (q2, .inl (c2, 1600, .inl (fun _ => nI 0)))] := hD
  have hK : va_K D classes [(c1, .byte), (c2, .byte)] s := hK
  refine va_putF (ci := 1) (v := .ref q2) (ty := .array .byte) hx hb hts in_H t_H t_H_ok n_H hown hK hP hD hS 0 rfl rfl 1 (by decide) (hts _ kf_H_13) (fun _ h9 => h9) rfl hin rfl (by decide +kernel) rfl rfl (Nat.le_of_ble_eq_true rfl) d_H_init_19 (fun H locs hP hD hS => ?_)
  have hP : va_P D classes [(h0, .inr (1, [.ref q1, .ref q2, .null, .null, .null, .null, .null, .int (nI 0), .int (nI 0), .int (nI 0), .int (nI 0), .int (nI 0), .int (nI 0), .int (nI 0), .int (nI 0), .int (nI 0)])), (q1, .inl (c1, 1600, .inl (fun _ => nI 0))), (q2, .inl (c2, 1600, .inl (fun _ => nI 0)))] H := hP
  have hD : va_D A [(h0, .inr (1, [.ref q1, .ref q2, .null, .null, .null, .null, .null, .int (nI 0), .int (nI 0), .int (nI 0), .int (nI 0), .int (nI 0), .int (nI 0), .int (nI 0), .int (nI 0), .int (nI 0)])), (q1, .inl (c1, 1600, .inl (fun _ => nI 0))), (q2, .inl (c2, 1600, .inl (fun _ => nI 0)))] := hD
  have hK : va_K D classes [(c1, .byte), (c2, .byte)] s := hK
  refine lv_aload_n hx hb d_H_init_22 rfl (lv_at hl 0 rfl) ?_
  refine lv_sipush (v := nI 32000) hx hb d_H_init_23 (by decide) ?_
  refine va_newa (atype := .byte) (a0 := (32000, .inl (fun _ => nI 0))) (N' := 32000) (ty := .byte) hx hb (hts _ ka_byte) rfl hK hP hD hS hA (fun _ => rfl) (by decide) (by decide) (by decide) (Nat.le_of_ble_eq_true rfl) (Nat.le_of_ble_eq_true rfl) d_H_init_26 (fun q3 c3 H hK hP hD hS => ?_)
  have hP : va_P D classes [(h0, .inr (1, [.ref q1, .ref q2, .null, .null, .null, .null, .null, .int (nI 0), .int (nI 0), .int (nI 0), .int (nI 0), .int (nI 0), .int (nI 0), .int (nI 0), .int (nI 0), .int (nI 0)])), (q1, .inl (c1, 1600, .inl (fun _ => nI 0))), (q2, .inl (c2, 1600, .inl (fun _ => nI 0))), (q3, .inl (c3, 32000, .inl (fun _ => nI 0)))] H := hP
  have hD : va_D A [(h0, .inr (1, [.ref q1, .ref q2, .null, .null, .null, .null, .null, .int (nI 0), .int (nI 0), .int (nI 0), .int (nI 0), .int (nI 0), .int (nI 0), .int (nI 0), .int (nI 0), .int (nI 0)])), (q1, .inl (c1, 1600, .inl (fun _ => nI 0))), (q2, .inl (c2, 1600, .inl (fun _ => nI 0))), (q3, .inl (c3, 32000, .inl (fun _ => nI 0)))] := hD
  have hK : va_K D classes [(c1, .byte), (c2, .byte), (c3, .byte)] s := hK
  refine va_putF (ci := 1) (v := .ref q3) (ty := .array .byte) hx hb hts in_H t_H t_H_ok n_H hown hK hP hD hS 0 rfl rfl 2 (by decide) (hts _ kf_H_16) (fun _ h9 => h9) rfl hin rfl (by decide +kernel) rfl rfl (Nat.le_of_ble_eq_true rfl) d_H_init_28 (fun H locs hP hD hS => ?_)
  have hP : va_P D classes [(h0, .inr (1, [.ref q1, .ref q2, .ref q3, .null, .null, .null, .null, .int (nI 0), .int (nI 0), .int (nI 0), .int (nI 0), .int (nI 0), .int (nI 0), .int (nI 0), .int (nI 0), .int (nI 0)])), (q1, .inl (c1, 1600, .inl (fun _ => nI 0))), (q2, .inl (c2, 1600, .inl (fun _ => nI 0))), (q3, .inl (c3, 32000, .inl (fun _ => nI 0)))] H := hP
  have hD : va_D A [(h0, .inr (1, [.ref q1, .ref q2, .ref q3, .null, .null, .null, .null, .int (nI 0), .int (nI 0), .int (nI 0), .int (nI 0), .int (nI 0), .int (nI 0), .int (nI 0), .int (nI 0), .int (nI 0)])), (q1, .inl (c1, 1600, .inl (fun _ => nI 0))), (q2, .inl (c2, 1600, .inl (fun _ => nI 0))), (q3, .inl (c3, 32000, .inl (fun _ => nI 0)))] := hD
  have hK : va_K D classes [(c1, .byte), (c2, .byte), (c3, .byte)] s := hK
  refine lv_aload_n hx hb d_H_init_31 rfl (lv_at hl 0 rfl) ?_
  refine lv_sipush (v := nI 32000) hx hb d_H_init_32 (by decide) ?_
  refine va_newa (atype := .int) (a0 := (32000, .inl (fun _ => nI 0))) (N' := 32000) (ty := .int) hx hb (hts _ ka_int) rfl hK hP hD hS hA (fun _ => rfl) (by decide) (by decide) (by decide) (Nat.le_of_ble_eq_true rfl) (Nat.le_of_ble_eq_true rfl) d_H_init_35 (fun q4 c4 H hK hP hD hS => ?_)
  have hP : va_P D classes [(h0, .inr (1, [.ref q1, .ref q2, .ref q3, .null, .null, .null, .null, .int (nI 0), .int (nI 0), .int (nI 0), .int (nI 0), .int (nI 0), .int (nI 0), .int (nI 0), .int (nI 0), .int (nI 0)])), (q1, .inl (c1, 1600, .inl (fun _ => nI 0))), (q2, .inl (c2, 1600, .inl (fun _ => nI 0))), (q3, .inl (c3, 32000, .inl (fun _ => nI 0))), (q4, .inl (c4, 32000, .inl (fun _ => nI 0)))] H := hP
  have hD : va_D A [(h0, .inr (1, [.ref q1, .ref q2, .ref q3, .null, .null, .null, .null, .int (nI 0), .int (nI 0), .int (nI 0), .int (nI 0), .int (nI 0), .int (nI 0), .int (nI 0), .int (nI 0), .int (nI 0)])), (q1, .inl (c1, 1600, .inl (fun _ => nI 0))), (q2, .inl (c2, 1600, .inl (fun _ => nI 0))), (q3, .inl (c3, 32000, .inl (fun _ => nI 0))), (q4, .inl (c4, 32000, .inl (fun _ => nI 0)))] := hD
  have hK : va_K D classes [(c1, .byte), (c2, .byte), (c3, .byte), (c4, .int)] s := hK
  refine va_putF (ci := 1) (v := .ref q4) (ty := .array .int) hx hb hts in_H t_H t_H_ok n_H hown hK hP hD hS 0 rfl rfl 3 (by decide) (hts _ kf_H_19) (fun _ h9 => h9) rfl hin rfl (by decide +kernel) rfl rfl (Nat.le_of_ble_eq_true rfl) d_H_init_37 (fun H locs hP hD hS => ?_)
  have hP : va_P D classes [(h0, .inr (1, [.ref q1, .ref q2, .ref q3, .ref q4, .null, .null, .null, .int (nI 0), .int (nI 0), .int (nI 0), .int (nI 0), .int (nI 0), .int (nI 0), .int (nI 0), .int (nI 0), .int (nI 0)])), (q1, .inl (c1, 1600, .inl (fun _ => nI 0))), (q2, .inl (c2, 1600, .inl (fun _ => nI 0))), (q3, .inl (c3, 32000, .inl (fun _ => nI 0))), (q4, .inl (c4, 32000, .inl (fun _ => nI 0)))] H := hP
  have hD : va_D A [(h0, .inr (1, [.ref q1, .ref q2, .ref q3, .ref q4, .null, .null, .null, .int (nI 0), .int (nI 0), .int (nI 0), .int (nI 0), .int (nI 0), .int (nI 0), .int (nI 0), .int (nI 0), .int (nI 0)])), (q1, .inl (c1, 1600, .inl (fun _ => nI 0))), (q2, .inl (c2, 1600, .inl (fun _ => nI 0))), (q3, .inl (c3, 32000, .inl (fun _ => nI 0))), (q4, .inl (c4, 32000, .inl (fun _ => nI 0)))] := hD
  have hK : va_K D classes [(c1, .byte), (c2, .byte), (c3, .byte), (c4, .int)] s := hK
  refine lv_aload_n hx hb d_H_init_40 rfl (lv_at hl 0 rfl) ?_
  refine lv_sipush (v := nI 1600) hx hb d_H_init_41 (by decide) ?_
  refine va_newa (atype := .int) (a0 := (1600, .inl (fun _ => nI 0))) (N' := 1600) (ty := .int) hx hb (hts _ ka_int) rfl hK hP hD hS hA (fun _ => rfl) (by decide) (by decide) (by decide) (Nat.le_of_ble_eq_true rfl) (Nat.le_of_ble_eq_true rfl) d_H_init_44 (fun q5 c5 H hK hP hD hS => ?_)
  have hP : va_P D classes [(h0, .inr (1, [.ref q1, .ref q2, .ref q3, .ref q4, .null, .null, .null, .int (nI 0), .int (nI 0), .int (nI 0), .int (nI 0), .int (nI 0), .int (nI 0), .int (nI 0), .int (nI 0), .int (nI 0)])), (q1, .inl (c1, 1600, .inl (fun _ => nI 0))), (q2, .inl (c2, 1600, .inl (fun _ => nI 0))), (q3, .inl (c3, 32000, .inl (fun _ => nI 0))), (q4, .inl (c4, 32000, .inl (fun _ => nI 0))), (q5, .inl (c5, 1600, .inl (fun _ => nI 0)))] H := hP
  have hD : va_D A [(h0, .inr (1, [.ref q1, .ref q2, .ref q3, .ref q4, .null, .null, .null, .int (nI 0), .int (nI 0), .int (nI 0), .int (nI 0), .int (nI 0), .int (nI 0), .int (nI 0), .int (nI 0), .int (nI 0)])), (q1, .inl (c1, 1600, .inl (fun _ => nI 0))), (q2, .inl (c2, 1600, .inl (fun _ => nI 0))), (q3, .inl (c3, 32000, .inl (fun _ => nI 0))), (q4, .inl (c4, 32000, .inl (fun _ => nI 0))), (q5, .inl (c5, 1600, .inl (fun _ => nI 0)))] := hD
  have hK : va_K D classes [(c1, .byte), (c2, .byte), (c3, .byte), (c4, .int), (c5, .int)] s := hK
  refine va_putF (ci := 1) (v := .ref q5) (ty := .array .int) hx hb hts in_H t_H t_H_ok n_H hown hK hP hD hS 0 rfl rfl 4 (by decide) (hts _ kf_H_23) (fun _ h9 => h9) rfl hin rfl (by decide +kernel) rfl rfl (Nat.le_of_ble_eq_true rfl) d_H_init_46 (fun H locs hP hD hS => ?_)
  have hP : va_P D classes [(h0, .inr (1, [.ref q1, .ref q2, .ref q3, .ref q4, .ref q5, .null, .null, .int (nI 0), .int (nI 0), .int (nI 0), .int (nI 0), .int (nI 0), .int (nI 0), .int (nI 0), .int (nI 0), .int (nI 0)])), (q1, .inl (c1, 1600, .inl (fun _ => nI 0))), (q2, .inl (c2, 1600, .inl (fun _ => nI 0))), (q3, .inl (c3, 32000, .inl (fun _ => nI 0))), (q4, .inl (c4, 32000, .inl (fun _ => nI 0))), (q5, .inl (c5, 1600, .inl (fun _ => nI 0)))] H := hP
  have hD : va_D A [(h0, .inr (1, [.ref q1, .ref q2, .ref q3, .ref q4, .ref q5, .null, .null, .int (nI 0), .int (nI 0), .int (nI 0), .int (nI 0), .int (nI 0), .int (nI 0), .int (nI 0), .int (nI 0), .int (nI 0)])), (q1, .inl (c1, 1600, .inl (fun _ => nI 0))), (q2, .inl (c2, 1600, .inl (fun _ => nI 0))), (q3, .inl (c3, 32000, .inl (fun _ => nI 0))), (q4, .inl (c4, 32000, .inl (fun _ => nI 0))), (q5, .inl (c5, 1600, .inl (fun _ => nI 0)))] := hD
  have hK : va_K D classes [(c1, .byte), (c2, .byte), (c3, .byte), (c4, .int), (c5, .int)] s := hK
  refine lv_aload_n hx hb d_H_init_49 rfl (lv_at hl 0 rfl) ?_
  refine lv_sipush (v := nI 1600) hx hb d_H_init_50 (by decide) ?_
  refine va_newa (atype := .int) (a0 := (1600, .inl (fun _ => nI 0))) (N' := 1600) (ty := .int) hx hb (hts _ ka_int) rfl hK hP hD hS hA (fun _ => rfl) (by decide) (by decide) (by decide) (Nat.le_of_ble_eq_true rfl) (Nat.le_of_ble_eq_true rfl) d_H_init_53 (fun q6 c6 H hK hP hD hS => ?_)
  have hP : va_P D classes [(h0, .inr (1, [.ref q1, .ref q2, .ref q3, .ref q4, .ref q5, .null, .null, .int (nI 0), .int (nI 0), .int (nI 0), .int (nI 0), .int (nI 0), .int (nI 0), .int (nI 0), .int (nI 0), .int (nI 0)])), (q1, .inl (c1, 1600, .inl (fun _ => nI 0))), (q2, .inl (c2, 1600, .inl (fun _ => nI 0))), (q3, .inl (c3, 32000, .inl (fun _ => nI 0))), (q4, .inl (c4, 32000, .inl (fun _ => nI 0))), (q5, .inl (c5, 1600, .inl (fun _ => nI 0))), (q6, .inl (c6, 1600, .inl (fun _ => nI 0)))] H := hP
  have hD : va_D A [(h0, .inr (1, [.ref q1, .ref q2, .ref q3, .ref q4, .ref q5, .null, .null, .int (nI 0), .int (nI 0), .int (nI 0), .int (nI 0), .int (nI 0), .int (nI 0), .int (nI 0), .int (nI 0), .int (nI 0)])), (q1, .inl (c1, 1600, .inl (fun _ => nI 0))), (q2, .inl (c2, 1600, .inl (fun _ => nI 0))), (q3, .inl (c3, 32000, .inl (fun _ => nI 0))), (q4, .inl (c4, 32000, .inl (fun _ => nI 0))), (q5, .inl (c5, 1600, .inl (fun _ => nI 0))), (q6, .inl (c6, 1600, .inl (fun _ => nI 0)))] := hD
  have hK : va_K D classes [(c1, .byte), (c2, .byte), (c3, .byte), (c4, .int), (c5, .int), (c6, .int)] s := hK
  refine va_putF (ci := 1) (v := .ref q6) (ty := .array .int) hx hb hts in_H t_H t_H_ok n_H hown hK hP hD hS 0 rfl rfl 5 (by decide) (hts _ kf_H_26) (fun _ h9 => h9) rfl hin rfl (by decide +kernel) rfl rfl (Nat.le_of_ble_eq_true rfl) d_H_init_55 (fun H locs hP hD hS => ?_)
  have hP : va_P D classes [(h0, .inr (1, [.ref q1, .ref q2, .ref q3, .ref q4, .ref q5, .ref q6, .null, .int (nI 0), .int (nI 0), .int (nI 0), .int (nI 0), .int (nI 0), .int (nI 0), .int (nI 0), .int (nI 0), .int (nI 0)])), (q1, .inl (c1, 1600, .inl (fun _ => nI 0))), (q2, .inl (c2, 1600, .inl (fun _ => nI 0))), (q3, .inl (c3, 32000, .inl (fun _ => nI 0))), (q4, .inl (c4, 32000, .inl (fun _ => nI 0))), (q5, .inl (c5, 1600, .inl (fun _ => nI 0))), (q6, .inl (c6, 1600, .inl (fun _ => nI 0)))] H := hP
  have hD : va_D A [(h0, .inr (1, [.ref q1, .ref q2, .ref q3, .ref q4, .ref q5, .ref q6, .null, .int (nI 0), .int (nI 0), .int (nI 0), .int (nI 0), .int (nI 0), .int (nI 0), .int (nI 0), .int (nI 0), .int (nI 0)])), (q1, .inl (c1, 1600, .inl (fun _ => nI 0))), (q2, .inl (c2, 1600, .inl (fun _ => nI 0))), (q3, .inl (c3, 32000, .inl (fun _ => nI 0))), (q4, .inl (c4, 32000, .inl (fun _ => nI 0))), (q5, .inl (c5, 1600, .inl (fun _ => nI 0))), (q6, .inl (c6, 1600, .inl (fun _ => nI 0)))] := hD
  have hK : va_K D classes [(c1, .byte), (c2, .byte), (c3, .byte), (c4, .int), (c5, .int), (c6, .int)] s := hK
  refine lv_aload_n hx hb d_H_init_58 rfl (lv_at hl 0 rfl) ?_
  refine lv_iconst (v := nI 1) hx hb d_H_init_59 (by decide) ?_
  refine va_put (ci := 1) (v := .int (nI 1)) (ty := .int) hx hb hts in_H t_H t_H_ok n_H hown hK hP hD hS 0 rfl rfl 12 (by decide) (hts _ kf_H_29) (fun _ h9 => h9) rfl (by decide +kernel) rfl rfl (Nat.le_of_ble_eq_true rfl) d_H_init_60 (fun H locs hP hD hS => ?_)
  have hP : va_P D classes [(h0, .inr (1, [.ref q1, .ref q2, .ref q3, .ref q4, .ref q5, .ref q6, .null, .int (nI 0), .int (nI 0), .int (nI 0), .int (nI 0), .int (nI 0), .int (nI 1), .int (nI 0), .int (nI 0), .int (nI 0)])), (q1, .inl (c1, 1600, .inl (fun _ => nI 0))), (q2, .inl (c2, 1600, .inl (fun _ => nI 0))), (q3, .inl (c3, 32000, .inl (fun _ => nI 0))), (q4, .inl (c4, 32000, .inl (fun _ => nI 0))), (q5, .inl (c5, 1600, .inl (fun _ => nI 0))), (q6, .inl (c6, 1600, .inl (fun _ => nI 0)))] H := hP
  have hD : va_D A [(h0, .inr (1, [.ref q1, .ref q2, .ref q3, .ref q4, .ref q5, .ref q6, .null, .int (nI 0), .int (nI 0), .int (nI 0), .int (nI 0), .int (nI 0), .int (nI 1), .int (nI 0), .int (nI 0), .int (nI 0)])), (q1, .inl (c1, 1600, .inl (fun _ => nI 0))), (q2, .inl (c2, 1600, .inl (fun _ => nI 0))), (q3, .inl (c3, 32000, .inl (fun _ => nI 0))), (q4, .inl (c4, 32000, .inl (fun _ => nI 0))), (q5, .inl (c5, 1600, .inl (fun _ => nI 0))), (q6, .inl (c6, 1600, .inl (fun _ => nI 0)))] := hD
  have hK : va_K D classes [(c1, .byte), (c2, .byte), (c3, .byte), (c4, .int), (c5, .int), (c6, .int)] s := hK
  refine lv_aload_n hx hb d_H_init_63 rfl (lv_at hl 0 rfl) ?_
  refine lv_aload_n hx hb d_H_init_64 rfl (lv_at hl 1 rfl) ?_
  refine va_putF (ci := 1) (v := .ref r0) (ty := .object "SliceHeap$Roots") hx hb hts in_H t_H t_H_ok n_H hown hK hP hD hS 0 rfl rfl 6 (by decide) (hts _ kf_H_33) (fun _ h9 => h9) rfl hin rfl (by decide +kernel) rfl rfl (Nat.le_of_ble_eq_true rfl) d_H_init_65 (fun H locs hP hD hS => ?_)
  have hP : va_P D classes [(h0, .inr (1, [.ref q1, .ref q2, .ref q3, .ref q4, .ref q5, .ref q6, .ref r0, .int (nI 0), .int (nI 0), .int (nI 0), .int (nI 0), .int (nI 0), .int (nI 1), .int (nI 0), .int (nI 0), .int (nI 0)])), (q1, .inl (c1, 1600, .inl (fun _ => nI 0))), (q2, .inl (c2, 1600, .inl (fun _ => nI 0))), (q3, .inl (c3, 32000, .inl (fun _ => nI 0))), (q4, .inl (c4, 32000, .inl (fun _ => nI 0))), (q5, .inl (c5, 1600, .inl (fun _ => nI 0))), (q6, .inl (c6, 1600, .inl (fun _ => nI 0)))] H := hP
  have hD : va_D A [(h0, .inr (1, [.ref q1, .ref q2, .ref q3, .ref q4, .ref q5, .ref q6, .ref r0, .int (nI 0), .int (nI 0), .int (nI 0), .int (nI 0), .int (nI 0), .int (nI 1), .int (nI 0), .int (nI 0), .int (nI 0)])), (q1, .inl (c1, 1600, .inl (fun _ => nI 0))), (q2, .inl (c2, 1600, .inl (fun _ => nI 0))), (q3, .inl (c3, 32000, .inl (fun _ => nI 0))), (q4, .inl (c4, 32000, .inl (fun _ => nI 0))), (q5, .inl (c5, 1600, .inl (fun _ => nI 0))), (q6, .inl (c6, 1600, .inl (fun _ => nI 0)))] := hD
  have hK : va_K D classes [(c1, .byte), (c2, .byte), (c3, .byte), (c4, .int), (c5, .int), (c6, .int)] s := hK
  refine lv_aload_n hx hb d_H_init_68 rfl (lv_at hl 0 rfl) ?_
  refine lv_iload_n hx hb d_H_init_69 rfl (lv_at hl 2 rfl) ?_
  refine va_putF (ci := 1) (v := .int (nI mo)) (ty := .int) hx hb hts in_H t_H t_H_ok n_H hown hK hP hD hS 0 rfl rfl 7 (by decide) (hts _ kf_H_37) (fun _ h9 => h9) rfl hin rfl (by decide +kernel) rfl rfl (Nat.le_of_ble_eq_true rfl) d_H_init_70 (fun H locs hP hD hS => ?_)
  have hP : va_P D classes [(h0, .inr (1, [.ref q1, .ref q2, .ref q3, .ref q4, .ref q5, .ref q6, .ref r0, .int (nI mo), .int (nI 0), .int (nI 0), .int (nI 0), .int (nI 0), .int (nI 1), .int (nI 0), .int (nI 0), .int (nI 0)])), (q1, .inl (c1, 1600, .inl (fun _ => nI 0))), (q2, .inl (c2, 1600, .inl (fun _ => nI 0))), (q3, .inl (c3, 32000, .inl (fun _ => nI 0))), (q4, .inl (c4, 32000, .inl (fun _ => nI 0))), (q5, .inl (c5, 1600, .inl (fun _ => nI 0))), (q6, .inl (c6, 1600, .inl (fun _ => nI 0)))] H := hP
  have hD : va_D A [(h0, .inr (1, [.ref q1, .ref q2, .ref q3, .ref q4, .ref q5, .ref q6, .ref r0, .int (nI mo), .int (nI 0), .int (nI 0), .int (nI 0), .int (nI 0), .int (nI 1), .int (nI 0), .int (nI 0), .int (nI 0)])), (q1, .inl (c1, 1600, .inl (fun _ => nI 0))), (q2, .inl (c2, 1600, .inl (fun _ => nI 0))), (q3, .inl (c3, 32000, .inl (fun _ => nI 0))), (q4, .inl (c4, 32000, .inl (fun _ => nI 0))), (q5, .inl (c5, 1600, .inl (fun _ => nI 0))), (q6, .inl (c6, 1600, .inl (fun _ => nI 0)))] := hD
  have hK : va_K D classes [(c1, .byte), (c2, .byte), (c3, .byte), (c4, .int), (c5, .int), (c6, .int)] s := hK
  have loop : ∀ (n k : Nat), n + k = 1600 → ∀ (H : Heap) (locs : List Loc) (ls : Array Slot), va_P D classes [(h0, .inr (1, [.ref q1, .ref q2, .ref q3, .ref q4, .ref q5, .ref q6, .ref r0, .int (nI mo), .int (nI 0), .int (nI 0), .int (nI 0), .int (nI 0), .int (nI 1), .int (nI 0), .int (nI 0), .int (nI 0)])), (q1, .inl (c1, 1600, .inl (fun _ => nI 0))), (q2, .inl (c2, 1600, .inl (fun _ => nI 0))), (q3, .inl (c3, 32000, .inl (fun _ => nI 0))), (q4, .inl (c4, 32000, .inl (fun _ => nI 0))), (q5, .inl (c5, 1600, .inl (fun i => nI (frN k i)))), (q6, .inl (c6, 1600, .inl (fun _ => nI 0)))] H → va_D A [(h0, .inr (1, [.ref q1, .ref q2, .ref q3, .ref q4, .ref q5, .ref q6, .ref r0, .int (nI mo), .int (nI 0), .int (nI 0), .int (nI 0), .int (nI 0), .int (nI 1), .int (nI 0), .int (nI 0), .int (nI 0)])), (q1, .inl (c1, 1600, .inl (fun _ => nI 0))), (q2, .inl (c2, 1600, .inl (fun _ => nI 0))), (q3, .inl (c3, 32000, .inl (fun _ => nI 0))), (q4, .inl (c4, 32000, .inl (fun _ => nI 0))), (q5, .inl (c5, 1600, .inl (fun i => nI (frN k i)))), (q6, .inl (c6, 1600, .inl (fun _ => nI 0)))] → va_S A s.heap H locs → lv_has ls 4 [(0, .ref h0), (3, .int (nI k))] → W p l e rm_H_init s m [Value.ref h0, .ref r0, .int (nI mo)].toArray below meth c H locs (0 + 1 + 1 + 1 + 1 + 1 + 1) (0 + 1600 + 1600 + 32000 + 32000 + 1600 + 1600) (MQ below (va_Qv (fun _ : ClassId × ClassId × (Nat → Nat) => True) (fun u t => va_P D classes [(h0, .inr (1, [(.ref (u.2.2 5)), (.ref (u.2.2 6)), (.ref (u.2.2 7)), (.ref (u.2.2 8)), (.ref (u.2.2 9)), (.ref (u.2.2 10)), .ref r0, .int (nI mo), .int (nI 1600), .int (nI 0), .int (nI 0), .int (nI 0), .int (nI 1), .int (nI 0), .int (nI 0), .int (nI 0)])), (u.2.2 5, .inl (u.1, 1600, .inl (fun _ => nI 0))), (u.2.2 6, .inl (u.1, 1600, .inl (fun _ => nI 0))), (u.2.2 7, .inl (u.1, 32000, .inl (fun _ => nI 0))), (u.2.2 8, .inl (u.2.1, 32000, .inl (fun _ => nI 0))), (u.2.2 9, .inl (u.2.1, 1600, .inl (fun i => nI (frN 1600 i)))), (u.2.2 10, .inl (u.2.1, 1600, .inl (fun _ => nI 0)))] t.heap ∧ va_K D classes [(u.1, .byte), (u.2.1, .int)] t ∧ va_D A [(h0, .inr (1, [(.ref (u.2.2 5)), (.ref (u.2.2 6)), (.ref (u.2.2 7)), (.ref (u.2.2 8)), (.ref (u.2.2 9)), (.ref (u.2.2 10)), .ref r0, .int (nI mo), .int (nI 1600), .int (nI 0), .int (nI 0), .int (nI 0), .int (nI 1), .int (nI 0), .int (nI 0), .int (nI 0)])), (u.2.2 5, .inl (u.1, 1600, .inl (fun _ => nI 0))), (u.2.2 6, .inl (u.1, 1600, .inl (fun _ => nI 0))), (u.2.2 7, .inl (u.1, 32000, .inl (fun _ => nI 0))), (u.2.2 8, .inl (u.2.1, 32000, .inl (fun _ => nI 0))), (u.2.2 9, .inl (u.2.1, 1600, .inl (fun i => nI (frN 1600 i)))), (u.2.2 10, .inl (u.2.1, 1600, .inl (fun _ => nI 0)))]) A) [Value.ref h0, .ref r0, .int (nI mo)].toArray s 6 70400 A) (F0 m 75 ls []) := by
    intro n
    induction n with
    | zero =>
      intro k hk H locs ls hP hD hS hl
      have hk : k = 1600 := by omega
      subst hk
      refine lv_iload_n hx hb d_H_init_75 rfl (lv_at hl 1 rfl) ?_
      refine lv_sipush (v := nI 1600) hx hb d_H_init_76 (by decide) ?_
      refine r_ge (tgt := 99) hx hb d_H_init_79 (by decide) (by omega) (by omega) (fun _ => ?_) (fun q => absurd q (by omega))
      refine lv_aload_n hx hb d_H_init_99 rfl (lv_at hl 0 rfl) ?_
      refine lv_sipush (v := nI 1600) hx hb d_H_init_100 (by decide) ?_
      refine va_put (ci := 1) (v := .int (nI 1600)) (ty := .int) hx hb hts in_H t_H t_H_ok n_H hown hK hP hD hS 0 rfl rfl 8 (by decide) (hts _ kf_H_40) (fun _ h9 => h9) rfl (by decide +kernel) rfl rfl (Nat.le_of_ble_eq_true rfl) d_H_init_103 (fun H locs hP hD hS => ?_)
      have e2 := arr_one hK (i := 0) (j := 1) (ty := .byte) (fun _ h => h) rfl rfl
      have e3 := arr_one hK (i := 0) (j := 2) (ty := .byte) (fun _ h => h) rfl rfl
      have e5 := arr_one hK (i := 3) (j := 4) (ty := .int) (fun _ h => h) rfl rfl
      have e6 := arr_one hK (i := 3) (j := 5) (ty := .int) (fun _ h => h) rfl rfl
      subst e2 e3 e5 e6
      have hK2 := hK.sub (tys' := [(c1, .byte), (c4, .int)]) [0, 3] rfl
      refine W.widen (k := 6) (n := 70400) (Nat.le_of_ble_eq_true rfl) (Nat.le_of_ble_eq_true rfl) ?_
      exact W.vret hx hb hr (fun t ht hW => ⟨⟨(c1, c4, ad6 q1 q2 q3 q4 q5 q6), rfl, trivial, by rw [ht]; exact hP, va_K.moved hW.alike hK2, hD⟩, hS.F ht⟩) hS.2.2 d_H_init_106 hlocks
    | succ n ih =>
      intro k hk H locs ls hP hD hS hl
      refine lv_iload_n hx hb d_H_init_75 rfl (lv_at hl 1 rfl) ?_
      refine lv_sipush (v := nI 1600) hx hb d_H_init_76 (by decide) ?_
      refine r_ge (tgt := 99) hx hb d_H_init_79 (by decide) (by omega) (by omega) (fun q => absurd q (by omega)) (fun _ => ?_)
      refine lv_aload_n hx hb d_H_init_82 rfl (lv_at hl 0 rfl) ?_
      refine r_get hx hb hts hown hK hP 0 rfl rfl in_H 4 (by decide) kf_H_23 rfl d_H_init_83 ?_
      refine lv_iload_n hx hb d_H_init_86 rfl (lv_at hl 1 rfl) ?_
      refine lv_sipush (v := nI 1599) hx hb d_H_init_87 (by decide) ?_
      refine lv_iload_n hx hb d_H_init_90 rfl (lv_at hl 1 rfl) ?_
      refine r_sub hx hb (by omega) d_H_init_91 ?_
      refine r_iast (ws' := [(h0, .inr (1, [.ref q1, .ref q2, .ref q3, .ref q4, .ref q5, .ref q6, .ref r0, .int (nI mo), .int (nI 0), .int (nI 0), .int (nI 0), .int (nI 0), .int (nI 1), .int (nI 0), .int (nI 0), .int (nI 0)])), (q1, .inl (c1, 1600, .inl (fun _ => nI 0))), (q2, .inl (c2, 1600, .inl (fun _ => nI 0))), (q3, .inl (c3, 32000, .inl (fun _ => nI 0))), (q4, .inl (c4, 32000, .inl (fun _ => nI 0))), (q5, .inl (c5, 1600, .inl (fun i => nI (va_up (frN k) k (1599 - k) i)))), (q6, .inl (c6, 1600, .inl (fun _ => nI 0)))]) hx hb hK hP hD hS 5 4 rfl rfl (by decide) (by omega) rfl d_H_init_92 (fun H locs hP hS => ?_)
      rw [frN_s] at hP
      refine r_inc hx hb d_H_init_93 hl 1 rfl (by decide) rfl (fun ls hl => ?_)
      refine lv_goto (tgt := 75) hx hb d_H_init_96 (by decide) ?_
      exact ih (k + 1) (by omega) _ _ _ hP (hD.same rfl) hS (lv_sub hl [1, 0] rfl)
  refine lv_iconst (v := nI 0) hx hb d_H_init_73 (by decide) ?_
  refine lv_istore_n hx hb d_H_init_74 rfl hl (by decide) rfl (fun ls hl => ?_)
  exact loop 1600 0 (by omega) _ _ _ hP hD hS (lv_sub hl [1, 0] rfl)
end
section
set_option maxHeartbeats 4000000 in
set_option maxRecDepth 100000 in
theorem c_X_init (l : Launch) (D : va_G) (h0 sz : Nat) (cl : Int32) : Met l y_X_init w_X_init rm_X_init (va_Pc [.ref h0, .int cl] (fun U => U.heap.size = sz ∧ va_P D classes [(h0, .inr (2, [.null, .null, .int (nI 0), .int (nI 0)]))] U.heap ∧ va_K D classes [] U ∧ va_D (fun _ => True) [(h0, .inr (2, [.null, .null, .int (nI 0), .int (nI 0)]))] ∧ va_Nw (.methodLinkNest "SliceHeap" 9 y_R_init "SliceHeap") U)) (va_Qv (fun u : ClassId × ClassId × (Nat → Nat) => u.2.2 0 = h0) (fun u t => va_P D classes (wX (D, (u.1, u.2.1, u.1), u.2.2) (x0 (mst cl))) t.heap ∧ va_K D classes [(u.1, .byte), (u.2.1, .int)] t ∧ va_D (va_A [(h0, .inr (2, [.null, .null, .int (nI 0), .int (nI 0)]))] sz) (wX (D, (u.1, u.2.1, u.1), u.2.2) (x0 (mst cl)))) (va_A [(h0, .inr (2, [.null, .null, .int (nI 0), .int (nI 0)]))] sz)) 10 70539 (va_A [(h0, .inr (2, [.null, .null, .int (nI 0), .int (nI 0)]))] sz) := by
  refine Met.ofW (cc := b_X_init) (maxL := 2) (ret := none) (by decide) rfl ?_
  intro p e s m args below meth c s₁ B hml hv
  obtain ⟨rfl, hsz, hP, hK, hD0, hN⟩ := hv
  have hx := B.exec
  have hb := B.bytes
  have hr := B.returns
  have hts : ∀ w ∈ TBL, w.before [.ref h0, .int cl].toArray s = true := fun w hw => atoms_spec (ws := w_X_init) B.pre w (List.mem_cons_of_mem _ hw)
  have hown : s.vm.findClass "SliceHeap" = some m.cls := findClass_of_methodNamed B.named
  have hlocks := B.notSynchronized
  have hin : meth.name = "<init>" := (name_of_methodNamed B.named B.method).1
  subst hsz
  have hD := hD0.self (sz := s.heap.size)
  generalize hAe : va_A [(h0, .inr (2, [.null, .null, .int (nI 0), .int (nI 0)]))] s.heap.size = A at hD ⊢
  have hA : ∀ q : Nat, s.heap.size ≤ q → A q := fun q h => by rw [← hAe]; exact Or.inr h
  have hS : va_S A s.heap s.heap [] := va_S.rf
  have hl := lv_entry ([.ref h0, .int cl]) (n := 2) (Nat.le_of_ble_eq_true rfl)
  rw [lg_entry_eq]
  generalize (lg_sl ([.ref h0, .int cl]) ++ List.replicate (2 - (lg_sl ([.ref h0, .int cl])).length) Slot.unset).toArray = ls at hl ⊢
  have hl : lv_has ls 2 (lv_args 0 [.ref h0, .int cl]) := hl
  refine lv_aload_n hx hb d_X_init_0 rfl (lv_at hl 0 rfl) ?_
  refine W.objInit hx hb hown (hts _ km_X_1) (hts _ ki_O_init) (hts _ kc_O_init) rfl (by rw [hml]; exact hl.1) rfl d_X_init_1 (Nat.le_of_ble_eq_true rfl) (Nat.le_of_ble_eq_true rfl) ?_
  refine W.eq (g2 := F0 m 4 ls []) rfl ?_
  refine lv_aload_n hx hb d_X_init_4 rfl (lv_at hl 0 rfl) ?_
  refine va_new (ci := 0) (fs := [.null, .null, .int (nI 0)]) (C := "SliceHeap$Roots") (T := F_R) (N := 3) hx hb hts in_R t_R t_R_ok hown (hts _ kl_X_7) (hts _ kn_R) (hts _ k0_R) hK hP hD hS hA rfl (fun j hj => by
    match j, hj with
    | 0, _ => rfl
    | 1, _ => rfl
    | 2, _ => rfl
    | j + 3, hj => exact absurd hj (by omega)) (Nat.le_of_ble_eq_true rfl) (Nat.le_of_ble_eq_true rfl) d_X_init_5 (fun q1 H hP hD hS => ?_)
  have hP : va_P D classes [(h0, .inr (2, [.null, .null, .int (nI 0), .int (nI 0)])), (q1, .inr (0, [.null, .null, .int (nI 0)]))] H := hP
  have hD : va_D A [(h0, .inr (2, [.null, .null, .int (nI 0), .int (nI 0)])), (q1, .inr (0, [.null, .null, .int (nI 0)]))] := hD
  have hK : va_K D classes [] s := hK
  refine lv_dup hx hb d_X_init_8 rfl ?_
  have hPc := hP.sub (ws' := [(q1, .inr (0, [.null, .null, .int (nI 0)]))]) [1] rfl
  have hDc := hD.sub (ws' := [(q1, .inr (0, [.null, .null, .int (nI 0)]))]) [1] (by decide) rfl
  have hKc := hK.sub (tys' := []) [] rfl
  have hFc := va_free (wc := [(q1, .inr (0, [.null, .null, .int (nI 0)]))]) hD hS hA [1] rfl
  refine va_callv (va_runIN (As := []) (rest := [.ref q1, .ref h0]) ⟨hx, hb, hml, hown, hts⟩ (c_R_init l D q1 H.size) ⟨va_cnB 0 hts (tb_good kc_R_init) rfl rfl rfl hN (hts _ k0_R) hd_R_init ⟨by decide, by decide⟩, rfl, hts _ ki_R_init⟩ ⟨fun a U g mk q => by obtain ⟨q0, q1, qP, qK, qD⟩ := q; exact ⟨q0, q1, qP, va_K.moved (u := U) (U := U.calling g mk a) (Vm.Alike.refl U.vm) qK, qD⟩, fun U hU hW => ⟨rfl, by rw [hU], by rw [hU]; exact hPc, va_K.moved hW.alike hKc, hDc.weaken (fun _ _ _ _ => trivial)⟩⟩ rfl rfl hl.1 rfl (lv_room (Nat.le_of_ble_eq_true rfl)) d_X_init_9 ⟨(Nat.le_of_ble_eq_true rfl), (Nat.le_of_ble_eq_true rfl)⟩) hS (fun q _ h => hFc q h) hFc (fun u t H1 locs ht hvm hw hB hz1 hk1 hS => ?_)
  obtain ⟨a2, a3, cB, cI⟩ := u
  obtain ⟨hP1, hK1, hD1⟩ := hB
  rw [ht] at hP1
  have hK1 := va_K.moved hvm.symm hK1
  obtain ⟨hP, hD⟩ := va_join (wr := [(h0, .inr (2, [.null, .null, .int (nI 0), .int (nI 0)]))]) (w1 := [(q1, .inr (0, [.ref a2, .ref a3, .int (nI 0)])), (a2, .inl (cB, 60, .inl (fun _ => nI 0))), (a3, .inl (cI, 60, .inl (fun _ => nI 0)))]) hP hD [1] [0] rfl rfl (by decide) (by decide) hk1 hFc hP1 hD1
  have hK := (hK.sub (tys' := []) [] rfl).app hK1
  generalize H1 = H at hP hS ⊢
  have hP : va_P D classes [(h0, .inr (2, [.null, .null, .int (nI 0), .int (nI 0)])), (q1, .inr (0, [.ref a2, .ref a3, .int (nI 0)])), (a2, .inl (cB, 60, .inl (fun _ => nI 0))), (a3, .inl (cI, 60, .inl (fun _ => nI 0)))] H := hP
  have hD : va_D A [(h0, .inr (2, [.null, .null, .int (nI 0), .int (nI 0)])), (q1, .inr (0, [.ref a2, .ref a3, .int (nI 0)])), (a2, .inl (cB, 60, .inl (fun _ => nI 0))), (a3, .inl (cI, 60, .inl (fun _ => nI 0)))] := hD
  have hK : va_K D classes [(cB, .byte), (cI, .int)] s := hK
  refine va_putF (ci := 2) (v := .ref q1) (ty := .object "SliceHeap$Roots") hx hb hts in_X t_X t_X_ok n_X hown hK hP hD hS 0 rfl rfl 0 (by decide) (hts _ kf_X_10) (fun _ h9 => h9) rfl hin rfl (by decide +kernel) rfl rfl (Nat.le_of_ble_eq_true rfl) d_X_init_12 (fun H locs hP hD hS => ?_)
  have hP : va_P D classes [(h0, .inr (2, [.ref q1, .null, .int (nI 0), .int (nI 0)])), (q1, .inr (0, [.ref a2, .ref a3, .int (nI 0)])), (a2, .inl (cB, 60, .inl (fun _ => nI 0))), (a3, .inl (cI, 60, .inl (fun _ => nI 0)))] H := hP
  have hD : va_D A [(h0, .inr (2, [.ref q1, .null, .int (nI 0), .int (nI 0)])), (q1, .inr (0, [.ref a2, .ref a3, .int (nI 0)])), (a2, .inl (cB, 60, .inl (fun _ => nI 0))), (a3, .inl (cI, 60, .inl (fun _ => nI 0)))] := hD
  have hK : va_K D classes [(cB, .byte), (cI, .int)] s := hK
  refine lv_aload_n hx hb d_X_init_15 rfl (lv_at hl 0 rfl) ?_
  refine va_new (ci := 1) (fs := [.null, .null, .null, .null, .null, .null, .null, .int (nI 0), .int (nI 0), .int (nI 0), .int (nI 0), .int (nI 0), .int (nI 0), .int (nI 0), .int (nI 0), .int (nI 0)]) (C := "SliceHeap$Heap") (T := F_H) (N := 16) hx hb hts in_H t_H t_H_ok hown (hts _ kl_X_16) (hts _ kn_H) (hts _ k0_H) hK hP hD hS hA rfl (fun j hj => by
    match j, hj with
    | 0, _ => rfl
    | 1, _ => rfl
    | 2, _ => rfl
    | 3, _ => rfl
    | 4, _ => rfl
    | 5, _ => rfl
    | 6, _ => rfl
    | 7, _ => rfl
    | 8, _ => rfl
    | 9, _ => rfl
    | 10, _ => rfl
    | 11, _ => rfl
    | 12, _ => rfl
    | 13, _ => rfl
    | 14, _ => rfl
    | 15, _ => rfl
    | j + 16, hj => exact absurd hj (by omega)) (Nat.le_of_ble_eq_true rfl) (Nat.le_of_ble_eq_true rfl) d_X_init_16 (fun q2 H hP hD hS => ?_)
  have hP : va_P D classes [(h0, .inr (2, [.ref q1, .null, .int (nI 0), .int (nI 0)])), (q1, .inr (0, [.ref a2, .ref a3, .int (nI 0)])), (a2, .inl (cB, 60, .inl (fun _ => nI 0))), (a3, .inl (cI, 60, .inl (fun _ => nI 0))), (q2, .inr (1, [.null, .null, .null, .null, .null, .null, .null, .int (nI 0), .int (nI 0), .int (nI 0), .int (nI 0), .int (nI 0), .int (nI 0), .int (nI 0), .int (nI 0), .int (nI 0)]))] H := hP
  have hD : va_D A [(h0, .inr (2, [.ref q1, .null, .int (nI 0), .int (nI 0)])), (q1, .inr (0, [.ref a2, .ref a3, .int (nI 0)])), (a2, .inl (cB, 60, .inl (fun _ => nI 0))), (a3, .inl (cI, 60, .inl (fun _ => nI 0))), (q2, .inr (1, [.null, .null, .null, .null, .null, .null, .null, .int (nI 0), .int (nI 0), .int (nI 0), .int (nI 0), .int (nI 0), .int (nI 0), .int (nI 0), .int (nI 0), .int (nI 0)]))] := hD
  have hK : va_K D classes [(cB, .byte), (cI, .int)] s := hK
  refine lv_dup hx hb d_X_init_19 rfl ?_
  refine lv_aload_n hx hb d_X_init_20 rfl (lv_at hl 0 rfl) ?_
  refine r_get hx hb hts hown hK hP 0 rfl rfl in_X 0 (by decide) kf_X_10 rfl d_X_init_21 ?_
  have fin : W p l e rm_X_init s m [Value.ref h0, .int cl].toArray below meth c H locs (0 + 1 + 2 + 1) (0 + 3 + 120 + 16) (MQ below (va_Qv (fun u : ClassId × ClassId × (Nat → Nat) => u.2.2 0 = h0) (fun u t => va_P D classes (wX (D, (u.1, u.2.1, u.1), u.2.2) (x0 (mst cl))) t.heap ∧ va_K D classes [(u.1, .byte), (u.2.1, .int)] t ∧ va_D A (wX (D, (u.1, u.2.1, u.1), u.2.2) (x0 (mst cl)))) A) [Value.ref h0, .int cl].toArray s 10 70539 A) (F0 m 44 ls [.int (nI (mst cl)), .ref q1, .ref q2, .ref q2, .ref h0]) := by
    have hPc := hP.sub (ws' := [(q2, .inr (1, [.null, .null, .null, .null, .null, .null, .null, .int (nI 0), .int (nI 0), .int (nI 0), .int (nI 0), .int (nI 0), .int (nI 0), .int (nI 0), .int (nI 0), .int (nI 0)]))]) [4] rfl
    have hDc := hD.sub (ws' := [(q2, .inr (1, [.null, .null, .null, .null, .null, .null, .null, .int (nI 0), .int (nI 0), .int (nI 0), .int (nI 0), .int (nI 0), .int (nI 0), .int (nI 0), .int (nI 0), .int (nI 0)]))]) [4] (by decide) rfl
    have hKc := hK.sub (tys' := []) [] rfl
    have hFc := va_free (wc := [(q2, .inr (1, [.null, .null, .null, .null, .null, .null, .null, .int (nI 0), .int (nI 0), .int (nI 0), .int (nI 0), .int (nI 0), .int (nI 0), .int (nI 0), .int (nI 0), .int (nI 0)]))]) hD hS hA [4] rfl
    refine va_callv (va_runI (As := [.ref q1, .int (nI (mst cl))]) (rest := [.ref q2, .ref h0]) ⟨hx, hb, hml, hown, hts⟩ (c_H_init l D q2 q1 H.size (mst cl)) ⟨r_callB (R := rm_X_init) (nL := 2) (cc := b_X_init) ⟨hx, hb, hml, hown, hts⟩ 6 70400 kc_H_init k0_H km_X_18 hd_H_init ⟨rfl, rfl⟩ ⟨by decide, by decide⟩, rfl, hts _ ki_H_init⟩ ⟨fun a U g mk q => by obtain ⟨q0, q1, qP, qK, qD⟩ := q; exact ⟨q0, q1, qP, va_K.moved (u := U) (U := U.calling g mk a) (Vm.Alike.refl U.vm) qK, qD⟩, fun U hU hW => ⟨rfl, by rw [hU], by rw [hU]; exact hPc, va_K.moved hW.alike hKc, hDc.weaken (fun _ _ _ _ => trivial)⟩⟩ rfl rfl hl.1 rfl (lv_room (Nat.le_of_ble_eq_true rfl)) d_X_init_44 ⟨(Nat.le_of_ble_eq_true rfl), (Nat.le_of_ble_eq_true rfl)⟩) hS (fun q _ h => hFc q h) hFc (fun u t H1 locs ht hvm hw hB hz1 hk1 hS => ?_)
    obtain ⟨cB2, cI2, ah⟩ := u
    obtain ⟨hP1, hK1, hD1⟩ := hB
    rw [ht] at hP1
    have hK1 := va_K.moved hvm.symm hK1
    obtain ⟨hP, hD⟩ := va_join (wr := [(h0, .inr (2, [.ref q1, .null, .int (nI 0), .int (nI 0)])), (q1, .inr (0, [.ref a2, .ref a3, .int (nI 0)])), (a2, .inl (cB, 60, .inl (fun _ => nI 0))), (a3, .inl (cI, 60, .inl (fun _ => nI 0)))]) (w1 := [(q2, .inr (1, [(.ref (ah 5)), (.ref (ah 6)), (.ref (ah 7)), (.ref (ah 8)), (.ref (ah 9)), (.ref (ah 10)), .ref q1, .int (nI (mst cl)), .int (nI 1600), .int (nI 0), .int (nI 0), .int (nI 0), .int (nI 1), .int (nI 0), .int (nI 0), .int (nI 0)])), (ah 5, .inl (cB2, 1600, .inl (fun _ => nI 0))), (ah 6, .inl (cB2, 1600, .inl (fun _ => nI 0))), (ah 7, .inl (cB2, 32000, .inl (fun _ => nI 0))), (ah 8, .inl (cI2, 32000, .inl (fun _ => nI 0))), (ah 9, .inl (cI2, 1600, .inl (fun i => nI (frN 1600 i)))), (ah 10, .inl (cI2, 1600, .inl (fun _ => nI 0)))]) hP hD [4] [0, 1, 2, 3] rfl rfl (by decide) (by decide) hk1 hFc hP1 hD1
    have hK := hK.app hK1
    generalize H1 = H at hP hS ⊢
    have hP : va_P D classes [(h0, .inr (2, [.ref q1, .null, .int (nI 0), .int (nI 0)])), (q1, .inr (0, [.ref a2, .ref a3, .int (nI 0)])), (a2, .inl (cB, 60, .inl (fun _ => nI 0))), (a3, .inl (cI, 60, .inl (fun _ => nI 0))), (q2, .inr (1, [(.ref (ah 5)), (.ref (ah 6)), (.ref (ah 7)), (.ref (ah 8)), (.ref (ah 9)), (.ref (ah 10)), .ref q1, .int (nI (mst cl)), .int (nI 1600), .int (nI 0), .int (nI 0), .int (nI 0), .int (nI 1), .int (nI 0), .int (nI 0), .int (nI 0)])), (ah 5, .inl (cB2, 1600, .inl (fun _ => nI 0))), (ah 6, .inl (cB2, 1600, .inl (fun _ => nI 0))), (ah 7, .inl (cB2, 32000, .inl (fun _ => nI 0))), (ah 8, .inl (cI2, 32000, .inl (fun _ => nI 0))), (ah 9, .inl (cI2, 1600, .inl (fun i => nI (frN 1600 i)))), (ah 10, .inl (cI2, 1600, .inl (fun _ => nI 0)))] H := hP
    have hD : va_D A [(h0, .inr (2, [.ref q1, .null, .int (nI 0), .int (nI 0)])), (q1, .inr (0, [.ref a2, .ref a3, .int (nI 0)])), (a2, .inl (cB, 60, .inl (fun _ => nI 0))), (a3, .inl (cI, 60, .inl (fun _ => nI 0))), (q2, .inr (1, [(.ref (ah 5)), (.ref (ah 6)), (.ref (ah 7)), (.ref (ah 8)), (.ref (ah 9)), (.ref (ah 10)), .ref q1, .int (nI (mst cl)), .int (nI 1600), .int (nI 0), .int (nI 0), .int (nI 0), .int (nI 1), .int (nI 0), .int (nI 0), .int (nI 0)])), (ah 5, .inl (cB2, 1600, .inl (fun _ => nI 0))), (ah 6, .inl (cB2, 1600, .inl (fun _ => nI 0))), (ah 7, .inl (cB2, 32000, .inl (fun _ => nI 0))), (ah 8, .inl (cI2, 32000, .inl (fun _ => nI 0))), (ah 9, .inl (cI2, 1600, .inl (fun i => nI (frN 1600 i)))), (ah 10, .inl (cI2, 1600, .inl (fun _ => nI 0)))] := hD
    have hK : va_K D classes [(cB, .byte), (cI, .int), (cB2, .byte), (cI2, .int)] s := hK
    refine va_putF (ci := 2) (v := .ref q2) (ty := .object "SliceHeap$Heap") hx hb hts in_X t_X t_X_ok n_X hown hK hP hD hS 0 rfl rfl 1 (by decide) (hts _ kf_X_21) (fun _ h9 => h9) rfl hin rfl (by decide +kernel) rfl rfl (Nat.le_of_ble_eq_true rfl) d_X_init_47 (fun H locs hP hD hS => ?_)
    have hP : va_P D classes [(h0, .inr (2, [.ref q1, .ref q2, .int (nI 0), .int (nI 0)])), (q1, .inr (0, [.ref a2, .ref a3, .int (nI 0)])), (a2, .inl (cB, 60, .inl (fun _ => nI 0))), (a3, .inl (cI, 60, .inl (fun _ => nI 0))), (q2, .inr (1, [(.ref (ah 5)), (.ref (ah 6)), (.ref (ah 7)), (.ref (ah 8)), (.ref (ah 9)), (.ref (ah 10)), .ref q1, .int (nI (mst cl)), .int (nI 1600), .int (nI 0), .int (nI 0), .int (nI 0), .int (nI 1), .int (nI 0), .int (nI 0), .int (nI 0)])), (ah 5, .inl (cB2, 1600, .inl (fun _ => nI 0))), (ah 6, .inl (cB2, 1600, .inl (fun _ => nI 0))), (ah 7, .inl (cB2, 32000, .inl (fun _ => nI 0))), (ah 8, .inl (cI2, 32000, .inl (fun _ => nI 0))), (ah 9, .inl (cI2, 1600, .inl (fun i => nI (frN 1600 i)))), (ah 10, .inl (cI2, 1600, .inl (fun _ => nI 0)))] H := hP
    have hD : va_D A [(h0, .inr (2, [.ref q1, .ref q2, .int (nI 0), .int (nI 0)])), (q1, .inr (0, [.ref a2, .ref a3, .int (nI 0)])), (a2, .inl (cB, 60, .inl (fun _ => nI 0))), (a3, .inl (cI, 60, .inl (fun _ => nI 0))), (q2, .inr (1, [(.ref (ah 5)), (.ref (ah 6)), (.ref (ah 7)), (.ref (ah 8)), (.ref (ah 9)), (.ref (ah 10)), .ref q1, .int (nI (mst cl)), .int (nI 1600), .int (nI 0), .int (nI 0), .int (nI 0), .int (nI 1), .int (nI 0), .int (nI 0), .int (nI 0)])), (ah 5, .inl (cB2, 1600, .inl (fun _ => nI 0))), (ah 6, .inl (cB2, 1600, .inl (fun _ => nI 0))), (ah 7, .inl (cB2, 32000, .inl (fun _ => nI 0))), (ah 8, .inl (cI2, 32000, .inl (fun _ => nI 0))), (ah 9, .inl (cI2, 1600, .inl (fun i => nI (frN 1600 i)))), (ah 10, .inl (cI2, 1600, .inl (fun _ => nI 0)))] := hD
    have hK : va_K D classes [(cB, .byte), (cI, .int), (cB2, .byte), (cI2, .int)] s := hK
    have e1 := arr_one hK (i := 0) (j := 2) (ty := .byte) (fun _ h => h) rfl rfl
    have e2 := arr_one hK (i := 1) (j := 3) (ty := .int) (fun _ h => h) rfl rfl
    subst e1 e2
    have hK2 := hK.sub (tys' := [(cB, .byte), (cI, .int)]) [0, 1] rfl
    have hP : va_P D classes (wX (D, (cB, cI, cB), adX h0 q1 a2 a3 q2 ah) (x0 (mst cl))) H := hP
    have hD : va_D A (wX (D, (cB, cI, cB), adX h0 q1 a2 a3 q2 ah) (x0 (mst cl))) := hD
    refine W.widen (k := 10) (n := 70539) (Nat.le_of_ble_eq_true rfl) (Nat.le_of_ble_eq_true rfl) ?_
    exact W.vret hx hb hr (fun t ht hW => ⟨⟨(cB, cI, adX h0 q1 a2 a3 q2 ah), rfl, rfl, by rw [ht]; exact hP, va_K.moved hW.alike hK2, hD⟩, hS.F ht⟩) hS.2.2 d_X_init_50 hlocks
  refine lv_iload_n hx hb d_X_init_24 rfl (lv_at hl 1 rfl) ?_
  refine lv_bipush (v := nI 20) hx hb d_X_init_25 (by decide) ?_
  refine lv_icmp_lt (tgt := 41) hx hb d_X_init_27 (by decide) (fun h1 => ?_) (fun h1 => ?_)
  · refine lv_sipush (v := nI 300) hx hb d_X_init_41 (by decide) ?_
    refine r_top (mst_n (Or.inl h1)) ?_
    exact fin
  · refine lv_iload_n hx hb d_X_init_30 rfl (lv_at hl 1 rfl) ?_
    refine lv_sipush (v := nI 3000) hx hb d_X_init_31 (by decide) ?_
    refine lv_icmp_gt (tgt := 41) hx hb d_X_init_34 (by decide) (fun h2 => ?_) (fun h2 => ?_)
    · refine lv_sipush (v := nI 300) hx hb d_X_init_41 (by decide) ?_
      refine r_top (mst_n (Or.inr h2)) ?_
      exact fin
    · refine lv_iload_n hx hb d_X_init_37 rfl (lv_at hl 1 rfl) ?_
      refine lv_goto (tgt := 44) hx hb d_X_init_38 (by decide) ?_
      refine r_top (mst_y h1 h2) ?_
      exact fin
end
section
-- ===== end of PART A; then your names; then what follows =====
/-! THE CLAIM OUT OF ONE WALK OF THE LAW'S BODY. Your part is whole_start (and what it stands on); all else here is the same for every law, but numbers. -/
def R_law : String := "SliceHeapLaw"
def lw_P (b : Addr) (xs : List Int32) (args : Array Value) (s : State) : Prop := args = #[.ref b] ∧ s.IntsAt b xs ∧ xs.length ≤ 2049 ∧ (Jvm.Cond.and given_1 narrow_1).before args s = true
def lw_Q (_ : Array Value) (s : State) (o : Outcome) (t : State) : Prop := o = .returned (some (.int 1)) ∧ Framed s o t [] 16 92511
def lw_Z (below : List Frame) (a : Array Value) (s : State) : State → Prop := fun t => ∃ o, t.status = .running ∧ Ended t below o ∧ lw_Q a s o t
/-- the law's own end, with 1 on the stack, nothing written that was there before, its room as the claim has it -/
theorem lw_ret {p : Program} {l : Launch} {e : Env} {s : State} {m : MethodId} {below : List Frame} {meth : Method} {c : Code} {b : Nat} (hx : p.tables.exec = Jvm.exec) (hb : c.code = code) (hr : meth.sig.returnType = ret) (hlocks : meth.locks = false) {pc : Nat} {H : Heap} {ls : Array Slot} (hdg : decode code pc = .ok (.ireturn, 1)) : W p l e room_1 s m #[Value.ref b] below meth c H [] 16 92511 (lw_Z below #[Value.ref b] s) (F0 m pc ls [.int 1]) := by
  intro T hT X
  obtain ⟨fs, hret, hrun, hended, hW, hframe⟩ := X.leave (v := some (.int 1)) (hlocks := hlocks) (fun h => by rw [hr] at h; cases h)
  have hmeth' : T.vm.method? m = some meth := X.method'
  refine ⟨T.setFrames fs, ?_, .returned (some (.int 1)), hrun, hended, rfl, ⟨_, rfl⟩, hW, hframe⟩
  jvm_step X.here [X.here.top, hx, hb, hdg, hmeth', hr, ret, narrow_b1]
  (try refine ⟨rfl, ?_⟩); (try refine ⟨rfl, ?_⟩)
  first | (intro acts; rw [hret _ acts rfl rfl rfl]) | rw [hret _ _ rfl rfl rfl]
  exact Steps.refl _
/-- what holds at the law's entry: the machine, the code, the tables' words (any of lw_tbl by 'hts w (by decide +kernel)'), the script of L ints xs at the cell b, what the Statement gives of the start (any of its parts by flat_of_before) -/
def lw_At (p : Program) (s : State) (m : MethodId) (meth : Method) (c : Code) (b L : Nat) (xs : Nat → Int32) : Prop :=
  p.tables.exec = Jvm.exec ∧ c.code = code ∧ meth.sig.returnType = ret ∧ c.maxLocals = 4 ∧ s.vm.findClass R_law = some m.cls ∧ (∀ w ∈ lw_tbl, w.before #[Value.ref b] s = true) ∧ va_X b L xs s s.heap ∧ b < s.heap.size ∧ meth.locks = false ∧ (Jvm.Cond.and given_1 narrow_1).before #[Value.ref b] s = true
/-! the law: the start agrees; worlds side by side; cell -/
def m0 (mo : Nat) : MS := MS.mk mo (fun _ => 0) (fun _ => nI 0) 0 0 (fun _ => 0) (fun _ => 0) (nI 0)
theorem sim_0 {mo : Nat} (h : mo ≤ 3000) : SIM (fun _ => 0) (x0 mo) (m0 mo) := by
  have nl : ∀ s, ¬ Lv (x0 mo).col (x0 mo).wh s := fun s hs => hs.2.1 rfl
  refine ⟨⟨⟨fun _ => Nat.zero_le _, fun _ => Nat.zero_le _, fun _ => Nat.zero_le _, fun _ => Nat.zero_le _, Nat.zero_le _, h, Or.inl rfl⟩, ⟨fun i hi => absurd hi (Nat.not_lt_zero i), fun i j hi => absurd hi (Nat.not_lt_zero i), fun s _ e => absurd (show (0 : Nat) = 3 from e) (by decide)⟩, ⟨fun i hi => ?_, fun i j hi hj e => ?_, fun s hs _ => ?_⟩, ?_, ?_, fun s hs => absurd hs (nl s), fun k hk ht => absurd (show (0 : Nat) = 2 from ht) (by decide), Or.inl ⟨rfl, fun s _ => Or.inl rfl⟩⟩, ⟨fun _ => Nat.zero_le _, fun _ => Nat.zero_le _, Nat.zero_le _, h, fun _ => Nat.zero_le _, Nat.zero_le _, fun k hk ht => absurd (show (0 : Nat) = 2 from ht) (by decide), fun a ha => absurd ha (Nat.not_lt_zero a)⟩, rfl, rfl, rfl, rfl, fun s hs => absurd hs (nl s), fun s t hs => absurd hs (nl s), fun k hk => GV.plain (show (0 : Nat) ≠ 2 by decide), fun s hs => absurd hs (nl s)⟩
  · have hi : i < 1600 := hi
    show frN 1600 i < 1600 ∧ _
    unfold frN
    rw [if_pos hi]
    exact ⟨by omega, rfl⟩
  · have hi : i < 1600 := hi
    have hj : j < 1600 := hj
    have e : frN 1600 i = frN 1600 j := e
    unfold frN at e
    rw [if_pos hi, if_pos hj] at e
    omega
  · refine ⟨1599 - s, show 1599 - s < 1600 by omega, ?_⟩
    show frN 1600 (1599 - s) = s
    unfold frN
    rw [if_pos (by omega)]
    omega
  · exact (sum_none (fun i _ => rfl)).symm
  · exact (sum_none (fun i _ => rfl)).symm
theorem keepM {E : KX} (hA : ApX E) {x : MS} {H H1 : Heap} (hP : va_P E.D classes (wM E x) H) (hk : ∀ q : Nat, q < H.size → ¬ AX E q → H1[q]? = H[q]?) : va_P E.D classes (wM E x) H1 := hP.kept (fun k q hq => by
  obtain ⟨h1, h2⟩ := wM_at hq
  refine hk q.1 (hP k q hq).lt (fun ha => ?_)
  obtain ⟨j, hj, e⟩ := ha
  have := hA (11 + k) j (by omega) (by omega) (by rw [← h2, e])
  omega)
theorem keepX {E : KX} (hA : ApX E) {x : XS} {H H1 : Heap} (hP : va_P E.D classes (wX E x) H) (hk : ∀ q : Nat, q < H.size → ¬ AM E q → H1[q]? = H[q]?) : va_P E.D classes (wX E x) H1 := hP.kept (fun k q hq => by
  obtain ⟨h1, h2⟩ := wX_at hq
  refine hk q.1 (hP k q hq).lt (fun ha => ?_)
  obtain ⟨j, hj1, hj2, e⟩ := ha
  have := hA k j (by omega) (by omega) (by rw [← h2, e])
  omega)
theorem nw_in : ∀ q ∈ nw_L, Cond.fieldLinkNest "SliceHeap" q.1 q.2.1 q.2.2.1 q.2.2.2 "SliceHeap" ∈ lw_tbl := by decide +kernel
theorem nm_in : Cond.methodLinkNest "SliceHeap" 9 y_R_init "SliceHeap" ∈ lw_tbl := by decide +kernel
theorem nw_of {args : Array Value} {s : State} (hts : ∀ w ∈ lw_tbl, w.before args s = true) : NW s := fun q hq => va_Nw.of rfl (hts _ (nw_in q hq))
theorem law_gt {i L : Nat} (hi : i < 2 ^ 30) (hL : L < 2 ^ 30) : nI L - nI 4 < nI i ↔ L < i + 4 := by
  rw [Int32.lt_iff_toInt_lt, pk_sub_toInt hL (by decide), nI_toInt (by omega)]
  omega
set_option maxHeartbeats 4000000 in
set_option maxRecDepth 100000 in
theorem c_L_cell (l : Launch) (b L : Nat) (xs : Nat → Int32) (hL : L ≤ 2049) : Met l y_L_cell w_L_cell rm_L_cell (va_Pc [.ref b, .int (nI 0)] (fun U => va_X b L xs U U.heap)) (QcRead (if 0 < L then xs 0 else nI 0)) 0 0 (fun _ => False) := by
  refine Met.ofW (cc := b_L_cell) (maxL := 2) (ret := some .int) (by decide) rfl ?_
  intro p e s m args below meth c s₁ B hml hv
  obtain ⟨rfl, hX⟩ := hv
  have hx := B.exec
  have hb := B.bytes
  have hr := B.returns
  have hlocks := B.notSynchronized
  have hbl : b < s.heap.size := by
    obtain ⟨scr, h1, -⟩ := hX
    exact (Array.getElem?_eq_some_iff.mp h1).1
  have hS : va_S (fun _ : Nat => False) s.heap s.heap [] := va_S.rf
  have hl := lv_entry ([.ref b, .int (nI 0)]) (n := 2) (Nat.le_of_ble_eq_true rfl)
  rw [lg_entry_eq]
  generalize (lg_sl ([.ref b, .int (nI 0)]) ++ List.replicate (2 - (lg_sl ([.ref b, .int (nI 0)])).length) Slot.unset).toArray = ls at hl ⊢
  have hl : lv_has ls 2 [(0, .ref b), (1, .int (nI 0))] := hl
  refine lv_iload_n hx hb d_L_cell_0 rfl (lv_at hl 1 rfl) ?_
  refine lv_aload_n hx hb d_L_cell_1 rfl (lv_at hl 0 rfl) ?_
  refine va_slen hx hb hX hbl (fun h => h) hS d_L_cell_2 ?_
  refine r_top (show Int32.ofNat L = nI L from rfl) ?_
  refine r_ge (tgt := 12) hx hb d_L_cell_3 (by decide) (by omega) (by omega) (fun h0 => ?_) (fun h0 => ?_)
  · refine lv_iconst (v := nI 0) hx hb d_L_cell_12 (by decide) ?_
    rw [if_neg (by omega)]
    exact W.iret hx hb hr (fun t ht _ => ⟨rfl, ht⟩) (fun _ h => by cases h) d_L_cell_13 hlocks
  · refine lv_aload_n hx hb d_L_cell_6 rfl (lv_at hl 0 rfl) ?_
    refine lv_iload_n hx hb d_L_cell_7 rfl (lv_at hl 1 rfl) ?_
    refine va_sld hx hb hX hbl (fun h => h) hS (vp_in_nI h0 (by omega)) d_L_cell_8 ?_
    refine r_top (congrArg xs (nI_clamp (by decide))) ?_
    refine lv_goto (tgt := 13) hx hb d_L_cell_9 (by decide) ?_
    rw [if_pos h0]
    exact W.iret hx hb hr (fun t ht _ => ⟨rfl, ht⟩) (fun _ h => by cases h) d_L_cell_13 hlocks
end
section
set_option maxHeartbeats 4000000 in
set_option maxRecDepth 100000 in
/-- THE LAW'S LOOP: at its head the component and the model agree -/
theorem law_loop {p : Program} {l : Launch} {e : Env} {s : State} {m : MethodId} {below : List Frame} {meth : Method} {c : Code} {b L : Nat} {xs : Nat → Int32} (hL : L ≤ 2049) (C0 : lw_At p s m meth c b L xs) (E : KX) (hAp : ApX E) (hge : ∀ k, k < 16 → s.heap.size ≤ E.ad k) (hK : va_K E.D classes (tyl E) s) :
    ∀ (n i : Nat), L < i + 4 * (n + 1) → i ≤ 2050 → ∀ (g : Nat → Nat) (x : XS) (y : MS), SIM g x y → 4 * y.mm + 1 ≤ i → ∀ (H : Heap) (locs : List Loc) (ls : Array Slot), va_P E.D classes (wX E x) H → va_P E.D classes (wM E y) H → va_S (fun q : Nat => s.heap.size ≤ q) s.heap H locs → lv_has ls 4 [(0, .ref b), (1, .ref (E.ad 0)), (2, .ref (E.ad 11)), (3, .int (nI i))] → W p l e room_1 s m #[Value.ref b] below meth c H locs 16 92511 (lw_Z below #[Value.ref b] s) (F0 m 28 ls []) := by
  obtain ⟨hx, hb, hr, hml, hown, htl, hX, hbl, hlocks, hgv⟩ := C0
  have hts : ∀ w ∈ TBL, w.before #[Value.ref b] s = true := fun w h => htl w (tb_sub w h)
  have hN := nw_of htl
  have S : CallFix p m c code 4 s #[Value.ref b] TBL R_law := ⟨hx, hb, hml, hown, hts⟩
  have hbA : ¬ (fun q : Nat => s.heap.size ≤ q) b := Nat.not_le.mpr hbl
  have hzX : zX E s := ⟨hAp, hN⟩
  have hAX : ∀ q, AX E q → (fun q : Nat => s.heap.size ≤ q) q := fun q h => by
    obtain ⟨k, hk, e⟩ := h
    show s.heap.size ≤ q
    rw [e]
    exact hge k (by omega)
  have hAM : ∀ q, AM E q → (fun q : Nat => s.heap.size ≤ q) q := fun q h => by
    obtain ⟨k, hk, hk2, e⟩ := h
    show s.heap.size ≤ q
    rw [e]
    exact hge k hk2
  intro n
  induction n with
  | zero =>
    intro i hin hi2 g x y hI hmm H locs ls hPX hPM hS hl
    refine lv_iload_n hx hb d_L_law_28 rfl (lv_at hl 3 rfl) ?_
    refine lv_aload_n hx hb d_L_law_29 rfl (lv_at hl 0 rfl) ?_
    refine va_slen hx hb hX hbl hbA hS d_L_law_30 ?_
    refine r_top (show Int32.ofNat L = nI L from rfl) ?_
    refine lv_iconst (v := nI 4) hx hb d_L_law_31 (by decide) ?_
    refine lv_isub hx hb d_L_law_32 ?_
    refine lv_icmp_gt (tgt := 513) hx hb d_L_law_33 (by decide) (fun _ => ?_) (fun q => absurd ((law_gt (by omega) (by omega)).mpr (by omega)) q)
    refine lv_iconst (v := 1) hx hb d_L_law_513 (by decide) ?_
    refine va_forget (fun q hq => hS.2.2 q hq) ?_
    exact lw_ret hx hb hr hlocks d_L_law_514
  | succ n ih =>
    intro i hin hi2 g x y hI hmm H locs ls hPX hPM hS hl
    refine lv_iload_n hx hb d_L_law_28 rfl (lv_at hl 3 rfl) ?_
    refine lv_aload_n hx hb d_L_law_29 rfl (lv_at hl 0 rfl) ?_
    refine va_slen hx hb hX hbl hbA hS d_L_law_30 ?_
    refine r_top (show Int32.ofNat L = nI L from rfl) ?_
    refine lv_iconst (v := nI 4) hx hb d_L_law_31 (by decide) ?_
    refine lv_isub hx hb d_L_law_32 ?_
    refine lv_icmp_gt (tgt := 513) hx hb d_L_law_33 (by decide) (fun _ => ?_) (fun hle => ?_)
    · refine lv_iconst (v := 1) hx hb d_L_law_513 (by decide) ?_
      refine va_forget (fun q hq => hS.2.2 q hq) ?_
      exact lw_ret hx hb hr hlocks d_L_law_514
    have hle : i + 4 ≤ L := Nat.le_of_not_lt (fun q => hle ((law_gt (by omega) (by omega)).mpr q))
    have nxt : ∀ (g' : Nat → Nat) (x' : XS) (y' : MS), SIM g' x' y' → y'.mm ≤ y.mm + 1 → ∀ (H : Heap) (locs : List Loc), va_P E.D classes (wX E x') H → va_P E.D classes (wM E y') H → va_S (fun q : Nat => s.heap.size ≤ q) s.heap H locs → W p l e room_1 s m #[Value.ref b] below meth c H locs 16 92511 (lw_Z below #[Value.ref b] s) (F0 m 507 ls []) := by
      intro g' x' y' hI' hmm' H locs hPX hPM hS
      refine lv_iinc (v := nI (i + 4)) hx hb d_L_law_507 hl (k := 3) rfl (nI_add i 4) (by decide) rfl (fun ls hl => ?_)
      refine lv_goto (tgt := 28) hx hb d_L_law_510 (by decide) ?_
      exact ih (i + 4) (by omega) (by omega) g' x' y' hI' (by omega) _ _ _ hPX hPM hS (lv_sub hl [1, 2, 3, 0] rfl)
    refine lv_aload_n hx hb d_L_law_36 rfl (lv_at hl 0 rfl) ?_
    refine lv_iload_n hx hb d_L_law_37 rfl (lv_at hl 3 rfl) ?_
    refine va_sld hx hb hX hbl hbA hS (vp_in_nI (show i < L by omega) (by omega)) d_L_law_38 ?_
    refine lv_bipush (v := nI 15) hx hb d_L_law_39 (by decide) ?_
    refine lv_iand hx hb d_L_law_41 ?_
    obtain ⟨k, hk, hkv⟩ := pk_andE (xs (nI i).toNatClampNeg) (m := nI 15) 4 (by decide)
    refine r_top hkv ?_
    have hk : k < 16 := hk
    rcases (show k = 0 ∨ k = 1 ∨ k = 2 ∨ k = 3 ∨ k = 4 ∨ k = 5 ∨ k = 6 ∨ k = 7 ∨ k = 8 ∨ k = 9 ∨ k = 10 ∨ k = 11 ∨ k = 12 ∨ 13 ≤ k by omega) with rfl | rfl | rfl | rfl | rfl | rfl | rfl | rfl | rfl | rfl | rfl | rfl | rfl | hk13
    · refine lv_tableIn (tgt := 108) hx hb d_L_law_42 (by decide) (by decide) rfl (by decide) ?_
      refine lv_aload_n hx hb d_L_law_108 rfl (lv_at hl 1 rfl) ?_
      refine lv_aload_n hx hb d_L_law_109 rfl (lv_at hl 0 rfl) ?_
      refine lv_iload_n hx hb d_L_law_110 rfl (lv_at hl 3 rfl) ?_
      refine lv_iconst (v := nI 1) hx hb d_L_law_111 (by decide) ?_
      refine r_add hx hb d_L_law_112 ?_
      refine va_sld hx hb hX hbl hbA hS (vp_in_nI (show i + 1 < L by omega) (by omega)) d_L_law_113 ?_
      refine r_top (congrArg xs (nI_clamp (show i + 1 < 2 ^ 31 by omega))) ?_
      refine lv_aload_n hx hb d_L_law_114 rfl (lv_at hl 0 rfl) ?_
      refine lv_iload_n hx hb d_L_law_115 rfl (lv_at hl 3 rfl) ?_
      refine lv_iconst (v := nI 2) hx hb d_L_law_116 (by decide) ?_
      refine r_add hx hb d_L_law_117 ?_
      refine va_sld hx hb hX hbl hbA hS (vp_in_nI (show i + 2 < L by omega) (by omega)) d_L_law_118 ?_
      refine r_top (congrArg xs (nI_clamp (show i + 2 < 2 ^ 31 by omega))) ?_
      refine lv_aload_n hx hb d_L_law_119 rfl (lv_at hl 0 rfl) ?_
      refine lv_iload_n hx hb d_L_law_120 rfl (lv_at hl 3 rfl) ?_
      refine lv_iconst (v := nI 3) hx hb d_L_law_121 (by decide) ?_
      refine r_add hx hb d_L_law_122 ?_
      refine va_sld hx hb hX hbl hbA hS (vp_in_nI (show i + 3 < L by omega) (by omega)) d_L_law_123 ?_
      refine r_top (congrArg xs (nI_clamp (show i + 3 < 2 ^ 31 by omega))) ?_
      refine r_calli S (c_X_make l E x (xs (i + 1)) (xs (i + 2)) (xs (i + 3)) hI.1) kc_X_make k0_X km_L_21 ki_X_make ks_X_make hd_X_make ⟨rfl, rfl⟩ ⟨by decide, by decide⟩ (zX_ok E) hzX hK hPX hS hAX 0 rfl rfl rfl hl.1 rfl (Nat.le_of_ble_eq_true rfl) ⟨by decide, by decide⟩ d_L_law_124 (fun q1 x1 H locs hX1 hPX hz1 hk1 hS => ?_)
      have hPM := keepM hAp hPM hk1
      refine lv_aload_n hx hb d_L_law_127 rfl (lv_at hl 2 rfl) ?_
      refine lv_aload_n hx hb d_L_law_128 rfl (lv_at hl 0 rfl) ?_
      refine lv_iload_n hx hb d_L_law_129 rfl (lv_at hl 3 rfl) ?_
      refine lv_iconst (v := nI 1) hx hb d_L_law_130 (by decide) ?_
      refine r_add hx hb d_L_law_131 ?_
      refine va_sld hx hb hX hbl hbA hS (vp_in_nI (show i + 1 < L by omega) (by omega)) d_L_law_132 ?_
      refine r_top (congrArg xs (nI_clamp (show i + 1 < 2 ^ 31 by omega))) ?_
      refine lv_aload_n hx hb d_L_law_133 rfl (lv_at hl 0 rfl) ?_
      refine lv_iload_n hx hb d_L_law_134 rfl (lv_at hl 3 rfl) ?_
      refine lv_iconst (v := nI 2) hx hb d_L_law_135 (by decide) ?_
      refine r_add hx hb d_L_law_136 ?_
      refine va_sld hx hb hX hbl hbA hS (vp_in_nI (show i + 2 < L by omega) (by omega)) d_L_law_137 ?_
      refine r_top (congrArg xs (nI_clamp (show i + 2 < 2 ^ 31 by omega))) ?_
      refine lv_aload_n hx hb d_L_law_138 rfl (lv_at hl 0 rfl) ?_
      refine lv_iload_n hx hb d_L_law_139 rfl (lv_at hl 3 rfl) ?_
      refine lv_iconst (v := nI 3) hx hb d_L_law_140 (by decide) ?_
      refine r_add hx hb d_L_law_141 ?_
      refine va_sld hx hb hX hbl hbA hS (vp_in_nI (show i + 3 < L by omega) (by omega)) d_L_law_142 ?_
      refine r_top (congrArg xs (nI_clamp (show i + 3 < 2 ^ 31 by omega))) ?_
      refine r_calli S (c_M_make l E y (xs (i + 1)) (xs (i + 2)) (xs (i + 3)) (by omega) hI.2.1) kc_M_make k0_M km_L_25 ki_M_make ks_M_make hd_M_make ⟨rfl, rfl⟩ ⟨by decide, by decide⟩ (zM_ok E) hAp hK hPM hS hAM 0 rfl rfl rfl hl.1 rfl (Nat.le_of_ble_eq_true rfl) ⟨by decide, by decide⟩ d_L_law_143 (fun q2 y1 H locs hM1 hPM hz2 hk2 hS => ?_)
      have hPX := keepX hAp hPX hk2
      obtain ⟨hq, g', hI', hmm'⟩ := sim_make hI (by omega) hX1 hM1
      refine lv_icmp_eq (tgt := 507) hx hb d_L_law_146 (by decide) (fun _ => ?_) (fun q => absurd hq q)
      exact nxt g' x1 y1 hI' hmm' _ _ hPX hPM hS
    · refine lv_tableIn (tgt := 151) hx hb d_L_law_42 (by decide) (by decide) rfl (by decide) ?_
      refine lv_aload_n hx hb d_L_law_151 rfl (lv_at hl 1 rfl) ?_
      refine lv_aload_n hx hb d_L_law_152 rfl (lv_at hl 0 rfl) ?_
      refine lv_iload_n hx hb d_L_law_153 rfl (lv_at hl 3 rfl) ?_
      refine lv_iconst (v := nI 1) hx hb d_L_law_154 (by decide) ?_
      refine r_add hx hb d_L_law_155 ?_
      refine va_sld hx hb hX hbl hbA hS (vp_in_nI (show i + 1 < L by omega) (by omega)) d_L_law_156 ?_
      refine r_top (congrArg xs (nI_clamp (show i + 1 < 2 ^ 31 by omega))) ?_
      refine lv_aload_n hx hb d_L_law_157 rfl (lv_at hl 0 rfl) ?_
      refine lv_iload_n hx hb d_L_law_158 rfl (lv_at hl 3 rfl) ?_
      refine lv_iconst (v := nI 2) hx hb d_L_law_159 (by decide) ?_
      refine r_add hx hb d_L_law_160 ?_
      refine va_sld hx hb hX hbl hbA hS (vp_in_nI (show i + 2 < L by omega) (by omega)) d_L_law_161 ?_
      refine r_top (congrArg xs (nI_clamp (show i + 2 < 2 ^ 31 by omega))) ?_
      refine r_calli S (c_X_grow l E x (xs (i + 1)) (xs (i + 2)) hI.1) kc_X_grow k0_X km_L_26 ki_X_grow ks_X_grow hd_X_grow ⟨rfl, rfl⟩ ⟨by decide, by decide⟩ (zX_ok E) hzX hK hPX hS hAX 0 rfl rfl rfl hl.1 rfl (Nat.le_of_ble_eq_true rfl) ⟨by decide, by decide⟩ d_L_law_162 (fun q1 x1 H locs hX1 hPX hz1 hk1 hS => ?_)
      have hPM := keepM hAp hPM hk1
      refine lv_aload_n hx hb d_L_law_165 rfl (lv_at hl 2 rfl) ?_
      refine lv_aload_n hx hb d_L_law_166 rfl (lv_at hl 0 rfl) ?_
      refine lv_iload_n hx hb d_L_law_167 rfl (lv_at hl 3 rfl) ?_
      refine lv_iconst (v := nI 1) hx hb d_L_law_168 (by decide) ?_
      refine r_add hx hb d_L_law_169 ?_
      refine va_sld hx hb hX hbl hbA hS (vp_in_nI (show i + 1 < L by omega) (by omega)) d_L_law_170 ?_
      refine r_top (congrArg xs (nI_clamp (show i + 1 < 2 ^ 31 by omega))) ?_
      refine lv_aload_n hx hb d_L_law_171 rfl (lv_at hl 0 rfl) ?_
      refine lv_iload_n hx hb d_L_law_172 rfl (lv_at hl 3 rfl) ?_
      refine lv_iconst (v := nI 2) hx hb d_L_law_173 (by decide) ?_
      refine r_add hx hb d_L_law_174 ?_
      refine va_sld hx hb hX hbl hbA hS (vp_in_nI (show i + 2 < L by omega) (by omega)) d_L_law_175 ?_
      refine r_top (congrArg xs (nI_clamp (show i + 2 < 2 ^ 31 by omega))) ?_
      refine r_calli S (c_M_grow l E y (xs (i + 1)) (xs (i + 2)) hI.2.1) kc_M_grow k0_M km_L_30 ki_M_grow ks_M_grow hd_M_grow ⟨rfl, rfl⟩ ⟨by decide, by decide⟩ (zM_ok E) hAp hK hPM hS hAM 0 rfl rfl rfl hl.1 rfl (Nat.le_of_ble_eq_true rfl) ⟨by decide, by decide⟩ d_L_law_176 (fun q2 y1 H locs hM1 hPM hz2 hk2 hS => ?_)
      have hPX := keepX hAp hPX hk2
      obtain ⟨hq, g', hI', hmm'⟩ := sim_grow hI (by omega) hX1 hM1
      refine lv_icmp_eq (tgt := 507) hx hb d_L_law_179 (by decide) (fun _ => ?_) (fun q => absurd hq q)
      exact nxt g' x1 y1 hI' hmm' _ _ hPX hPM hS
    · refine lv_tableIn (tgt := 184) hx hb d_L_law_42 (by decide) (by decide) rfl (by decide) ?_
      refine lv_aload_n hx hb d_L_law_184 rfl (lv_at hl 1 rfl) ?_
      refine lv_aload_n hx hb d_L_law_185 rfl (lv_at hl 0 rfl) ?_
      refine lv_iload_n hx hb d_L_law_186 rfl (lv_at hl 3 rfl) ?_
      refine lv_iconst (v := nI 1) hx hb d_L_law_187 (by decide) ?_
      refine r_add hx hb d_L_law_188 ?_
      refine va_sld hx hb hX hbl hbA hS (vp_in_nI (show i + 1 < L by omega) (by omega)) d_L_law_189 ?_
      refine r_top (congrArg xs (nI_clamp (show i + 1 < 2 ^ 31 by omega))) ?_
      refine r_calli S (c_X_shrink l E x (xs (i + 1)) hI.1) kc_X_shrink k0_X km_L_31 ki_X_shrink ks_X_shrink hd_X_shrink ⟨rfl, rfl⟩ ⟨by decide, by decide⟩ (zX_ok E) hzX hK hPX hS hAX 0 rfl rfl rfl hl.1 rfl (Nat.le_of_ble_eq_true rfl) ⟨by decide, by decide⟩ d_L_law_190 (fun q1 x1 H locs hX1 hPX hz1 hk1 hS => ?_)
      have hPM := keepM hAp hPM hk1
      refine lv_aload_n hx hb d_L_law_193 rfl (lv_at hl 2 rfl) ?_
      refine lv_aload_n hx hb d_L_law_194 rfl (lv_at hl 0 rfl) ?_
      refine lv_iload_n hx hb d_L_law_195 rfl (lv_at hl 3 rfl) ?_
      refine lv_iconst (v := nI 1) hx hb d_L_law_196 (by decide) ?_
      refine r_add hx hb d_L_law_197 ?_
      refine va_sld hx hb hX hbl hbA hS (vp_in_nI (show i + 1 < L by omega) (by omega)) d_L_law_198 ?_
      refine r_top (congrArg xs (nI_clamp (show i + 1 < 2 ^ 31 by omega))) ?_
      refine r_calli S (c_M_shrink l E y (xs (i + 1)) hI.2.1) kc_M_shrink k0_M km_L_35 ki_M_shrink ks_M_shrink hd_M_shrink ⟨rfl, rfl⟩ ⟨by decide, by decide⟩ (zM_ok E) hAp hK hPM hS hAM 0 rfl rfl rfl hl.1 rfl (Nat.le_of_ble_eq_true rfl) ⟨by decide, by decide⟩ d_L_law_199 (fun q2 y1 H locs hM1 hPM hz2 hk2 hS => ?_)
      have hPX := keepX hAp hPX hk2
      obtain ⟨hq, g', hI', hmm'⟩ := sim_shrink hI (by omega) hX1 hM1
      refine lv_icmp_eq (tgt := 507) hx hb d_L_law_202 (by decide) (fun _ => ?_) (fun q => absurd hq q)
      exact nxt g' x1 y1 hI' hmm' _ _ hPX hPM hS
    · refine lv_tableIn (tgt := 207) hx hb d_L_law_42 (by decide) (by decide) rfl (by decide) ?_
      refine lv_aload_n hx hb d_L_law_207 rfl (lv_at hl 1 rfl) ?_
      refine lv_aload_n hx hb d_L_law_208 rfl (lv_at hl 0 rfl) ?_
      refine lv_iload_n hx hb d_L_law_209 rfl (lv_at hl 3 rfl) ?_
      refine lv_iconst (v := nI 1) hx hb d_L_law_210 (by decide) ?_
      refine r_add hx hb d_L_law_211 ?_
      refine va_sld hx hb hX hbl hbA hS (vp_in_nI (show i + 1 < L by omega) (by omega)) d_L_law_212 ?_
      refine r_top (congrArg xs (nI_clamp (show i + 1 < 2 ^ 31 by omega))) ?_
      refine lv_aload_n hx hb d_L_law_213 rfl (lv_at hl 0 rfl) ?_
      refine lv_iload_n hx hb d_L_law_214 rfl (lv_at hl 3 rfl) ?_
      refine lv_iconst (v := nI 2) hx hb d_L_law_215 (by decide) ?_
      refine r_add hx hb d_L_law_216 ?_
      refine va_sld hx hb hX hbl hbA hS (vp_in_nI (show i + 2 < L by omega) (by omega)) d_L_law_217 ?_
      refine r_top (congrArg xs (nI_clamp (show i + 2 < 2 ^ 31 by omega))) ?_
      refine r_calli S (c_X_number l E x (xs (i + 1)) (xs (i + 2)) hI.1) kc_X_number k0_X km_L_36 ki_X_number ks_X_number hd_X_number ⟨rfl, rfl⟩ ⟨by decide, by decide⟩ (zX_ok E) hzX hK hPX hS hAX 0 rfl rfl rfl hl.1 rfl (Nat.le_of_ble_eq_true rfl) ⟨by decide, by decide⟩ d_L_law_218 (fun q1 x1 H locs hX1 hPX hz1 hk1 hS => ?_)
      have hPM := keepM hAp hPM hk1
      refine lv_aload_n hx hb d_L_law_221 rfl (lv_at hl 2 rfl) ?_
      refine lv_aload_n hx hb d_L_law_222 rfl (lv_at hl 0 rfl) ?_
      refine lv_iload_n hx hb d_L_law_223 rfl (lv_at hl 3 rfl) ?_
      refine lv_iconst (v := nI 1) hx hb d_L_law_224 (by decide) ?_
      refine r_add hx hb d_L_law_225 ?_
      refine va_sld hx hb hX hbl hbA hS (vp_in_nI (show i + 1 < L by omega) (by omega)) d_L_law_226 ?_
      refine r_top (congrArg xs (nI_clamp (show i + 1 < 2 ^ 31 by omega))) ?_
      refine lv_aload_n hx hb d_L_law_227 rfl (lv_at hl 0 rfl) ?_
      refine lv_iload_n hx hb d_L_law_228 rfl (lv_at hl 3 rfl) ?_
      refine lv_iconst (v := nI 2) hx hb d_L_law_229 (by decide) ?_
      refine r_add hx hb d_L_law_230 ?_
      refine va_sld hx hb hX hbl hbA hS (vp_in_nI (show i + 2 < L by omega) (by omega)) d_L_law_231 ?_
      refine r_top (congrArg xs (nI_clamp (show i + 2 < 2 ^ 31 by omega))) ?_
      refine r_calli S (c_M_number l E y (xs (i + 1)) (xs (i + 2)) hI.2.1) kc_M_number k0_M km_L_40 ki_M_number ks_M_number hd_M_number ⟨rfl, rfl⟩ ⟨by decide, by decide⟩ (zM_ok E) hAp hK hPM hS hAM 0 rfl rfl rfl hl.1 rfl (Nat.le_of_ble_eq_true rfl) ⟨by decide, by decide⟩ d_L_law_232 (fun q2 y1 H locs hM1 hPM hz2 hk2 hS => ?_)
      have hPX := keepX hAp hPX hk2
      obtain ⟨hq, g', hI', hmm'⟩ := sim_number hI (by omega) hX1 hM1
      refine lv_icmp_eq (tgt := 507) hx hb d_L_law_235 (by decide) (fun _ => ?_) (fun q => absurd hq q)
      exact nxt g' x1 y1 hI' hmm' _ _ hPX hPM hS
    · refine lv_tableIn (tgt := 240) hx hb d_L_law_42 (by decide) (by decide) rfl (by decide) ?_
      refine lv_aload_n hx hb d_L_law_240 rfl (lv_at hl 1 rfl) ?_
      refine lv_aload_n hx hb d_L_law_241 rfl (lv_at hl 0 rfl) ?_
      refine lv_iload_n hx hb d_L_law_242 rfl (lv_at hl 3 rfl) ?_
      refine lv_iconst (v := nI 1) hx hb d_L_law_243 (by decide) ?_
      refine r_add hx hb d_L_law_244 ?_
      refine va_sld hx hb hX hbl hbA hS (vp_in_nI (show i + 1 < L by omega) (by omega)) d_L_law_245 ?_
      refine r_top (congrArg xs (nI_clamp (show i + 1 < 2 ^ 31 by omega))) ?_
      refine lv_aload_n hx hb d_L_law_246 rfl (lv_at hl 0 rfl) ?_
      refine lv_iload_n hx hb d_L_law_247 rfl (lv_at hl 3 rfl) ?_
      refine lv_iconst (v := nI 2) hx hb d_L_law_248 (by decide) ?_
      refine r_add hx hb d_L_law_249 ?_
      refine va_sld hx hb hX hbl hbA hS (vp_in_nI (show i + 2 < L by omega) (by omega)) d_L_law_250 ?_
      refine r_top (congrArg xs (nI_clamp (show i + 2 < 2 ^ 31 by omega))) ?_
      refine r_calli S (c_X_copy l E x (xs (i + 1)) (xs (i + 2)) hI.1) kc_X_copy k0_X km_L_41 ki_X_copy ks_X_copy hd_X_copy ⟨rfl, rfl⟩ ⟨by decide, by decide⟩ (zX_ok E) hzX hK hPX hS hAX 0 rfl rfl rfl hl.1 rfl (Nat.le_of_ble_eq_true rfl) ⟨by decide, by decide⟩ d_L_law_251 (fun q1 x1 H locs hX1 hPX hz1 hk1 hS => ?_)
      have hPM := keepM hAp hPM hk1
      refine lv_aload_n hx hb d_L_law_254 rfl (lv_at hl 2 rfl) ?_
      refine lv_aload_n hx hb d_L_law_255 rfl (lv_at hl 0 rfl) ?_
      refine lv_iload_n hx hb d_L_law_256 rfl (lv_at hl 3 rfl) ?_
      refine lv_iconst (v := nI 1) hx hb d_L_law_257 (by decide) ?_
      refine r_add hx hb d_L_law_258 ?_
      refine va_sld hx hb hX hbl hbA hS (vp_in_nI (show i + 1 < L by omega) (by omega)) d_L_law_259 ?_
      refine r_top (congrArg xs (nI_clamp (show i + 1 < 2 ^ 31 by omega))) ?_
      refine lv_aload_n hx hb d_L_law_260 rfl (lv_at hl 0 rfl) ?_
      refine lv_iload_n hx hb d_L_law_261 rfl (lv_at hl 3 rfl) ?_
      refine lv_iconst (v := nI 2) hx hb d_L_law_262 (by decide) ?_
      refine r_add hx hb d_L_law_263 ?_
      refine va_sld hx hb hX hbl hbA hS (vp_in_nI (show i + 2 < L by omega) (by omega)) d_L_law_264 ?_
      refine r_top (congrArg xs (nI_clamp (show i + 2 < 2 ^ 31 by omega))) ?_
      refine r_calli S (c_M_copy l E y (xs (i + 1)) (xs (i + 2)) hI.2.1) kc_M_copy k0_M km_L_44 ki_M_copy ks_M_copy hd_M_copy ⟨rfl, rfl⟩ ⟨by decide, by decide⟩ (zM_ok E) hAp hK hPM hS hAM 0 rfl rfl rfl hl.1 rfl (Nat.le_of_ble_eq_true rfl) ⟨by decide, by decide⟩ d_L_law_265 (fun q2 y1 H locs hM1 hPM hz2 hk2 hS => ?_)
      have hPX := keepX hAp hPX hk2
      obtain ⟨hq, g', hI', hmm'⟩ := sim_copy hI (by omega) hX1 hM1
      refine lv_icmp_eq (tgt := 507) hx hb d_L_law_268 (by decide) (fun _ => ?_) (fun q => absurd hq q)
      exact nxt g' x1 y1 hI' hmm' _ _ hPX hPM hS
    · refine lv_tableIn (tgt := 273) hx hb d_L_law_42 (by decide) (by decide) rfl (by decide) ?_
      refine lv_aload_n hx hb d_L_law_273 rfl (lv_at hl 1 rfl) ?_
      refine lv_aload_n hx hb d_L_law_274 rfl (lv_at hl 0 rfl) ?_
      refine lv_iload_n hx hb d_L_law_275 rfl (lv_at hl 3 rfl) ?_
      refine lv_iconst (v := nI 1) hx hb d_L_law_276 (by decide) ?_
      refine r_add hx hb d_L_law_277 ?_
      refine va_sld hx hb hX hbl hbA hS (vp_in_nI (show i + 1 < L by omega) (by omega)) d_L_law_278 ?_
      refine r_top (congrArg xs (nI_clamp (show i + 1 < 2 ^ 31 by omega))) ?_
      refine lv_aload_n hx hb d_L_law_279 rfl (lv_at hl 0 rfl) ?_
      refine lv_iload_n hx hb d_L_law_280 rfl (lv_at hl 3 rfl) ?_
      refine lv_iconst (v := nI 2) hx hb d_L_law_281 (by decide) ?_
      refine r_add hx hb d_L_law_282 ?_
      refine va_sld hx hb hX hbl hbA hS (vp_in_nI (show i + 2 < L by omega) (by omega)) d_L_law_283 ?_
      refine r_top (congrArg xs (nI_clamp (show i + 2 < 2 ^ 31 by omega))) ?_
      refine lv_aload_n hx hb d_L_law_284 rfl (lv_at hl 0 rfl) ?_
      refine lv_iload_n hx hb d_L_law_285 rfl (lv_at hl 3 rfl) ?_
      refine lv_iconst (v := nI 3) hx hb d_L_law_286 (by decide) ?_
      refine r_add hx hb d_L_law_287 ?_
      refine va_sld hx hb hX hbl hbA hS (vp_in_nI (show i + 3 < L by omega) (by omega)) d_L_law_288 ?_
      refine r_top (congrArg xs (nI_clamp (show i + 3 < 2 ^ 31 by omega))) ?_
      refine r_calli S (c_X_get l E x (xs (i + 1)) (xs (i + 2)) (xs (i + 3)) hI.1) kc_X_get k0_X km_L_45 ki_X_get ks_X_get hd_X_get ⟨rfl, rfl⟩ ⟨by decide, by decide⟩ (zX_ok E) hzX hK hPX hS hAX 0 rfl rfl rfl hl.1 rfl (Nat.le_of_ble_eq_true rfl) ⟨by decide, by decide⟩ d_L_law_289 (fun q1 x1 H locs hX1 hPX hz1 hk1 hS => ?_)
      have hPM := keepM hAp hPM hk1
      refine lv_aload_n hx hb d_L_law_292 rfl (lv_at hl 2 rfl) ?_
      refine lv_aload_n hx hb d_L_law_293 rfl (lv_at hl 0 rfl) ?_
      refine lv_iload_n hx hb d_L_law_294 rfl (lv_at hl 3 rfl) ?_
      refine lv_iconst (v := nI 1) hx hb d_L_law_295 (by decide) ?_
      refine r_add hx hb d_L_law_296 ?_
      refine va_sld hx hb hX hbl hbA hS (vp_in_nI (show i + 1 < L by omega) (by omega)) d_L_law_297 ?_
      refine r_top (congrArg xs (nI_clamp (show i + 1 < 2 ^ 31 by omega))) ?_
      refine lv_aload_n hx hb d_L_law_298 rfl (lv_at hl 0 rfl) ?_
      refine lv_iload_n hx hb d_L_law_299 rfl (lv_at hl 3 rfl) ?_
      refine lv_iconst (v := nI 2) hx hb d_L_law_300 (by decide) ?_
      refine r_add hx hb d_L_law_301 ?_
      refine va_sld hx hb hX hbl hbA hS (vp_in_nI (show i + 2 < L by omega) (by omega)) d_L_law_302 ?_
      refine r_top (congrArg xs (nI_clamp (show i + 2 < 2 ^ 31 by omega))) ?_
      refine lv_aload_n hx hb d_L_law_303 rfl (lv_at hl 0 rfl) ?_
      refine lv_iload_n hx hb d_L_law_304 rfl (lv_at hl 3 rfl) ?_
      refine lv_iconst (v := nI 3) hx hb d_L_law_305 (by decide) ?_
      refine r_add hx hb d_L_law_306 ?_
      refine va_sld hx hb hX hbl hbA hS (vp_in_nI (show i + 3 < L by omega) (by omega)) d_L_law_307 ?_
      refine r_top (congrArg xs (nI_clamp (show i + 3 < 2 ^ 31 by omega))) ?_
      refine r_calli S (c_M_get l E y (xs (i + 1)) (xs (i + 2)) (xs (i + 3)) hI.2.1) kc_M_get k0_M km_L_49 ki_M_get ks_M_get hd_M_get ⟨rfl, rfl⟩ ⟨by decide, by decide⟩ (zM_ok E) hAp hK hPM hS hAM 0 rfl rfl rfl hl.1 rfl (Nat.le_of_ble_eq_true rfl) ⟨by decide, by decide⟩ d_L_law_308 (fun q2 y1 H locs hM1 hPM hz2 hk2 hS => ?_)
      have hPX := keepX hAp hPX hk2
      obtain ⟨hq, g', hI', hmm'⟩ := sim_get hI (by omega) hX1 hM1
      refine lv_icmp_eq (tgt := 507) hx hb d_L_law_311 (by decide) (fun _ => ?_) (fun q => absurd hq q)
      exact nxt g' x1 y1 hI' hmm' _ _ hPX hPM hS
    · refine lv_tableIn (tgt := 316) hx hb d_L_law_42 (by decide) (by decide) rfl (by decide) ?_
      refine lv_aload_n hx hb d_L_law_316 rfl (lv_at hl 1 rfl) ?_
      refine lv_aload_n hx hb d_L_law_317 rfl (lv_at hl 0 rfl) ?_
      refine lv_iload_n hx hb d_L_law_318 rfl (lv_at hl 3 rfl) ?_
      refine lv_iconst (v := nI 1) hx hb d_L_law_319 (by decide) ?_
      refine r_add hx hb d_L_law_320 ?_
      refine va_sld hx hb hX hbl hbA hS (vp_in_nI (show i + 1 < L by omega) (by omega)) d_L_law_321 ?_
      refine r_top (congrArg xs (nI_clamp (show i + 1 < 2 ^ 31 by omega))) ?_
      refine lv_aload_n hx hb d_L_law_322 rfl (lv_at hl 0 rfl) ?_
      refine lv_iload_n hx hb d_L_law_323 rfl (lv_at hl 3 rfl) ?_
      refine lv_iconst (v := nI 2) hx hb d_L_law_324 (by decide) ?_
      refine r_add hx hb d_L_law_325 ?_
      refine va_sld hx hb hX hbl hbA hS (vp_in_nI (show i + 2 < L by omega) (by omega)) d_L_law_326 ?_
      refine r_top (congrArg xs (nI_clamp (show i + 2 < 2 ^ 31 by omega))) ?_
      refine lv_aload_n hx hb d_L_law_327 rfl (lv_at hl 0 rfl) ?_
      refine lv_iload_n hx hb d_L_law_328 rfl (lv_at hl 3 rfl) ?_
      refine lv_iconst (v := nI 3) hx hb d_L_law_329 (by decide) ?_
      refine r_add hx hb d_L_law_330 ?_
      refine va_sld hx hb hX hbl hbA hS (vp_in_nI (show i + 3 < L by omega) (by omega)) d_L_law_331 ?_
      refine r_top (congrArg xs (nI_clamp (show i + 3 < 2 ^ 31 by omega))) ?_
      refine r_calli S (c_X_set l E x (xs (i + 1)) (xs (i + 2)) (xs (i + 3)) hI.1) kc_X_set k0_X km_L_50 ki_X_set ks_X_set hd_X_set ⟨rfl, rfl⟩ ⟨by decide, by decide⟩ (zX_ok E) hzX hK hPX hS hAX 0 rfl rfl rfl hl.1 rfl (Nat.le_of_ble_eq_true rfl) ⟨by decide, by decide⟩ d_L_law_332 (fun q1 x1 H locs hX1 hPX hz1 hk1 hS => ?_)
      have hPM := keepM hAp hPM hk1
      refine lv_aload_n hx hb d_L_law_335 rfl (lv_at hl 2 rfl) ?_
      refine lv_aload_n hx hb d_L_law_336 rfl (lv_at hl 0 rfl) ?_
      refine lv_iload_n hx hb d_L_law_337 rfl (lv_at hl 3 rfl) ?_
      refine lv_iconst (v := nI 1) hx hb d_L_law_338 (by decide) ?_
      refine r_add hx hb d_L_law_339 ?_
      refine va_sld hx hb hX hbl hbA hS (vp_in_nI (show i + 1 < L by omega) (by omega)) d_L_law_340 ?_
      refine r_top (congrArg xs (nI_clamp (show i + 1 < 2 ^ 31 by omega))) ?_
      refine lv_aload_n hx hb d_L_law_341 rfl (lv_at hl 0 rfl) ?_
      refine lv_iload_n hx hb d_L_law_342 rfl (lv_at hl 3 rfl) ?_
      refine lv_iconst (v := nI 2) hx hb d_L_law_343 (by decide) ?_
      refine r_add hx hb d_L_law_344 ?_
      refine va_sld hx hb hX hbl hbA hS (vp_in_nI (show i + 2 < L by omega) (by omega)) d_L_law_345 ?_
      refine r_top (congrArg xs (nI_clamp (show i + 2 < 2 ^ 31 by omega))) ?_
      refine lv_aload_n hx hb d_L_law_346 rfl (lv_at hl 0 rfl) ?_
      refine lv_iload_n hx hb d_L_law_347 rfl (lv_at hl 3 rfl) ?_
      refine lv_iconst (v := nI 3) hx hb d_L_law_348 (by decide) ?_
      refine r_add hx hb d_L_law_349 ?_
      refine va_sld hx hb hX hbl hbA hS (vp_in_nI (show i + 3 < L by omega) (by omega)) d_L_law_350 ?_
      refine r_top (congrArg xs (nI_clamp (show i + 3 < 2 ^ 31 by omega))) ?_
      refine r_calli S (c_M_set l E y (xs (i + 1)) (xs (i + 2)) (xs (i + 3)) hI.2.1) kc_M_set k0_M km_L_53 ki_M_set ks_M_set hd_M_set ⟨rfl, rfl⟩ ⟨by decide, by decide⟩ (zM_ok E) hAp hK hPM hS hAM 0 rfl rfl rfl hl.1 rfl (Nat.le_of_ble_eq_true rfl) ⟨by decide, by decide⟩ d_L_law_351 (fun q2 y1 H locs hM1 hPM hz2 hk2 hS => ?_)
      have hPX := keepX hAp hPX hk2
      obtain ⟨hq, g', hI', hmm'⟩ := sim_set hI (by omega) hX1 hM1
      refine lv_icmp_eq (tgt := 507) hx hb d_L_law_354 (by decide) (fun _ => ?_) (fun q => absurd hq q)
      exact nxt g' x1 y1 hI' hmm' _ _ hPX hPM hS
    · refine lv_tableIn (tgt := 359) hx hb d_L_law_42 (by decide) (by decide) rfl (by decide) ?_
      refine lv_aload_n hx hb d_L_law_359 rfl (lv_at hl 1 rfl) ?_
      refine lv_aload_n hx hb d_L_law_360 rfl (lv_at hl 0 rfl) ?_
      refine lv_iload_n hx hb d_L_law_361 rfl (lv_at hl 3 rfl) ?_
      refine lv_iconst (v := nI 1) hx hb d_L_law_362 (by decide) ?_
      refine r_add hx hb d_L_law_363 ?_
      refine va_sld hx hb hX hbl hbA hS (vp_in_nI (show i + 1 < L by omega) (by omega)) d_L_law_364 ?_
      refine r_top (congrArg xs (nI_clamp (show i + 1 < 2 ^ 31 by omega))) ?_
      refine r_calli S (c_X_push l E x (xs (i + 1)) hI.1) kc_X_push k0_X km_L_54 ki_X_push ks_X_push hd_X_push ⟨rfl, rfl⟩ ⟨by decide, by decide⟩ (zX_ok E) hzX hK hPX hS hAX 0 rfl rfl rfl hl.1 rfl (Nat.le_of_ble_eq_true rfl) ⟨by decide, by decide⟩ d_L_law_365 (fun q1 x1 H locs hX1 hPX hz1 hk1 hS => ?_)
      have hPM := keepM hAp hPM hk1
      refine lv_aload_n hx hb d_L_law_368 rfl (lv_at hl 2 rfl) ?_
      refine lv_aload_n hx hb d_L_law_369 rfl (lv_at hl 0 rfl) ?_
      refine lv_iload_n hx hb d_L_law_370 rfl (lv_at hl 3 rfl) ?_
      refine lv_iconst (v := nI 1) hx hb d_L_law_371 (by decide) ?_
      refine r_add hx hb d_L_law_372 ?_
      refine va_sld hx hb hX hbl hbA hS (vp_in_nI (show i + 1 < L by omega) (by omega)) d_L_law_373 ?_
      refine r_top (congrArg xs (nI_clamp (show i + 1 < 2 ^ 31 by omega))) ?_
      refine r_calli S (c_M_push l E y (xs (i + 1)) hI.2.1) kc_M_push k0_M km_L_57 ki_M_push ks_M_push hd_M_push ⟨rfl, rfl⟩ ⟨by decide, by decide⟩ (zM_ok E) hAp hK hPM hS hAM 0 rfl rfl rfl hl.1 rfl (Nat.le_of_ble_eq_true rfl) ⟨by decide, by decide⟩ d_L_law_374 (fun q2 y1 H locs hM1 hPM hz2 hk2 hS => ?_)
      have hPX := keepX hAp hPX hk2
      obtain ⟨hq, g', hI', hmm'⟩ := sim_push hI (by omega) hX1 hM1
      refine lv_icmp_eq (tgt := 507) hx hb d_L_law_377 (by decide) (fun _ => ?_) (fun q => absurd hq q)
      exact nxt g' x1 y1 hI' hmm' _ _ hPX hPM hS
    · refine lv_tableIn (tgt := 382) hx hb d_L_law_42 (by decide) (by decide) rfl (by decide) ?_
      refine lv_aload_n hx hb d_L_law_382 rfl (lv_at hl 1 rfl) ?_
      refine lv_aload_n hx hb d_L_law_383 rfl (lv_at hl 0 rfl) ?_
      refine lv_iload_n hx hb d_L_law_384 rfl (lv_at hl 3 rfl) ?_
      refine lv_iconst (v := nI 1) hx hb d_L_law_385 (by decide) ?_
      refine r_add hx hb d_L_law_386 ?_
      refine va_sld hx hb hX hbl hbA hS (vp_in_nI (show i + 1 < L by omega) (by omega)) d_L_law_387 ?_
      refine r_top (congrArg xs (nI_clamp (show i + 1 < 2 ^ 31 by omega))) ?_
      refine r_calli S (c_X_pop l E x (xs (i + 1)) hI.1) kc_X_pop k0_X km_L_58 ki_X_pop ks_X_pop hd_X_pop ⟨rfl, rfl⟩ ⟨by decide, by decide⟩ (zX_ok E) hzX hK hPX hS hAX 0 rfl rfl rfl hl.1 rfl (Nat.le_of_ble_eq_true rfl) ⟨by decide, by decide⟩ d_L_law_388 (fun q1 x1 H locs hX1 hPX hz1 hk1 hS => ?_)
      have hPM := keepM hAp hPM hk1
      refine lv_aload_n hx hb d_L_law_391 rfl (lv_at hl 2 rfl) ?_
      refine lv_aload_n hx hb d_L_law_392 rfl (lv_at hl 0 rfl) ?_
      refine lv_iload_n hx hb d_L_law_393 rfl (lv_at hl 3 rfl) ?_
      refine lv_iconst (v := nI 1) hx hb d_L_law_394 (by decide) ?_
      refine r_add hx hb d_L_law_395 ?_
      refine va_sld hx hb hX hbl hbA hS (vp_in_nI (show i + 1 < L by omega) (by omega)) d_L_law_396 ?_
      refine r_top (congrArg xs (nI_clamp (show i + 1 < 2 ^ 31 by omega))) ?_
      refine r_calli S (c_M_pop l E y (xs (i + 1)) hI.2.1) kc_M_pop k0_M km_L_61 ki_M_pop ks_M_pop hd_M_pop ⟨rfl, rfl⟩ ⟨by decide, by decide⟩ (zM_ok E) hAp hK hPM hS hAM 0 rfl rfl rfl hl.1 rfl (Nat.le_of_ble_eq_true rfl) ⟨by decide, by decide⟩ d_L_law_397 (fun q2 y1 H locs hM1 hPM hz2 hk2 hS => ?_)
      have hPX := keepX hAp hPX hk2
      obtain ⟨hq, g', hI', hmm'⟩ := sim_pop hI (by omega) hX1 hM1
      refine lv_icmp_eq (tgt := 507) hx hb d_L_law_400 (by decide) (fun _ => ?_) (fun q => absurd hq q)
      exact nxt g' x1 y1 hI' hmm' _ _ hPX hPM hS
    · refine lv_tableIn (tgt := 405) hx hb d_L_law_42 (by decide) (by decide) rfl (by decide) ?_
      refine lv_aload_n hx hb d_L_law_405 rfl (lv_at hl 1 rfl) ?_
      refine lv_aload_n hx hb d_L_law_406 rfl (lv_at hl 0 rfl) ?_
      refine lv_iload_n hx hb d_L_law_407 rfl (lv_at hl 3 rfl) ?_
      refine lv_iconst (v := nI 1) hx hb d_L_law_408 (by decide) ?_
      refine r_add hx hb d_L_law_409 ?_
      refine va_sld hx hb hX hbl hbA hS (vp_in_nI (show i + 1 < L by omega) (by omega)) d_L_law_410 ?_
      refine r_top (congrArg xs (nI_clamp (show i + 1 < 2 ^ 31 by omega))) ?_
      refine r_calli S (c_X_look l E x (xs (i + 1)) hI.1) kc_X_look k0_X km_L_62 ki_X_look ks_X_look hd_X_look ⟨rfl, rfl⟩ ⟨by decide, by decide⟩ (zX_ok E) hzX hK hPX hS hAX 0 rfl rfl rfl hl.1 rfl (Nat.le_of_ble_eq_true rfl) ⟨by decide, by decide⟩ d_L_law_411 (fun q1 x1 H locs hX1 hPX hz1 hk1 hS => ?_)
      have hPM := keepM hAp hPM hk1
      refine lv_aload_n hx hb d_L_law_414 rfl (lv_at hl 2 rfl) ?_
      refine lv_aload_n hx hb d_L_law_415 rfl (lv_at hl 0 rfl) ?_
      refine lv_iload_n hx hb d_L_law_416 rfl (lv_at hl 3 rfl) ?_
      refine lv_iconst (v := nI 1) hx hb d_L_law_417 (by decide) ?_
      refine r_add hx hb d_L_law_418 ?_
      refine va_sld hx hb hX hbl hbA hS (vp_in_nI (show i + 1 < L by omega) (by omega)) d_L_law_419 ?_
      refine r_top (congrArg xs (nI_clamp (show i + 1 < 2 ^ 31 by omega))) ?_
      refine r_calli S (c_M_look l E y (xs (i + 1)) hI.2.1) kc_M_look k0_M km_L_65 ki_M_look ks_M_look hd_M_look ⟨rfl, rfl⟩ ⟨by decide, by decide⟩ (zM_ok E) hAp hK hPM hS hAM 0 rfl rfl rfl hl.1 rfl (Nat.le_of_ble_eq_true rfl) ⟨by decide, by decide⟩ d_L_law_420 (fun q2 y1 H locs hM1 hPM hz2 hk2 hS => ?_)
      have hPX := keepX hAp hPX hk2
      obtain ⟨hq, g', hI', hmm'⟩ := sim_look hI (by omega) hX1 hM1
      refine lv_icmp_eq (tgt := 507) hx hb d_L_law_423 (by decide) (fun _ => ?_) (fun q => absurd hq q)
      exact nxt g' x1 y1 hI' hmm' _ _ hPX hPM hS
    · refine lv_tableIn (tgt := 428) hx hb d_L_law_42 (by decide) (by decide) rfl (by decide) ?_
      refine lv_aload_n hx hb d_L_law_428 rfl (lv_at hl 1 rfl) ?_
      refine lv_aload_n hx hb d_L_law_429 rfl (lv_at hl 0 rfl) ?_
      refine lv_iload_n hx hb d_L_law_430 rfl (lv_at hl 3 rfl) ?_
      refine lv_iconst (v := nI 1) hx hb d_L_law_431 (by decide) ?_
      refine r_add hx hb d_L_law_432 ?_
      refine va_sld hx hb hX hbl hbA hS (vp_in_nI (show i + 1 < L by omega) (by omega)) d_L_law_433 ?_
      refine r_top (congrArg xs (nI_clamp (show i + 1 < 2 ^ 31 by omega))) ?_
      refine r_calli S (c_X_numberIn l E x (xs (i + 1)) hI.1) kc_X_numberIn k0_X km_L_66 ki_X_numberIn ks_X_numberIn hd_X_numberIn ⟨rfl, rfl⟩ ⟨by decide, by decide⟩ (zX_ok E) hzX hK hPX hS hAX 0 rfl rfl rfl hl.1 rfl (Nat.le_of_ble_eq_true rfl) ⟨by decide, by decide⟩ d_L_law_434 (fun q1 x1 H locs hX1 hPX hz1 hk1 hS => ?_)
      have hPM := keepM hAp hPM hk1
      refine lv_aload_n hx hb d_L_law_437 rfl (lv_at hl 2 rfl) ?_
      refine lv_aload_n hx hb d_L_law_438 rfl (lv_at hl 0 rfl) ?_
      refine lv_iload_n hx hb d_L_law_439 rfl (lv_at hl 3 rfl) ?_
      refine lv_iconst (v := nI 1) hx hb d_L_law_440 (by decide) ?_
      refine r_add hx hb d_L_law_441 ?_
      refine va_sld hx hb hX hbl hbA hS (vp_in_nI (show i + 1 < L by omega) (by omega)) d_L_law_442 ?_
      refine r_top (congrArg xs (nI_clamp (show i + 1 < 2 ^ 31 by omega))) ?_
      refine r_calli S (c_M_numberIn l E y (xs (i + 1)) hI.2.1) kc_M_numberIn k0_M km_L_69 ki_M_numberIn ks_M_numberIn hd_M_numberIn ⟨rfl, rfl⟩ ⟨by decide, by decide⟩ (zM_ok E) hAp hK hPM hS hAM 0 rfl rfl rfl hl.1 rfl (Nat.le_of_ble_eq_true rfl) ⟨by decide, by decide⟩ d_L_law_443 (fun q2 y1 H locs hM1 hPM hz2 hk2 hS => ?_)
      have hPX := keepX hAp hPX hk2
      obtain ⟨hq, g', hI', hmm'⟩ := sim_numberIn hI (by omega) hX1 hM1
      refine lv_icmp_eq (tgt := 507) hx hb d_L_law_446 (by decide) (fun _ => ?_) (fun q => absurd hq q)
      exact nxt g' x1 y1 hI' hmm' _ _ hPX hPM hS
    · refine lv_tableIn (tgt := 451) hx hb d_L_law_42 (by decide) (by decide) rfl (by decide) ?_
      refine lv_aload_n hx hb d_L_law_451 rfl (lv_at hl 1 rfl) ?_
      refine lv_aload_n hx hb d_L_law_452 rfl (lv_at hl 0 rfl) ?_
      refine lv_iload_n hx hb d_L_law_453 rfl (lv_at hl 3 rfl) ?_
      refine lv_iconst (v := nI 1) hx hb d_L_law_454 (by decide) ?_
      refine r_add hx hb d_L_law_455 ?_
      refine va_sld hx hb hX hbl hbA hS (vp_in_nI (show i + 1 < L by omega) (by omega)) d_L_law_456 ?_
      refine r_top (congrArg xs (nI_clamp (show i + 1 < 2 ^ 31 by omega))) ?_
      refine lv_aload_n hx hb d_L_law_457 rfl (lv_at hl 0 rfl) ?_
      refine lv_iload_n hx hb d_L_law_458 rfl (lv_at hl 3 rfl) ?_
      refine lv_iconst (v := nI 2) hx hb d_L_law_459 (by decide) ?_
      refine r_add hx hb d_L_law_460 ?_
      refine va_sld hx hb hX hbl hbA hS (vp_in_nI (show i + 2 < L by omega) (by omega)) d_L_law_461 ?_
      refine r_top (congrArg xs (nI_clamp (show i + 2 < 2 ^ 31 by omega))) ?_
      refine r_calli S (c_X_same l E x (xs (i + 1)) (xs (i + 2)) hI.1) kc_X_same k0_X km_L_70 ki_X_same ks_X_same hd_X_same ⟨rfl, rfl⟩ ⟨by decide, by decide⟩ (zX_ok E) hzX hK hPX hS hAX 0 rfl rfl rfl hl.1 rfl (Nat.le_of_ble_eq_true rfl) ⟨by decide, by decide⟩ d_L_law_462 (fun q1 x1 H locs hX1 hPX hz1 hk1 hS => ?_)
      have hPM := keepM hAp hPM hk1
      refine lv_aload_n hx hb d_L_law_465 rfl (lv_at hl 2 rfl) ?_
      refine lv_aload_n hx hb d_L_law_466 rfl (lv_at hl 0 rfl) ?_
      refine lv_iload_n hx hb d_L_law_467 rfl (lv_at hl 3 rfl) ?_
      refine lv_iconst (v := nI 1) hx hb d_L_law_468 (by decide) ?_
      refine r_add hx hb d_L_law_469 ?_
      refine va_sld hx hb hX hbl hbA hS (vp_in_nI (show i + 1 < L by omega) (by omega)) d_L_law_470 ?_
      refine r_top (congrArg xs (nI_clamp (show i + 1 < 2 ^ 31 by omega))) ?_
      refine lv_aload_n hx hb d_L_law_471 rfl (lv_at hl 0 rfl) ?_
      refine lv_iload_n hx hb d_L_law_472 rfl (lv_at hl 3 rfl) ?_
      refine lv_iconst (v := nI 2) hx hb d_L_law_473 (by decide) ?_
      refine r_add hx hb d_L_law_474 ?_
      refine va_sld hx hb hX hbl hbA hS (vp_in_nI (show i + 2 < L by omega) (by omega)) d_L_law_475 ?_
      refine r_top (congrArg xs (nI_clamp (show i + 2 < 2 ^ 31 by omega))) ?_
      refine r_calli S (c_M_same l E y (xs (i + 1)) (xs (i + 2)) hI.2.1) kc_M_same k0_M km_L_73 ki_M_same ks_M_same hd_M_same ⟨rfl, rfl⟩ ⟨by decide, by decide⟩ (zM_ok E) hAp hK hPM hS hAM 0 rfl rfl rfl hl.1 rfl (Nat.le_of_ble_eq_true rfl) ⟨by decide, by decide⟩ d_L_law_476 (fun q2 y1 H locs hM1 hPM hz2 hk2 hS => ?_)
      have hPX := keepX hAp hPX hk2
      obtain ⟨hq, g', hI', hmm'⟩ := sim_same hI (by omega) hX1 hM1
      refine lv_icmp_eq (tgt := 507) hx hb d_L_law_479 (by decide) (fun _ => ?_) (fun q => absurd hq q)
      exact nxt g' x1 y1 hI' hmm' _ _ hPX hPM hS
    · refine lv_tableIn (tgt := 484) hx hb d_L_law_42 (by decide) (by decide) rfl (by decide) ?_
      refine lv_aload_n hx hb d_L_law_484 rfl (lv_at hl 1 rfl) ?_
      refine lv_aload_n hx hb d_L_law_485 rfl (lv_at hl 0 rfl) ?_
      refine lv_iload_n hx hb d_L_law_486 rfl (lv_at hl 3 rfl) ?_
      refine lv_iconst (v := nI 1) hx hb d_L_law_487 (by decide) ?_
      refine r_add hx hb d_L_law_488 ?_
      refine va_sld hx hb hX hbl hbA hS (vp_in_nI (show i + 1 < L by omega) (by omega)) d_L_law_489 ?_
      refine r_top (congrArg xs (nI_clamp (show i + 1 < 2 ^ 31 by omega))) ?_
      refine r_calli S (c_X_count l E x (xs (i + 1)) hI.1) kc_X_count k0_X km_L_74 ki_X_count ks_X_count hd_X_count ⟨rfl, rfl⟩ ⟨by decide, by decide⟩ (zX_ok E) hzX hK hPX hS hAX 0 rfl rfl rfl hl.1 rfl (Nat.le_of_ble_eq_true rfl) ⟨by decide, by decide⟩ d_L_law_490 (fun q1 x1 H locs hX1 hPX hz1 hk1 hS => ?_)
      have hPM := keepM hAp hPM hk1
      refine lv_aload_n hx hb d_L_law_493 rfl (lv_at hl 2 rfl) ?_
      refine lv_aload_n hx hb d_L_law_494 rfl (lv_at hl 0 rfl) ?_
      refine lv_iload_n hx hb d_L_law_495 rfl (lv_at hl 3 rfl) ?_
      refine lv_iconst (v := nI 1) hx hb d_L_law_496 (by decide) ?_
      refine r_add hx hb d_L_law_497 ?_
      refine va_sld hx hb hX hbl hbA hS (vp_in_nI (show i + 1 < L by omega) (by omega)) d_L_law_498 ?_
      refine r_top (congrArg xs (nI_clamp (show i + 1 < 2 ^ 31 by omega))) ?_
      refine r_calli S (c_M_count l E y (xs (i + 1)) hI.2.1) kc_M_count k0_M km_L_77 ki_M_count ks_M_count hd_M_count ⟨rfl, rfl⟩ ⟨by decide, by decide⟩ (zM_ok E) hAp hK hPM hS hAM 0 rfl rfl rfl hl.1 rfl (Nat.le_of_ble_eq_true rfl) ⟨by decide, by decide⟩ d_L_law_499 (fun q2 y1 H locs hM1 hPM hz2 hk2 hS => ?_)
      have hPX := keepX hAp hPX hk2
      obtain ⟨hq, g', hI', hmm'⟩ := sim_count hI (by omega) hX1 hM1
      refine lv_icmp_eq (tgt := 507) hx hb d_L_law_502 (by decide) (fun _ => ?_) (fun q => absurd hq q)
      exact nxt g' x1 y1 hI' hmm' _ _ hPX hPM hS
    · refine lv_tableOut (tgt := 507) hx hb d_L_law_42 (Or.inr (by rw [nI_toInt (by omega)]; omega)) (by decide) ?_
      exact nxt g x y hI (by omega) _ _ hPX hPM hS
end
section
/-! the law's walk from its entry -/
def adL (g : Nat → Nat) (h a b c d : Nat) : Nat → Nat := fun k => match k with
  | 11 => h
  | 12 => a
  | 13 => b
  | 14 => c
  | 15 => d
  | k => g k
theorem w16 {E : KX} {x : XS} {y : MS} : ∀ i, i < 16 → ∃ q, (wX E x ++ wM E y)[i]? = some q ∧ q.1 = E.ad i := fun i hi => by
  match i, hi with
  | 0, _ => exact ⟨_, rfl, rfl⟩
  | 1, _ => exact ⟨_, rfl, rfl⟩
  | 2, _ => exact ⟨_, rfl, rfl⟩
  | 3, _ => exact ⟨_, rfl, rfl⟩
  | 4, _ => exact ⟨_, rfl, rfl⟩
  | 5, _ => exact ⟨_, rfl, rfl⟩
  | 6, _ => exact ⟨_, rfl, rfl⟩
  | 7, _ => exact ⟨_, rfl, rfl⟩
  | 8, _ => exact ⟨_, rfl, rfl⟩
  | 9, _ => exact ⟨_, rfl, rfl⟩
  | 10, _ => exact ⟨_, rfl, rfl⟩
  | 11, _ => exact ⟨_, rfl, rfl⟩
  | 12, _ => exact ⟨_, rfl, rfl⟩
  | 13, _ => exact ⟨_, rfl, rfl⟩
  | 14, _ => exact ⟨_, rfl, rfl⟩
  | 15, _ => exact ⟨_, rfl, rfl⟩
  | k + 16, hk => exact absurd hk (by omega)
theorem ap_of {E : KX} {x : XS} {y : MS} {A : Nat → Prop} (h : va_D A (wX E x ++ wM E y)) : ApX E ∧ ∀ k, k < 16 → A (E.ad k) := by
  refine ⟨fun i j hi hj e => ?_, fun k hk => ?_⟩
  · obtain ⟨p, p1, p2⟩ := w16 (E := E) (x := x) (y := y) i hi
    obtain ⟨q, q1, q2⟩ := w16 (E := E) (x := x) (y := y) j hj
    exact h.1 i j p q p1 q1 (by rw [p2, q2, e])
  · obtain ⟨p, p1, p2⟩ := w16 (E := E) (x := x) (y := y) k hk
    rw [← p2]
    exact h.2 k p p1
set_option maxHeartbeats 4000000 in
set_option maxRecDepth 100000 in
/-- a call of cell(script, 0) -/
theorem law_cell {p : Program} {l : Launch} {e : Env} {s : State} {m : MethodId} {below : List Frame} {meth : Method} {c : Code} {b L : Nat} {xs : Nat → Int32} (hL : L ≤ 2049) (C0 : lw_At p s m meth c b L xs) {H : Heap} {locs : List Loc} {cells slots pc : Nat} {ls : Array Slot} {rest : List Value} {Q : State → Prop} (hS : va_S (fun q : Nat => s.heap.size ≤ q) s.heap H locs) (hl : ls.size = 4) (hf : cells ≤ room_1.cells ∧ slots ≤ room_1.slots) (hroom : (rest.map fun v => v.category).sum ≤ 8) (hdg : decode code pc = .ok (.invokestatic 9, 3))
    (kk : W p l e room_1 s m #[Value.ref b] below meth c H locs cells slots Q (F0 m (pc + 3) ls (.int (if 0 < L then xs 0 else nI 0) :: rest))) : W p l e room_1 s m #[Value.ref b] below meth c H locs cells slots Q (F0 m pc ls (.int (nI 0) :: .ref b :: rest)) := by
  obtain ⟨hx, hb, hr, hml, hown, htl, hX, hbl, hlocks, hgv⟩ := C0
  have hts : ∀ w ∈ TBL, w.before #[Value.ref b] s = true := fun w h => htl w (tb_sub w h)
  have S : CallFix p m c code 4 s #[Value.ref b] TBL R_law := ⟨hx, hb, hml, hown, hts⟩
  have hbA : ¬ (fun q : Nat => s.heap.size ≤ q) b := Nat.not_le.mpr hbl
  have hXH : va_X b L xs s H := hX.kept (hS.2.1 b hbl hbA)
  have cb := r_callB (R := room_1) (rm := rm_L_cell) S 0 0 kc_L_cell k0_L km_L_9 hd_L_cell ⟨rfl, rfl⟩ ⟨by decide, by decide⟩
  exact W.callR (W.runS (As := [.ref b, .int (nI 0)]) (rest := rest) S (c_L_cell l b L xs hL) ⟨cb, hts _ kt_L_cell⟩ ⟨fun a U g mk q => ⟨q.1, va_X.moved (u := U) (U := U.calling g mk a) (Vm.Alike.refl U.vm) q.2⟩, fun U hU hW => ⟨rfl, by show va_X b L xs U U.heap; rw [hU]; exact va_X.moved hW.alike hXH⟩⟩ rfl rfl hl rfl (lv_room hroom) hdg hf) kk
set_option maxHeartbeats 4000000 in
set_option maxRecDepth 100000 in
/-- THE LAW, from its entry -/
theorem whole_start {p : Program} {e : Env} {s : State} {m : MethodId} {below : List Frame} {meth : Method} {c : Code} (l : Launch) {b L : Nat} {xs : Nat → Int32} (hL : L ≤ 2049) (C0 : lw_At p s m meth c b L xs) : W p l e room_1 s m #[Value.ref b] below meth c s.heap [] 0 0 (lw_Z below #[Value.ref b] s) (entryFrame m ([Value.ref b] : List Value).toArray 4) := by
  obtain ⟨hx, hb, hr, hml, hown, htl, hX, hbl, hlocks, hgv⟩ := id C0
  have hts : ∀ w ∈ TBL, w.before #[Value.ref b] s = true := fun w h => htl w (tb_sub w h)
  have hN : va_Nw (.methodLinkNest "SliceHeap" 9 y_R_init "SliceHeap") s := va_Nw.of rfl (htl _ nm_in)
  have hA : ∀ q : Nat, s.heap.size ≤ q → (fun q : Nat => s.heap.size ≤ q) q := fun _ h => h
  obtain ⟨e0, i0, hKn0⟩ := u_known (C := "SliceHeap$Roots") (T := F_R) (N := 3) (n := 3) hts in_R (hts _ kn_R)
  obtain ⟨e1, i1, hKn1⟩ := u_known (C := "SliceHeap$Heap") (T := F_H) (N := 16) (n := 16) hts in_H (hts _ kn_H)
  obtain ⟨e2, i2, hKn2⟩ := u_known (C := "SliceHeap") (T := F_X) (N := 4) (n := 4) hts in_X (hts _ kn_X)
  obtain ⟨e3, i3, hKn3⟩ := u_known (C := "SliceHeapModel") (T := F_M) (N := 8) (n := 8) hts in_M (hts _ kn_M)
  obtain ⟨D, hKc⟩ : ∃ D : va_G, ∀ (k : Nat) (q : vw_C), classes[k]? = some q → u_Kn s q.1 q.2.1 q.2.2 (D.1 k) (D.2 k) := by
    refine ⟨(fun k => if k = 0 then e0 else if k = 1 then e1 else if k = 2 then e2 else e3, fun k => if k = 0 then i0 else if k = 1 then i1 else if k = 2 then i2 else i3), ?_⟩
    intro k q hq
    match k, hq with
    | 0, hq => cases hq; exact hKn0
    | 1, hq => cases hq; exact hKn1
    | 2, hq => cases hq; exact hKn2
    | 3, hq => cases hq; exact hKn3
    | k + 4, hq => simp [classes] at hq
  have hS : va_S (fun q : Nat => s.heap.size ≤ q) s.heap s.heap [] := va_S.rf
  have hK : va_K D classes [] s := ⟨hKc, fun k q h => by simp at h⟩
  have hP : va_P D classes [] s.heap := fun k q h => by simp at h
  have hD : va_D (fun q : Nat => s.heap.size ≤ q) [] := ⟨fun i j p q h => by simp at h, fun k q h => by simp at h⟩
  have hl := lv_entry ([.ref b]) (n := 4) (Nat.le_of_ble_eq_true rfl)
  rw [lg_entry_eq]
  generalize (lg_sl ([.ref b]) ++ List.replicate (4 - (lg_sl ([.ref b])).length) Slot.unset).toArray = ls at hl ⊢
  have hl : lv_has ls 4 [(0, .ref b)] := hl
  generalize hcl : (if 0 < L then xs 0 else nI 0) = cl
  refine va_new (ci := 2) (fs := [.null, .null, .int (nI 0), .int (nI 0)]) (C := "SliceHeap") (T := F_X) (N := 4) hx hb hts in_X t_X t_X_ok hown (hts _ kl_L_7) (hts _ kn_X) (hts _ k0_X) hK hP hD hS hA rfl (fun j hj => by
    match j, hj with
    | 0, _ => rfl
    | 1, _ => rfl
    | 2, _ => rfl
    | 3, _ => rfl
    | j + 4, hj => exact absurd hj (by omega)) (Nat.le_of_ble_eq_true rfl) (Nat.le_of_ble_eq_true rfl) d_L_law_0 (fun q0 H hP hD hS => ?_)
  have hP : va_P D classes [(q0, .inr (2, [.null, .null, .int (nI 0), .int (nI 0)]))] H := hP
  have hD : va_D (fun q : Nat => s.heap.size ≤ q) [(q0, .inr (2, [.null, .null, .int (nI 0), .int (nI 0)]))] := hD
  have hK : va_K D classes [] s := hK
  refine lv_dup hx hb d_L_law_3 rfl ?_
  refine lv_aload_n hx hb d_L_law_4 rfl (lv_at hl 0 rfl) ?_
  refine lv_iconst (v := nI 0) hx hb d_L_law_5 (by decide) ?_
  refine law_cell hL C0 hS hl.1 ⟨(Nat.le_of_ble_eq_true rfl), (Nat.le_of_ble_eq_true rfl)⟩ (Nat.le_of_ble_eq_true rfl) d_L_law_6 ?_
  refine r_top hcl ?_
  have hPc := hP.sub (ws' := [(q0, .inr (2, [.null, .null, .int (nI 0), .int (nI 0)]))]) [0] rfl
  have hDc := hD.sub (ws' := [(q0, .inr (2, [.null, .null, .int (nI 0), .int (nI 0)]))]) [0] (by decide) rfl
  have hFc := va_free (wc := [(q0, .inr (2, [.null, .null, .int (nI 0), .int (nI 0)]))]) hD hS hA [0] rfl
  refine va_callv (va_runI (As := [.int cl]) (rest := [.ref q0]) ⟨hx, hb, hml, hown, hts⟩ (c_X_init l D q0 H.size cl) ⟨r_callB (R := room_1) (nL := 4) (cc := code) ⟨hx, hb, hml, hown, hts⟩ 10 70539 kc_X_init k0_X km_L_15 hd_X_init ⟨rfl, rfl⟩ ⟨by decide, by decide⟩, rfl, hts _ ki_X_init⟩ ⟨fun a U g mk q => by obtain ⟨q0, q1, qP, qK, qD, qN⟩ := q; exact ⟨q0, q1, qP, va_K.moved (u := U) (U := U.calling g mk a) (Vm.Alike.refl U.vm) qK, qD, va_Nw.same rfl (u := U) (U := U.calling g mk a) rfl qN⟩, fun U hU hW => ⟨rfl, by rw [hU], by rw [hU]; exact hPc, va_K.moved hW.alike hK, hDc.weaken (fun _ _ _ _ => trivial), va_Nw.warmM hW hN⟩⟩ rfl rfl hl.1 rfl (lv_room (Nat.le_of_ble_eq_true rfl)) d_L_law_9 ⟨(Nat.le_of_ble_eq_true rfl), (Nat.le_of_ble_eq_true rfl)⟩) hS (fun q _ h => hFc q h) hFc (fun u t H1 locs ht hvm hu hB hz1 hk1 hS => ?_)
  obtain ⟨cB, cI, ad⟩ := u
  obtain ⟨hP1, hK1, hD1⟩ := hB
  rw [ht] at hP1
  have hK1 := va_K.moved hvm.symm hK1
  have hu : ad 0 = q0 := hu
  subst hu
  obtain ⟨hP, hD⟩ := va_join (wr := []) (w1 := wX (D, (cB, cI, cB), ad) (x0 (mst cl))) hP hD [0] [] rfl rfl (by decide) (by decide) hk1 hFc hP1 hD1
  have hK := (hK.sub (tys' := []) [] rfl).app hK1
  generalize H1 = H at hP hS ⊢
  have hP : va_P D classes (wX (D, (cB, cI, cB), ad) (x0 (mst cl))) H := hP
  have hD : va_D (fun q : Nat => s.heap.size ≤ q) (wX (D, (cB, cI, cB), ad) (x0 (mst cl))) := hD
  have hK : va_K D classes [(cB, .byte), (cI, .int)] s := hK
  refine lv_astore_n hx hb d_L_law_12 rfl hl (by decide) rfl (fun ls hl => ?_)
  refine va_new (ci := 3) (fs := [.int (nI 0), .null, .null, .int (nI 0), .int (nI 0), .null, .null, .int (nI 0)]) (C := "SliceHeapModel") (T := F_M) (N := 8) hx hb hts in_M t_M t_M_ok hown (hts _ kl_L_18) (hts _ kn_M) (hts _ k0_M) hK hP hD hS hA rfl (fun j hj => by
    match j, hj with
    | 0, _ => rfl
    | 1, _ => rfl
    | 2, _ => rfl
    | 3, _ => rfl
    | 4, _ => rfl
    | 5, _ => rfl
    | 6, _ => rfl
    | 7, _ => rfl
    | j + 8, hj => exact absurd hj (by omega)) (Nat.le_of_ble_eq_true rfl) (Nat.le_of_ble_eq_true rfl) d_L_law_13 (fun q1 H hP hD hS => ?_)
  have hP : va_P D classes ((wX (D, (cB, cI, cB), ad) (x0 (mst cl))) ++ [(q1, .inr (3, [.int (nI 0), .null, .null, .int (nI 0), .int (nI 0), .null, .null, .int (nI 0)]))]) H := hP
  have hD : va_D (fun q : Nat => s.heap.size ≤ q) ((wX (D, (cB, cI, cB), ad) (x0 (mst cl))) ++ [(q1, .inr (3, [.int (nI 0), .null, .null, .int (nI 0), .int (nI 0), .null, .null, .int (nI 0)]))]) := hD
  have hK : va_K D classes [(cB, .byte), (cI, .int)] s := hK
  refine lv_dup hx hb d_L_law_16 rfl ?_
  refine lv_aload_n hx hb d_L_law_17 rfl (lv_at hl 1 rfl) ?_
  refine lv_iconst (v := nI 0) hx hb d_L_law_18 (by decide) ?_
  refine law_cell hL C0 hS hl.1 ⟨(Nat.le_of_ble_eq_true rfl), (Nat.le_of_ble_eq_true rfl)⟩ (Nat.le_of_ble_eq_true rfl) d_L_law_19 ?_
  refine r_top hcl ?_
  have hPc := hP.sub (ws' := [(q1, .inr (3, [.int (nI 0), .null, .null, .int (nI 0), .int (nI 0), .null, .null, .int (nI 0)]))]) [11] rfl
  have hDc := hD.sub (ws' := [(q1, .inr (3, [.int (nI 0), .null, .null, .int (nI 0), .int (nI 0), .null, .null, .int (nI 0)]))]) [11] (by decide) rfl
  have hKc := hK.sub (tys' := []) [] rfl
  have hFc := va_free (wc := [(q1, .inr (3, [.int (nI 0), .null, .null, .int (nI 0), .int (nI 0), .null, .null, .int (nI 0)]))]) hD hS hA [11] rfl
  refine va_callv (va_runI (As := [.int cl]) (rest := [.ref q1]) ⟨hx, hb, hml, hown, hts⟩ (c_M_init l D q1 H.size cl) ⟨r_callB (R := room_1) (nL := 4) (cc := code) ⟨hx, hb, hml, hown, hts⟩ 4 21960 kc_M_init k0_M km_L_20 hd_M_init ⟨rfl, rfl⟩ ⟨by decide, by decide⟩, rfl, hts _ ki_M_init⟩ ⟨fun a U g mk q => by obtain ⟨q0, q1, qP, qK, qD⟩ := q; exact ⟨q0, q1, qP, va_K.moved (u := U) (U := U.calling g mk a) (Vm.Alike.refl U.vm) qK, qD⟩, fun U hU hW => ⟨rfl, by rw [hU], by rw [hU]; exact hPc, va_K.moved hW.alike hKc, hDc.weaken (fun _ _ _ _ => trivial)⟩⟩ rfl rfl hl.1 rfl (lv_room (Nat.le_of_ble_eq_true rfl)) d_L_law_22 ⟨(Nat.le_of_ble_eq_true rfl), (Nat.le_of_ble_eq_true rfl)⟩) hS (fun q _ h => hFc q h) hFc (fun u t H1 locs ht hvm hu hB hz1 hk1 hS => ?_)
  obtain ⟨a1, a2, a3, a4, c1, c2, c3, c4⟩ := u
  obtain ⟨hP1, hK1, hD1⟩ := hB
  rw [ht] at hP1
  have hK1 := va_K.moved hvm.symm hK1
  obtain ⟨hP, hD⟩ := va_join (wr := (wX (D, (cB, cI, cB), ad) (x0 (mst cl)))) hP hD [11] [0, 1, 2, 3, 4, 5, 6, 7, 8, 9, 10] rfl rfl (by decide) (by decide) hk1 hFc hP1 hD1
  have hK := hK.app hK1
  generalize H1 = H at hP hS ⊢
  have k1 := arr_one hK (i := 0) (j := 2) (ty := .byte) (fun _ h => h) rfl rfl
  have k2 := arr_one hK (i := 1) (j := 3) (ty := .int) (fun _ h => h) rfl rfl
  have k3 := arr_one hK (i := 1) (j := 4) (ty := .int) (fun _ h => h) rfl rfl
  subst k1 k2 k3
  obtain ⟨E, hE⟩ : ∃ E : KX, E = (D, (cB, cI, c4), adL ad q1 a1 a2 a3 a4) := ⟨_, rfl⟩
  have hP : va_P E.D classes (wX E (x0 (mst cl)) ++ wM E (m0 (mst cl))) H := by subst hE; exact hP
  have hD : va_D (fun q : Nat => s.heap.size ≤ q) (wX E (x0 (mst cl)) ++ wM E (m0 (mst cl))) := by subst hE; exact hD
  have hK : va_K E.D classes (tyl E) s := by subst hE; exact hK.sub [0, 1, 5] rfl
  have ea : ad 0 = E.ad 0 := by subst hE; rfl
  have eb : q1 = E.ad 11 := by subst hE; rfl
  obtain ⟨hAp, hge⟩ := ap_of hD
  refine W.widen (k := 16) (n := 92511) (Nat.le_of_ble_eq_true rfl) (Nat.le_of_ble_eq_true rfl) ?_
  refine lv_astore_n hx hb d_L_law_25 rfl hl (by decide) rfl (fun ls hl => ?_)
  refine lv_iconst (v := nI 1) hx hb d_L_law_26 (by decide) ?_
  refine lv_istore_n hx hb d_L_law_27 rfl hl (by decide) rfl (fun ls hl => ?_)
  refine law_loop hL C0 E hAp hge hK 513 1 (by omega) (by omega) (fun _ => 0) (x0 (mst cl)) (m0 (mst cl)) (sim_0 (mst_le cl)) (Nat.le_refl 1) H locs ls (hP.sub [0, 1, 2, 3, 4, 5, 6, 7, 8, 9, 10] rfl) (hP.sub [11, 12, 13, 14, 15] rfl) hS ?_
  rw [← ea, ← eb]
  exact lv_sub hl [3, 2, 1, 0] rfl
end
section
-- ===== YOUR PART ENDS =====
set_option maxHeartbeats 4000000 in
theorem lw_walk (l : Launch) (b : Addr) (xs : List Int32) : MetFree l x (headSpec (Jvm.Cond.code x code maxLocals ret :: tables_1) room_1) (lw_P b xs) (fun _ _ _ _ _ => True) lw_Q := by
  refine MetFree.of_bodyS (code := code) (maxLocals := maxLocals) (ret := ret) (by decide) ?_ ?_
  · intro args s m h hn
    obtain ⟨meth, c, h1, h2, h3, h4, h5, h6, -, -⟩ := Cond.code_spec hn (atoms_spec (ws := Jvm.Cond.code x code maxLocals ret :: tables_1) h _ List.mem_cons_self)
    exact ⟨meth, c, h1, h2, h3, h4, h5, h6⟩
  · intro p e s m args below meth c s₁ B hml0 hP _
    obtain ⟨rfl, hx, hbd, hgv⟩ := hP
    obtain ⟨scr, harrAt, hlist, hof, hsmall⟩ := hx
    obtain ⟨hcb, hkn, -, -⟩ := State.arrayAt?_spec harrAt
    have hown : s.vm.findClass R_law = some m.cls := findClass_of_methodNamed B.named
    have hts0 : ∀ c ∈ (Jvm.Cond.code x code maxLocals ret :: tables_1), c.before #[Value.ref b] s = true := atoms_spec (ws := Jvm.Cond.code x code maxLocals ret :: tables_1) B.pre
    have hts : ∀ w ∈ lw_tbl, w.before #[Value.ref b] s = true := k2_hts_sels lw_privs (fun w hw => hts0 w (List.mem_cons_of_mem _ hw)) lw_privs_ok
    have hml : c.maxLocals = 4 := B.maxLocals_eq (hts0 _ List.mem_cons_self)
    have X₀ : Stand p l e room_1 s m #[Value.ref b] below meth c s₁ [] 0 0 := Stand.of_body B
    have hh0 : s₁.heap = s.heap := by rw [B.state]; rfl
    have hsz : scr.slots.size = xs.length := by rw [← Array.length_toList, hlist, List.length_map]
    have hval : ∀ j : Nat, j < xs.length → scr.slots[j]? = some (.int (xs.getD j 0)) := fun j hj => by
      rw [← Array.getElem?_toList, hlist]
      simp [hj]
    have hbl : b < s.heap.size := (Array.getElem?_eq_some_iff.mp hcb).1
    have hX : va_X b xs.length (fun j => xs.getD j 0) s s.heap := ⟨scr, hcb, hof, hkn, hsz, hval⟩
    have K : W p l e room_1 s m #[Value.ref b] below meth c s₁.heap [] 0 0 (lw_Z below #[Value.ref b] s) (entryFrame m ([Value.ref b] : List Value).toArray 4) := by
      rw [hh0]
      exact whole_start l hbd ⟨B.exec, B.bytes, B.returns, hml, hown, hts, hX, hbl, B.notSynchronized, hgv⟩
    obtain ⟨t, a1, o, b1, b2, b3⟩ := K s₁ rfl X₀
    exact ⟨t, o, a1, b1, b2, b3⟩
theorem lw_pre_spec {args : Array Value} {s : State} (h : (Jvm.Cond.and given_1 narrow_1).before args s = true) (hr : rest_1_c.before args s = true) : ∃ (b : Addr) (xs : List Int32), lw_P b xs args s := by
  have hs := flat_of_before _ h
  have hq := flat_of_before _ hr
  have hc : (Cond.count 1).before args s = true := hs _ (by decide +kernel)
  have harr : (Cond.arrayOf (.arg 0) .int).before args s = true := hs _ (by decide +kernel)
  have hle : (Cond.le (.length (.arg 0)) (.int 2049)).before args s = true := hs _ (by decide +kernel)
  have hlen : (Cond.isInt (.length (.arg 0))).before args s = true := hq _ (by decide +kernel)
  have hall : (Cond.all (.arg 0) (.isInt (.elem (.arg 0) (.index 0)))).before args s = true := hq _ (by decide +kernel)
  obtain ⟨b, xs, hb, hx⟩ := State.ints_of_pre rfl harr hlen hall
  have hsm : xs.length < 2 ^ 31 := hx.choose_spec.2.2.2
  have hev : (Term.length (.arg 0)).eval args s none [] s = some (.int xs.length.toInt32) := hx.length_eval hb
  have hv := Cond.le_ints hev (show (Term.int 2049).eval args s none [] s = some (.int 2049) from rfl)
  have hd : xs.length.toInt32 ≤ 2049 := by
    simpa [Cond.before, Cond.holds, hv] using hle
  have hN : xs.length ≤ 2049 := (Int32.ofNat_le_ofNat hsm (by decide)).mp (show Int32.ofNat xs.length ≤ Int32.ofNat 2049 from hd)
  exact ⟨b, xs, Cond.one_arg hc (show args[0]? = some (.ref b) from hb), hx, hN, h⟩
theorem lw_comes (l : Launch) : Comes l x (Jvm.Cond.code x code maxLocals ret :: tables_1) room_1 (fun tb e args s => Calls_1 tb e args s ∧ rest_1 tb e args s ∧ Pre_1 tb e args s)
    (fun _ _ args s o t => lw_Q args s o t) := by
  intro p e ha hc hk s m args below hf hfit hheap happ hpre
  obtain ⟨b, xs, hP⟩ := lw_pre_spec hpre.2.2 hpre.2.1
  obtain ⟨k, o, h1, h2, h3, hQ⟩ := lw_walk l b xs p e ha hc hk s m args below hf ((Spec.applies_iff_loose hf).mp happ).1 hP trivial
  exact ⟨k, o, h1, h2, h3, hQ⟩
theorem lw_frame {s t : State} {o : Outcome} {args : Array Value} (h : Framed s o t [] 16 92511) :
    Framed s o t (fieldLocs frame_1_writes args s ++ arrayLocs frame_1_arrays args s ++ staticLocs frame_1_statics s) 16 92511 := h
theorem lw_limb (L : Cond) (hL : ∀ (args : Array Value) (s t : State), L.after args s (.returned (some (.int 1))) t = true) :
    ArmFor flags0 classFile x code maxLocals ret World_1 tables_1 room_1 Calls_1 rest_1 Pre_1
      (fun tb e a s o t => postC L tb e a s o t ∧ Framed s o t (fieldLocs frame_1_writes a s ++ arrayLocs frame_1_arrays a s ++ staticLocs frame_1_statics s) 16 92511) := by
  intro l _ _ _ p e ha hc hk s m args below hf hfit hheap happ hpre
  obtain ⟨k, o, h1, h2, h3, rfl, hF⟩ := lw_comes l p e ha hc hk s m args below hf hfit hheap happ hpre
  exact ⟨k, _, h1, h2, h3, hL args s _, lw_frame hF⟩
theorem i_vc : Claimed_1_1 ∧ Claimed_1_2 := ⟨lw_limb limb_1_1 (fun args s t => by simp [limb_1_1, Cond.after, Cond.holds, Cond.value]), lw_limb limb_1_2 (fun args s t => Cond.after_iff.mpr (by
  first | (rw [show limb_1_2 = Cond.eq .result (.int 1) from rfl, Cond.eq_ints (x := 1) (y := 1) rfl rfl]; simp; done) | (simp [limb_1_2, Cond.value, Term.eval]; done)))⟩
end
