section
-- ===== PART A: goes FIRST, ahead of the names: the tables' words, and 'selects' of the private methods out of them =====
/-- a private method of a class that the tables say can be made, by its rows of tables_1 -/
def lw_okq (q : MethodName × Nat) : Prop := (q.1.cls ≠ "java/lang/invoke/MethodHandle" ∧ q.1.cls ≠ "java/lang/invoke/VarHandle") ∧ Cond.instantiable q.1.cls q.2 ∈ tables_1 ∧ Cond.privateMethod q.1 ∈ tables_1 ∧ Cond.instanceMethod q.1 ∈ tables_1
theorem lw_p0 : lw_okq (⟨"SkewMelds", "begin", "(I)V"⟩, 16) := ⟨⟨by decide +kernel, by decide +kernel⟩, List.mem_of_getElem? (i := 5) (by decide +kernel), List.mem_of_getElem? (i := 68) (by decide +kernel), List.mem_of_getElem? (i := 69) (by decide +kernel)⟩
theorem lw_p1 : lw_okq (⟨"SkewMelds", "isHeap", "(I)Z"⟩, 16) := ⟨⟨by decide +kernel, by decide +kernel⟩, List.mem_of_getElem? (i := 5) (by decide +kernel), List.mem_of_getElem? (i := 76) (by decide +kernel), List.mem_of_getElem? (i := 77) (by decide +kernel)⟩
theorem lw_p2 : lw_okq (⟨"SkewMelds", "make", "(I)I"⟩, 16) := ⟨⟨by decide +kernel, by decide +kernel⟩, List.mem_of_getElem? (i := 5) (by decide +kernel), List.mem_of_getElem? (i := 80) (by decide +kernel), List.mem_of_getElem? (i := 81) (by decide +kernel)⟩
theorem lw_p3 : lw_okq (⟨"SkewMelds", "get", "([II)I"⟩, 16) := ⟨⟨by decide +kernel, by decide +kernel⟩, List.mem_of_getElem? (i := 5) (by decide +kernel), List.mem_of_getElem? (i := 84) (by decide +kernel), List.mem_of_getElem? (i := 85) (by decide +kernel)⟩
theorem lw_p4 : lw_okq (⟨"SkewMelds", "set", "([III)V"⟩, 16) := ⟨⟨by decide +kernel, by decide +kernel⟩, List.mem_of_getElem? (i := 5) (by decide +kernel), List.mem_of_getElem? (i := 88) (by decide +kernel), List.mem_of_getElem? (i := 89) (by decide +kernel)⟩
theorem lw_p5 : lw_okq (⟨"SkewMelds", "insert", "(II)I"⟩, 16) := ⟨⟨by decide +kernel, by decide +kernel⟩, List.mem_of_getElem? (i := 5) (by decide +kernel), List.mem_of_getElem? (i := 92) (by decide +kernel), List.mem_of_getElem? (i := 93) (by decide +kernel)⟩
theorem lw_p6 : lw_okq (⟨"SkewMelds", "skewLink", "(III)I"⟩, 16) := ⟨⟨by decide +kernel, by decide +kernel⟩, List.mem_of_getElem? (i := 5) (by decide +kernel), List.mem_of_getElem? (i := 96) (by decide +kernel), List.mem_of_getElem? (i := 97) (by decide +kernel)⟩
theorem lw_p7 : lw_okq (⟨"SkewMelds", "link", "(II)I"⟩, 16) := ⟨⟨by decide +kernel, by decide +kernel⟩, List.mem_of_getElem? (i := 5) (by decide +kernel), List.mem_of_getElem? (i := 100) (by decide +kernel), List.mem_of_getElem? (i := 101) (by decide +kernel)⟩
theorem lw_p8 : lw_okq (⟨"SkewMelds", "leastTree", "(I)I"⟩, 16) := ⟨⟨by decide +kernel, by decide +kernel⟩, List.mem_of_getElem? (i := 5) (by decide +kernel), List.mem_of_getElem? (i := 115) (by decide +kernel), List.mem_of_getElem? (i := 116) (by decide +kernel)⟩
theorem lw_p9 : lw_okq (⟨"SkewMelds", "remove", "(II)V"⟩, 16) := ⟨⟨by decide +kernel, by decide +kernel⟩, List.mem_of_getElem? (i := 5) (by decide +kernel), List.mem_of_getElem? (i := 124) (by decide +kernel), List.mem_of_getElem? (i := 125) (by decide +kernel)⟩
theorem lw_p10 : lw_okq (⟨"SkewMelds", "norm", "(I)I"⟩, 16) := ⟨⟨by decide +kernel, by decide +kernel⟩, List.mem_of_getElem? (i := 5) (by decide +kernel), List.mem_of_getElem? (i := 128) (by decide +kernel), List.mem_of_getElem? (i := 129) (by decide +kernel)⟩
theorem lw_p11 : lw_okq (⟨"SkewMelds", "put", "(II)I"⟩, 16) := ⟨⟨by decide +kernel, by decide +kernel⟩, List.mem_of_getElem? (i := 5) (by decide +kernel), List.mem_of_getElem? (i := 132) (by decide +kernel), List.mem_of_getElem? (i := 133) (by decide +kernel)⟩
theorem lw_p12 : lw_okq (⟨"SkewMelds", "turned", "(I)I"⟩, 16) := ⟨⟨by decide +kernel, by decide +kernel⟩, List.mem_of_getElem? (i := 5) (by decide +kernel), List.mem_of_getElem? (i := 136) (by decide +kernel), List.mem_of_getElem? (i := 137) (by decide +kernel)⟩
theorem lw_p13 : lw_okq (⟨"SkewMelds", "merge", "(II)I"⟩, 16) := ⟨⟨by decide +kernel, by decide +kernel⟩, List.mem_of_getElem? (i := 5) (by decide +kernel), List.mem_of_getElem? (i := 140) (by decide +kernel), List.mem_of_getElem? (i := 141) (by decide +kernel)⟩
theorem lw_p14 : lw_okq (⟨"SkewMelds", "release", "(I)V"⟩, 16) := ⟨⟨by decide +kernel, by decide +kernel⟩, List.mem_of_getElem? (i := 5) (by decide +kernel), List.mem_of_getElem? (i := 144) (by decide +kernel), List.mem_of_getElem? (i := 145) (by decide +kernel)⟩
theorem lw_p15 : lw_okq (⟨"SkewMelds", "walk", "(I)V"⟩, 16) := ⟨⟨by decide +kernel, by decide +kernel⟩, List.mem_of_getElem? (i := 5) (by decide +kernel), List.mem_of_getElem? (i := 160) (by decide +kernel), List.mem_of_getElem? (i := 161) (by decide +kernel)⟩
def lw_privs_1 : List (MethodName × Nat) := [(⟨"SkewMelds", "begin", "(I)V"⟩, 16), (⟨"SkewMelds", "isHeap", "(I)Z"⟩, 16), (⟨"SkewMelds", "make", "(I)I"⟩, 16), (⟨"SkewMelds", "get", "([II)I"⟩, 16), (⟨"SkewMelds", "set", "([III)V"⟩, 16), (⟨"SkewMelds", "insert", "(II)I"⟩, 16), (⟨"SkewMelds", "skewLink", "(III)I"⟩, 16), (⟨"SkewMelds", "link", "(II)I"⟩, 16), (⟨"SkewMelds", "leastTree", "(I)I"⟩, 16), (⟨"SkewMelds", "remove", "(II)V"⟩, 16), (⟨"SkewMelds", "norm", "(I)I"⟩, 16), (⟨"SkewMelds", "put", "(II)I"⟩, 16), (⟨"SkewMelds", "turned", "(I)I"⟩, 16), (⟨"SkewMelds", "merge", "(II)I"⟩, 16), (⟨"SkewMelds", "release", "(I)V"⟩, 16), (⟨"SkewMelds", "walk", "(I)V"⟩, 16)]
theorem lw_r1 : ∀ q ∈ lw_privs_1, lw_okq q := List.forall_mem_cons.mpr ⟨lw_p0, List.forall_mem_cons.mpr ⟨lw_p1, List.forall_mem_cons.mpr ⟨lw_p2, List.forall_mem_cons.mpr ⟨lw_p3, List.forall_mem_cons.mpr ⟨lw_p4, List.forall_mem_cons.mpr ⟨lw_p5, List.forall_mem_cons.mpr ⟨lw_p6, List.forall_mem_cons.mpr ⟨lw_p7, List.forall_mem_cons.mpr ⟨lw_p8, List.forall_mem_cons.mpr ⟨lw_p9, List.forall_mem_cons.mpr ⟨lw_p10, List.forall_mem_cons.mpr ⟨lw_p11, List.forall_mem_cons.mpr ⟨lw_p12, List.forall_mem_cons.mpr ⟨lw_p13, List.forall_mem_cons.mpr ⟨lw_p14, List.forall_mem_cons.mpr ⟨lw_p15, fun _ h => absurd h List.not_mem_nil⟩⟩⟩⟩⟩⟩⟩⟩⟩⟩⟩⟩⟩⟩⟩⟩
theorem lw_p16 : lw_okq (⟨"SkewMelds", "await", "(I)V"⟩, 16) := ⟨⟨by decide +kernel, by decide +kernel⟩, List.mem_of_getElem? (i := 5) (by decide +kernel), List.mem_of_getElem? (i := 164) (by decide +kernel), List.mem_of_getElem? (i := 165) (by decide +kernel)⟩
theorem lw_p17 : lw_okq (⟨"SkewMeldsModel", "isHeap", "(I)Z"⟩, 5) := ⟨⟨by decide +kernel, by decide +kernel⟩, List.mem_of_getElem? (i := 180) (by decide +kernel), List.mem_of_getElem? (i := 211) (by decide +kernel), List.mem_of_getElem? (i := 212) (by decide +kernel)⟩
theorem lw_p18 : lw_okq (⟨"SkewMeldsModel", "sizeOf", "(I)I"⟩, 5) := ⟨⟨by decide +kernel, by decide +kernel⟩, List.mem_of_getElem? (i := 180) (by decide +kernel), List.mem_of_getElem? (i := 215) (by decide +kernel), List.mem_of_getElem? (i := 216) (by decide +kernel)⟩
theorem lw_p19 : lw_okq (⟨"SkewMeldsModel", "untell", "()V"⟩, 5) := ⟨⟨by decide +kernel, by decide +kernel⟩, List.mem_of_getElem? (i := 180) (by decide +kernel), List.mem_of_getElem? (i := 223) (by decide +kernel), List.mem_of_getElem? (i := 224) (by decide +kernel)⟩
theorem lw_p20 : lw_okq (⟨"SkewMeldsModel", "placeOf", "(I)I"⟩, 5) := ⟨⟨by decide +kernel, by decide +kernel⟩, List.mem_of_getElem? (i := 180) (by decide +kernel), List.mem_of_getElem? (i := 227) (by decide +kernel), List.mem_of_getElem? (i := 228) (by decide +kernel)⟩
def lw_privs_2 : List (MethodName × Nat) := [(⟨"SkewMelds", "await", "(I)V"⟩, 16), (⟨"SkewMeldsModel", "isHeap", "(I)Z"⟩, 5), (⟨"SkewMeldsModel", "sizeOf", "(I)I"⟩, 5), (⟨"SkewMeldsModel", "untell", "()V"⟩, 5), (⟨"SkewMeldsModel", "placeOf", "(I)I"⟩, 5)]
theorem lw_r2 : ∀ q ∈ lw_privs_2, lw_okq q := List.forall_mem_cons.mpr ⟨lw_p16, List.forall_mem_cons.mpr ⟨lw_p17, List.forall_mem_cons.mpr ⟨lw_p18, List.forall_mem_cons.mpr ⟨lw_p19, List.forall_mem_cons.mpr ⟨lw_p20, fun _ h => absurd h List.not_mem_nil⟩⟩⟩⟩⟩
def lw_privs : List (MethodName × Nat) := lw_privs_1 ++ (lw_privs_2)
def lw_tbl : List Cond := k2_sels lw_privs ++ tables_1
theorem lw_privs_ok : ∀ q ∈ lw_privs, lw_okq q := by
  show ∀ q ∈ lw_privs_1 ++ (lw_privs_2), lw_okq q
  exact List.forall_mem_append.mpr ⟨lw_r1, lw_r2⟩
-- ===== end of PART A =====
-- NAMES
def R_law : String := "SkewMeldsLaw"
def R_SM : String := "SkewMelds"
def R_MD : String := "SkewMeldsModel"
def R_IN : String := "java/lang/Integer"
def F_SM : u_T := fun k => match k with
  | 0 => ("SkewMelds", "keys", "[I", true)
  | 1 => ("SkewMelds", "ranks", "[I", true)
  | 2 => ("SkewMelds", "childs", "[I", true)
  | 3 => ("SkewMelds", "nexts", "[I", true)
  | 4 => ("SkewMelds", "singles", "[I", true)
  | 5 => ("SkewMelds", "unused", "I", false)
  | 6 => ("SkewMelds", "unusedCount", "I", false)
  | 7 => ("SkewMelds", "heaps", "I", false)
  | 8 => ("SkewMelds", "firsts", "[I", true)
  | 9 => ("SkewMelds", "sizes", "[I", true)
  | 10 => ("SkewMelds", "steps", "I", false)
  | 11 => ("SkewMelds", "most", "I", false)
  | 12 => ("SkewMelds", "heapOrder", "[I", true)
  | 13 => ("SkewMelds", "waiting", "[I", true)
  | 14 => ("SkewMelds", "waitingCount", "I", false)
  | _ => ("SkewMelds", "seen", "I", false)
def t_SM : Nat → FieldType := fun k => match k with
  | 0 => .array .int
  | 1 => .array .int
  | 2 => .array .int
  | 3 => .array .int
  | 4 => .array .int
  | 5 => .int
  | 6 => .int
  | 7 => .int
  | 8 => .array .int
  | 9 => .array .int
  | 10 => .int
  | 11 => .int
  | 12 => .array .int
  | 13 => .array .int
  | 14 => .int
  | _ => .int
def F_MD : u_T := fun k => match k with
  | 0 => ("SkewMeldsModel", "heaps", "I", false)
  | 1 => ("SkewMeldsModel", "used", "I", false)
  | 2 => ("SkewMeldsModel", "owners", "[I", true)
  | 3 => ("SkewMeldsModel", "keys", "[I", true)
  | _ => ("SkewMeldsModel", "told", "[Z", true)
def t_MD : Nat → FieldType := fun k => match k with
  | 0 => .int
  | 1 => .int
  | 2 => .array .int
  | 3 => .array .int
  | _ => .array .boolean
abbrev classes : List vw_C := [(R_SM, F_SM, 16), (R_MD, F_MD, 5)]
theorem n_SM : ∀ a, a < 16 → ∀ b, b < 16 → a ≠ b → (F_SM a).2.1 ≠ (F_SM b).2.1 := by decide +kernel
theorem t_SM_ok : ∀ k, k < 16 → parseFieldDescriptor (F_SM k).2.2.1 = some (t_SM k) := by decide +kernel
theorem n_MD : ∀ a, a < 5 → ∀ b, b < 5 → a ≠ b → (F_MD a).2.1 ≠ (F_MD b).2.1 := by decide +kernel
theorem t_MD_ok : ∀ k, k < 5 → parseFieldDescriptor (F_MD k).2.2.1 = some (t_MD k) := by decide +kernel
-- methods: code and name
def y_SM_init : MethodName := ⟨R_SM, "<init>", "()V"⟩
abbrev b_SM_init : ByteArray := prog_1_method_1_code
def y_SM_heap : MethodName := ⟨R_SM, "heap", "()I"⟩
abbrev b_SM_heap : ByteArray := prog_1_method_15_code
def y_SM_begin : MethodName := ⟨R_SM, "begin", "(I)V"⟩
abbrev b_SM_begin : ByteArray := prog_1_method_5_code
def y_SM_add : MethodName := ⟨R_SM, "add", "(II)I"⟩
abbrev b_SM_add : ByteArray := prog_1_method_16_code
def y_SM_isHeap : MethodName := ⟨R_SM, "isHeap", "(I)Z"⟩
abbrev b_SM_isHeap : ByteArray := prog_1_method_2_code
def y_SM_make : MethodName := ⟨R_SM, "make", "(I)I"⟩
abbrev b_SM_make : ByteArray := prog_1_method_7_code
def y_SM_get : MethodName := ⟨R_SM, "get", "([II)I"⟩
abbrev b_SM_get : ByteArray := prog_1_method_3_code
def y_SM_set : MethodName := ⟨R_SM, "set", "([III)V"⟩
abbrev b_SM_set : ByteArray := prog_1_method_4_code
def y_SM_insert : MethodName := ⟨R_SM, "insert", "(II)I"⟩
abbrev b_SM_insert : ByteArray := prog_1_method_11_code
def y_SM_skewLink : MethodName := ⟨R_SM, "skewLink", "(III)I"⟩
abbrev b_SM_skewLink : ByteArray := prog_1_method_10_code
def y_SM_link : MethodName := ⟨R_SM, "link", "(II)I"⟩
abbrev b_SM_link : ByteArray := prog_1_method_9_code
def y_SM_least : MethodName := ⟨R_SM, "least", "(I)J"⟩
abbrev b_SM_least : ByteArray := prog_1_method_18_code
def y_SM_fewFor : MethodName := ⟨R_SM, "fewFor", "(I)I"⟩
abbrev b_SM_fewFor : ByteArray := prog_1_method_6_code
def y_IN_numberOfLeadingZeros : MethodName := ⟨R_IN, "numberOfLeadingZeros", "(I)I"⟩
abbrev b_IN_numberOfLeadingZeros : ByteArray := prog_4_method_47_code
def y_SM_leastTree : MethodName := ⟨R_SM, "leastTree", "(I)I"⟩
abbrev b_SM_leastTree : ByteArray := prog_1_method_17_code
def y_SM_take : MethodName := ⟨R_SM, "take", "(I)J"⟩
abbrev b_SM_take : ByteArray := prog_1_method_21_code
def y_SM_remove : MethodName := ⟨R_SM, "remove", "(II)V"⟩
abbrev b_SM_remove : ByteArray := prog_1_method_19_code
def y_SM_norm : MethodName := ⟨R_SM, "norm", "(I)I"⟩
abbrev b_SM_norm : ByteArray := prog_1_method_13_code
def y_SM_put : MethodName := ⟨R_SM, "put", "(II)I"⟩
abbrev b_SM_put : ByteArray := prog_1_method_12_code
def y_SM_turned : MethodName := ⟨R_SM, "turned", "(I)I"⟩
abbrev b_SM_turned : ByteArray := prog_1_method_20_code
def y_SM_merge : MethodName := ⟨R_SM, "merge", "(II)I"⟩
abbrev b_SM_merge : ByteArray := prog_1_method_14_code
def y_SM_release : MethodName := ⟨R_SM, "release", "(I)V"⟩
abbrev b_SM_release : ByteArray := prog_1_method_8_code
def y_SM_meld : MethodName := ⟨R_SM, "meld", "(II)I"⟩
abbrev b_SM_meld : ByteArray := prog_1_method_22_code
def y_SM_size : MethodName := ⟨R_SM, "size", "(I)I"⟩
abbrev b_SM_size : ByteArray := prog_1_method_23_code
def y_SM_key : MethodName := ⟨R_SM, "key", "(II)J"⟩
abbrev b_SM_key : ByteArray := prog_1_method_26_code
def y_SM_walk : MethodName := ⟨R_SM, "walk", "(I)V"⟩
abbrev b_SM_walk : ByteArray := prog_1_method_25_code
def y_SM_await : MethodName := ⟨R_SM, "await", "(I)V"⟩
abbrev b_SM_await : ByteArray := prog_1_method_24_code
def y_SM_sum : MethodName := ⟨R_SM, "sum", "(I)J"⟩
abbrev b_SM_sum : ByteArray := prog_1_method_27_code
def y_SM_free : MethodName := ⟨R_SM, "free", "()I"⟩
abbrev b_SM_free : ByteArray := prog_1_method_28_code
def y_SM_few : MethodName := ⟨R_SM, "few", "()Z"⟩
abbrev b_SM_few : ByteArray := prog_1_method_29_code
def y_MD_init : MethodName := ⟨R_MD, "<init>", "()V"⟩
abbrev b_MD_init : ByteArray := prog_3_method_1_code
def y_MD_heap : MethodName := ⟨R_MD, "heap", "()I"⟩
abbrev b_MD_heap : ByteArray := prog_3_method_4_code
def y_MD_add : MethodName := ⟨R_MD, "add", "(II)I"⟩
abbrev b_MD_add : ByteArray := prog_3_method_6_code
def y_MD_isHeap : MethodName := ⟨R_MD, "isHeap", "(I)Z"⟩
abbrev b_MD_isHeap : ByteArray := prog_3_method_3_code
def y_MD_sizeOf : MethodName := ⟨R_MD, "sizeOf", "(I)I"⟩
abbrev b_MD_sizeOf : ByteArray := prog_3_method_5_code
def y_MD_least : MethodName := ⟨R_MD, "least", "(I)J"⟩
abbrev b_MD_least : ByteArray := prog_3_method_9_code
def y_MD_untell : MethodName := ⟨R_MD, "untell", "()V"⟩
abbrev b_MD_untell : ByteArray := prog_3_method_8_code
def y_MD_placeOf : MethodName := ⟨R_MD, "placeOf", "(I)I"⟩
abbrev b_MD_placeOf : ByteArray := prog_3_method_7_code
def y_MD_take : MethodName := ⟨R_MD, "take", "(I)J"⟩
abbrev b_MD_take : ByteArray := prog_3_method_10_code
def y_MD_meld : MethodName := ⟨R_MD, "meld", "(II)I"⟩
abbrev b_MD_meld : ByteArray := prog_3_method_11_code
def y_MD_size : MethodName := ⟨R_MD, "size", "(I)I"⟩
abbrev b_MD_size : ByteArray := prog_3_method_12_code
def y_MD_key : MethodName := ⟨R_MD, "key", "(II)J"⟩
abbrev b_MD_key : ByteArray := prog_3_method_13_code
def y_MD_sum : MethodName := ⟨R_MD, "sum", "(I)J"⟩
abbrev b_MD_sum : ByteArray := prog_3_method_14_code
def y_MD_free : MethodName := ⟨R_MD, "free", "()I"⟩
abbrev b_MD_free : ByteArray := prog_3_method_15_code
def y_MD_few : MethodName := ⟨R_MD, "few", "()Z"⟩
abbrev b_MD_few : ByteArray := prog_3_method_16_code
-- the words: all of the tables that go along with a call
def lw_big : List Cond := lw_tbl.filter goodWord
theorem big_in {w : Cond} (h : w ∈ lw_tbl) (hg : goodWord w = true) : w ∈ lw_big := List.mem_filter.mpr ⟨h, hg⟩
theorem big_at {w : Cond} (i : Nat) (h : lw_tbl[i]? = some w) (hg : goodWord w = true) : w ∈ lw_big := big_in (List.mem_of_getElem? h) hg
theorem big_tbl {w : Cond} (h : w ∈ lw_big) : w ∈ lw_tbl := (List.mem_filter.mp h).1
theorem big_g {w : Cond} (h : w ∈ lw_big) : w ∈ lw_big ∧ ((w.onTables && w.keeps) = true ∨ ∃ ty, w = .arrayClass ty) := ⟨h, good_of_word (List.mem_filter.mp h).2⟩
theorem big_gI {cd : Cond} (h5 : cd ∈ lw_big) : GoodIn lw_big (cd :: lw_big) := by
  intro w hw
  rcases List.mem_cons.mp hw with rfl | hw
  · exact big_g h5
  · exact big_g hw
theorem big_gV {own C : String} {idx : Nat} {y : MethodName} {cd : Cond} (h1 : Cond.methodLink own idx y ∈ lw_big) (h2 : Cond.instanceMethod y ∈ lw_big) (h3 : Cond.selects C y y ∈ lw_big) (h4 : Cond.initialized C ∈ lw_big) (h5 : cd ∈ lw_big) : GoodIn lw_big (wsV own idx C y (cd :: lw_big)) := by
  intro w hw
  unfold wsV at hw
  rcases List.mem_append.mp hw with hw | hw
  · rcases List.mem_cons.mp hw with rfl | hw
    · exact big_g h1
    rcases List.mem_cons.mp hw with rfl | hw
    · exact big_g h2
    rcases List.mem_cons.mp hw with rfl | hw
    · exact big_g h3
    rcases List.mem_cons.mp hw with rfl | hw
    · exact big_g h4
    exact absurd hw List.not_mem_nil
  · exact big_gI h5 w hw
theorem big_gS {own : String} {idx : Nat} {y : MethodName} {cd : Cond} (h1 : Cond.methodLink own idx y ∈ lw_big) (h2 : Cond.static y ∈ lw_big) (h4 : Cond.initialized y.cls ∈ lw_big) (h5 : cd ∈ lw_big) : GoodIn lw_big (va_wsS own idx y (cd :: lw_big)) := by
  intro w hw
  unfold va_wsS at hw
  rcases List.mem_append.mp hw with hw | hw
  · rcases List.mem_cons.mp hw with rfl | hw
    · exact big_g h1
    rcases List.mem_cons.mp hw with rfl | hw
    · exact big_g h2
    rcases List.mem_cons.mp hw with rfl | hw
    · exact big_g h4
    exact absurd hw List.not_mem_nil
  · exact big_gI h5 w hw
theorem ms_SM_begin : (.selects R_SM y_SM_begin y_SM_begin : Cond) ∈ lw_big := big_at 0 (by decide +kernel) (by decide +kernel)
theorem ms_SM_isHeap : (.selects R_SM y_SM_isHeap y_SM_isHeap : Cond) ∈ lw_big := big_at 1 (by decide +kernel) (by decide +kernel)
theorem ms_SM_make : (.selects R_SM y_SM_make y_SM_make : Cond) ∈ lw_big := big_at 2 (by decide +kernel) (by decide +kernel)
theorem ms_SM_get : (.selects R_SM y_SM_get y_SM_get : Cond) ∈ lw_big := big_at 3 (by decide +kernel) (by decide +kernel)
theorem ms_SM_set : (.selects R_SM y_SM_set y_SM_set : Cond) ∈ lw_big := big_at 4 (by decide +kernel) (by decide +kernel)
theorem ms_SM_insert : (.selects R_SM y_SM_insert y_SM_insert : Cond) ∈ lw_big := big_at 5 (by decide +kernel) (by decide +kernel)
theorem ms_SM_skewLink : (.selects R_SM y_SM_skewLink y_SM_skewLink : Cond) ∈ lw_big := big_at 6 (by decide +kernel) (by decide +kernel)
theorem ms_SM_link : (.selects R_SM y_SM_link y_SM_link : Cond) ∈ lw_big := big_at 7 (by decide +kernel) (by decide +kernel)
theorem ms_SM_leastTree : (.selects R_SM y_SM_leastTree y_SM_leastTree : Cond) ∈ lw_big := big_at 8 (by decide +kernel) (by decide +kernel)
theorem ms_SM_remove : (.selects R_SM y_SM_remove y_SM_remove : Cond) ∈ lw_big := big_at 9 (by decide +kernel) (by decide +kernel)
theorem ms_SM_norm : (.selects R_SM y_SM_norm y_SM_norm : Cond) ∈ lw_big := big_at 10 (by decide +kernel) (by decide +kernel)
theorem ms_SM_put : (.selects R_SM y_SM_put y_SM_put : Cond) ∈ lw_big := big_at 11 (by decide +kernel) (by decide +kernel)
theorem ms_SM_turned : (.selects R_SM y_SM_turned y_SM_turned : Cond) ∈ lw_big := big_at 12 (by decide +kernel) (by decide +kernel)
theorem ms_SM_merge : (.selects R_SM y_SM_merge y_SM_merge : Cond) ∈ lw_big := big_at 13 (by decide +kernel) (by decide +kernel)
theorem ms_SM_release : (.selects R_SM y_SM_release y_SM_release : Cond) ∈ lw_big := big_at 14 (by decide +kernel) (by decide +kernel)
theorem ms_SM_walk : (.selects R_SM y_SM_walk y_SM_walk : Cond) ∈ lw_big := big_at 15 (by decide +kernel) (by decide +kernel)
theorem ms_SM_await : (.selects R_SM y_SM_await y_SM_await : Cond) ∈ lw_big := big_at 16 (by decide +kernel) (by decide +kernel)
theorem ms_MD_isHeap : (.selects R_MD y_MD_isHeap y_MD_isHeap : Cond) ∈ lw_big := big_at 17 (by decide +kernel) (by decide +kernel)
theorem ms_MD_sizeOf : (.selects R_MD y_MD_sizeOf y_MD_sizeOf : Cond) ∈ lw_big := big_at 18 (by decide +kernel) (by decide +kernel)
theorem ms_MD_untell : (.selects R_MD y_MD_untell y_MD_untell : Cond) ∈ lw_big := big_at 19 (by decide +kernel) (by decide +kernel)
theorem ms_MD_placeOf : (.selects R_MD y_MD_placeOf y_MD_placeOf : Cond) ∈ lw_big := big_at 20 (by decide +kernel) (by decide +kernel)
theorem mi_law : (.initialized R_law : Cond) ∈ lw_big := big_at 21 (by decide +kernel) (by decide +kernel)
theorem mi_SM : (.initialized R_SM : Cond) ∈ lw_big := big_at 22 (by decide +kernel) (by decide +kernel)
theorem mi_MD : (.initialized R_MD : Cond) ∈ lw_big := big_at 23 (by decide +kernel) (by decide +kernel)
theorem mi_IN : (.initialized R_IN : Cond) ∈ lw_big := big_at 24 (by decide +kernel) (by decide +kernel)
theorem mc_law_7 : (.classLink R_law 7 R_SM : Cond) ∈ lw_big := big_at 25 (by decide +kernel) (by decide +kernel)
theorem mz_SM : (.instantiable R_SM 16 : Cond) ∈ lw_big := big_at 26 (by decide +kernel) (by decide +kernel)
theorem ml_law_9 : (.methodLink R_law 9 y_SM_init : Cond) ∈ lw_big := big_at 27 (by decide +kernel) (by decide +kernel)
theorem mm_SM_init : (.instanceMethod y_SM_init : Cond) ∈ lw_big := big_at 28 (by decide +kernel) (by decide +kernel)
theorem mb_SM_init : (.code y_SM_init b_SM_init 2 none : Cond) ∈ lw_big := big_at 29 (rfl) (by decide +kernel)
theorem ml_SM_1 : (.methodLink R_SM 1 objectInit : Cond) ∈ lw_big := big_at 30 (by decide +kernel) (by decide +kernel)
theorem mm_objectInit : (.instanceMethod objectInit : Cond) ∈ lw_big := big_at 31 (by decide +kernel) (by decide +kernel)
theorem mb_objectInit : (.code objectInit ⟨#[0xb1]⟩ 1 none : Cond) ∈ lw_big := big_at 32 (rfl) (by decide +kernel)
theorem mf_SM_7 : (.fieldLink R_SM 7 "SkewMelds" "keys" "[I" : Cond) ∈ lw_big := big_at 33 (by decide +kernel) (by decide +kernel)
theorem mf_SM_13 : (.fieldLink R_SM 13 "SkewMelds" "ranks" "[I" : Cond) ∈ lw_big := big_at 34 (by decide +kernel) (by decide +kernel)
theorem mf_SM_16 : (.fieldLink R_SM 16 "SkewMelds" "childs" "[I" : Cond) ∈ lw_big := big_at 35 (by decide +kernel) (by decide +kernel)
theorem mf_SM_19 : (.fieldLink R_SM 19 "SkewMelds" "nexts" "[I" : Cond) ∈ lw_big := big_at 36 (by decide +kernel) (by decide +kernel)
theorem mf_SM_22 : (.fieldLink R_SM 22 "SkewMelds" "singles" "[I" : Cond) ∈ lw_big := big_at 37 (by decide +kernel) (by decide +kernel)
theorem mf_SM_56 : (.fieldLink R_SM 56 "SkewMelds" "unused" "I" : Cond) ∈ lw_big := big_at 38 (by decide +kernel) (by decide +kernel)
theorem mf_SM_25 : (.fieldLink R_SM 25 "SkewMelds" "unusedCount" "I" : Cond) ∈ lw_big := big_at 39 (by decide +kernel) (by decide +kernel)
theorem mf_SM_41 : (.fieldLink R_SM 41 "SkewMelds" "heaps" "I" : Cond) ∈ lw_big := big_at 40 (by decide +kernel) (by decide +kernel)
theorem mf_SM_29 : (.fieldLink R_SM 29 "SkewMelds" "firsts" "[I" : Cond) ∈ lw_big := big_at 41 (by decide +kernel) (by decide +kernel)
theorem mf_SM_32 : (.fieldLink R_SM 32 "SkewMelds" "sizes" "[I" : Cond) ∈ lw_big := big_at 42 (by decide +kernel) (by decide +kernel)
theorem mf_SM_44 : (.fieldLink R_SM 44 "SkewMelds" "steps" "I" : Cond) ∈ lw_big := big_at 43 (by decide +kernel) (by decide +kernel)
theorem mf_SM_47 : (.fieldLink R_SM 47 "SkewMelds" "most" "I" : Cond) ∈ lw_big := big_at 44 (by decide +kernel) (by decide +kernel)
theorem mf_SM_35 : (.fieldLink R_SM 35 "SkewMelds" "heapOrder" "[I" : Cond) ∈ lw_big := big_at 45 (by decide +kernel) (by decide +kernel)
theorem mf_SM_38 : (.fieldLink R_SM 38 "SkewMelds" "waiting" "[I" : Cond) ∈ lw_big := big_at 46 (by decide +kernel) (by decide +kernel)
theorem mf_SM_119 : (.fieldLink R_SM 119 "SkewMelds" "waitingCount" "I" : Cond) ∈ lw_big := big_at 47 (by decide +kernel) (by decide +kernel)
theorem mf_SM_122 : (.fieldLink R_SM 122 "SkewMelds" "seen" "I" : Cond) ∈ lw_big := big_at 48 (by decide +kernel) (by decide +kernel)
theorem ma_int : (.arrayClass .int : Cond) ∈ lw_big := big_at 82 (by decide +kernel) (by decide +kernel)
theorem ml_law_13 : (.methodLink R_law 13 y_SM_heap : Cond) ∈ lw_big := big_at 83 (by decide +kernel) (by decide +kernel)
theorem mm_SM_heap : (.instanceMethod y_SM_heap : Cond) ∈ lw_big := big_at 84 (by decide +kernel) (by decide +kernel)
theorem ms_SM_heap : (.selects R_SM y_SM_heap y_SM_heap : Cond) ∈ lw_big := big_at 85 (by decide +kernel) (by decide +kernel)
theorem mb_SM_heap : (.code y_SM_heap b_SM_heap 1 (some .int) : Cond) ∈ lw_big := big_at 86 (rfl) (by decide +kernel)
theorem mk_SM_78 : (.constant R_SM 78 (2147483647) : Cond) ∈ lw_big := big_at 87 (by decide +kernel) (by decide +kernel)
theorem ml_SM_79 : (.methodLink R_SM 79 y_SM_begin : Cond) ∈ lw_big := big_at 88 (by decide +kernel) (by decide +kernel)
theorem mm_SM_begin : (.instanceMethod y_SM_begin : Cond) ∈ lw_big := big_at 90 (by decide +kernel) (by decide +kernel)
theorem mb_SM_begin : (.code y_SM_begin b_SM_begin 2 none : Cond) ∈ lw_big := big_at 91 (rfl) (by decide +kernel)
theorem ml_law_18 : (.methodLink R_law 18 y_SM_add : Cond) ∈ lw_big := big_at 92 (by decide +kernel) (by decide +kernel)
theorem mm_SM_add : (.instanceMethod y_SM_add : Cond) ∈ lw_big := big_at 93 (by decide +kernel) (by decide +kernel)
theorem ms_SM_add : (.selects R_SM y_SM_add y_SM_add : Cond) ∈ lw_big := big_at 94 (by decide +kernel) (by decide +kernel)
theorem mb_SM_add : (.code y_SM_add b_SM_add 4 (some .int) : Cond) ∈ lw_big := big_at 95 (rfl) (by decide +kernel)
theorem ml_SM_83 : (.methodLink R_SM 83 y_SM_isHeap : Cond) ∈ lw_big := big_at 96 (by decide +kernel) (by decide +kernel)
theorem mm_SM_isHeap : (.instanceMethod y_SM_isHeap : Cond) ∈ lw_big := big_at 98 (by decide +kernel) (by decide +kernel)
theorem mb_SM_isHeap : (.code y_SM_isHeap b_SM_isHeap 2 (some .boolean) : Cond) ∈ lw_big := big_at 99 (rfl) (by decide +kernel)
theorem ml_SM_87 : (.methodLink R_SM 87 y_SM_make : Cond) ∈ lw_big := big_at 100 (by decide +kernel) (by decide +kernel)
theorem mm_SM_make : (.instanceMethod y_SM_make : Cond) ∈ lw_big := big_at 102 (by decide +kernel) (by decide +kernel)
theorem mb_SM_make : (.code y_SM_make b_SM_make 3 (some .int) : Cond) ∈ lw_big := big_at 103 (rfl) (by decide +kernel)
theorem ml_SM_59 : (.methodLink R_SM 59 y_SM_get : Cond) ∈ lw_big := big_at 104 (by decide +kernel) (by decide +kernel)
theorem mm_SM_get : (.instanceMethod y_SM_get : Cond) ∈ lw_big := big_at 106 (by decide +kernel) (by decide +kernel)
theorem mb_SM_get : (.code y_SM_get b_SM_get 3 (some .int) : Cond) ∈ lw_big := big_at 107 (rfl) (by decide +kernel)
theorem ml_SM_63 : (.methodLink R_SM 63 y_SM_set : Cond) ∈ lw_big := big_at 108 (by decide +kernel) (by decide +kernel)
theorem mm_SM_set : (.instanceMethod y_SM_set : Cond) ∈ lw_big := big_at 110 (by decide +kernel) (by decide +kernel)
theorem mb_SM_set : (.code y_SM_set b_SM_set 4 none : Cond) ∈ lw_big := big_at 111 (rfl) (by decide +kernel)
theorem ml_SM_90 : (.methodLink R_SM 90 y_SM_insert : Cond) ∈ lw_big := big_at 112 (by decide +kernel) (by decide +kernel)
theorem mm_SM_insert : (.instanceMethod y_SM_insert : Cond) ∈ lw_big := big_at 114 (by decide +kernel) (by decide +kernel)
theorem mb_SM_insert : (.code y_SM_insert b_SM_insert 6 (some .int) : Cond) ∈ lw_big := big_at 115 (rfl) (by decide +kernel)
theorem ml_SM_71 : (.methodLink R_SM 71 y_SM_skewLink : Cond) ∈ lw_big := big_at 116 (by decide +kernel) (by decide +kernel)
theorem mm_SM_skewLink : (.instanceMethod y_SM_skewLink : Cond) ∈ lw_big := big_at 118 (by decide +kernel) (by decide +kernel)
theorem mb_SM_skewLink : (.code y_SM_skewLink b_SM_skewLink 7 (some .int) : Cond) ∈ lw_big := big_at 119 (rfl) (by decide +kernel)
theorem ml_SM_67 : (.methodLink R_SM 67 y_SM_link : Cond) ∈ lw_big := big_at 120 (by decide +kernel) (by decide +kernel)
theorem mm_SM_link : (.instanceMethod y_SM_link : Cond) ∈ lw_big := big_at 122 (by decide +kernel) (by decide +kernel)
theorem mb_SM_link : (.code y_SM_link b_SM_link 6 (some .int) : Cond) ∈ lw_big := big_at 123 (rfl) (by decide +kernel)
theorem ml_law_23 : (.methodLink R_law 23 y_SM_least : Cond) ∈ lw_big := big_at 124 (by decide +kernel) (by decide +kernel)
theorem mm_SM_least : (.instanceMethod y_SM_least : Cond) ∈ lw_big := big_at 125 (by decide +kernel) (by decide +kernel)
theorem ms_SM_least : (.selects R_SM y_SM_least y_SM_least : Cond) ∈ lw_big := big_at 126 (by decide +kernel) (by decide +kernel)
theorem mb_SM_least : (.code y_SM_least b_SM_least 2 (some .long) : Cond) ∈ lw_big := big_at 127 (rfl) (by decide +kernel)
theorem ml_SM_93 : (.methodLink R_SM 93 y_SM_fewFor : Cond) ∈ lw_big := big_at 128 (by decide +kernel) (by decide +kernel)
theorem mt_SM_fewFor : (.static y_SM_fewFor : Cond) ∈ lw_big := big_at 129 (by decide +kernel) (by decide +kernel)
theorem mb_SM_fewFor : (.code y_SM_fewFor b_SM_fewFor 1 (some .int) : Cond) ∈ lw_big := big_at 130 (rfl) (by decide +kernel)
theorem ml_SM_50 : (.methodLink R_SM 50 y_IN_numberOfLeadingZeros : Cond) ∈ lw_big := big_at 131 (by decide +kernel) (by decide +kernel)
theorem mt_IN_numberOfLeadingZeros : (.static y_IN_numberOfLeadingZeros : Cond) ∈ lw_big := big_at 132 (by decide +kernel) (by decide +kernel)
theorem mb_IN_numberOfLeadingZeros : (.code y_IN_numberOfLeadingZeros b_IN_numberOfLeadingZeros 2 (some .int) : Cond) ∈ lw_big := big_at 133 (rfl) (by decide +kernel)
theorem mk_IN_264 : (.constant R_IN 264 (65536) : Cond) ∈ lw_big := big_at 134 (by decide +kernel) (by decide +kernel)
theorem ml_SM_96 : (.methodLink R_SM 96 y_SM_leastTree : Cond) ∈ lw_big := big_at 135 (by decide +kernel) (by decide +kernel)
theorem mm_SM_leastTree : (.instanceMethod y_SM_leastTree : Cond) ∈ lw_big := big_at 137 (by decide +kernel) (by decide +kernel)
theorem mb_SM_leastTree : (.code y_SM_leastTree b_SM_leastTree 4 (some .int) : Cond) ∈ lw_big := big_at 138 (rfl) (by decide +kernel)
theorem mk_SM_101 : (.constantLong R_SM 101 (-9223372036854775808) : Cond) ∈ lw_big := big_at 139 (by decide +kernel) (by decide +kernel)
theorem ml_law_28 : (.methodLink R_law 28 y_SM_take : Cond) ∈ lw_big := big_at 140 (by decide +kernel) (by decide +kernel)
theorem mm_SM_take : (.instanceMethod y_SM_take : Cond) ∈ lw_big := big_at 141 (by decide +kernel) (by decide +kernel)
theorem ms_SM_take : (.selects R_SM y_SM_take y_SM_take : Cond) ∈ lw_big := big_at 142 (by decide +kernel) (by decide +kernel)
theorem mb_SM_take : (.code y_SM_take b_SM_take 7 (some .long) : Cond) ∈ lw_big := big_at 143 (rfl) (by decide +kernel)
theorem ml_SM_103 : (.methodLink R_SM 103 y_SM_remove : Cond) ∈ lw_big := big_at 144 (by decide +kernel) (by decide +kernel)
theorem mm_SM_remove : (.instanceMethod y_SM_remove : Cond) ∈ lw_big := big_at 146 (by decide +kernel) (by decide +kernel)
theorem mb_SM_remove : (.code y_SM_remove b_SM_remove 5 none : Cond) ∈ lw_big := big_at 147 (rfl) (by decide +kernel)
theorem ml_SM_107 : (.methodLink R_SM 107 y_SM_norm : Cond) ∈ lw_big := big_at 148 (by decide +kernel) (by decide +kernel)
theorem mm_SM_norm : (.instanceMethod y_SM_norm : Cond) ∈ lw_big := big_at 150 (by decide +kernel) (by decide +kernel)
theorem mb_SM_norm : (.code y_SM_norm b_SM_norm 2 (some .int) : Cond) ∈ lw_big := big_at 151 (rfl) (by decide +kernel)
theorem ml_SM_75 : (.methodLink R_SM 75 y_SM_put : Cond) ∈ lw_big := big_at 152 (by decide +kernel) (by decide +kernel)
theorem mm_SM_put : (.instanceMethod y_SM_put : Cond) ∈ lw_big := big_at 154 (by decide +kernel) (by decide +kernel)
theorem mb_SM_put : (.code y_SM_put b_SM_put 6 (some .int) : Cond) ∈ lw_big := big_at 155 (rfl) (by decide +kernel)
theorem ml_SM_110 : (.methodLink R_SM 110 y_SM_turned : Cond) ∈ lw_big := big_at 156 (by decide +kernel) (by decide +kernel)
theorem mm_SM_turned : (.instanceMethod y_SM_turned : Cond) ∈ lw_big := big_at 158 (by decide +kernel) (by decide +kernel)
theorem mb_SM_turned : (.code y_SM_turned b_SM_turned 5 (some .int) : Cond) ∈ lw_big := big_at 159 (rfl) (by decide +kernel)
theorem ml_SM_113 : (.methodLink R_SM 113 y_SM_merge : Cond) ∈ lw_big := big_at 160 (by decide +kernel) (by decide +kernel)
theorem mm_SM_merge : (.instanceMethod y_SM_merge : Cond) ∈ lw_big := big_at 162 (by decide +kernel) (by decide +kernel)
theorem mb_SM_merge : (.code y_SM_merge b_SM_merge 9 (some .int) : Cond) ∈ lw_big := big_at 163 (rfl) (by decide +kernel)
theorem ml_SM_116 : (.methodLink R_SM 116 y_SM_release : Cond) ∈ lw_big := big_at 164 (by decide +kernel) (by decide +kernel)
theorem mm_SM_release : (.instanceMethod y_SM_release : Cond) ∈ lw_big := big_at 166 (by decide +kernel) (by decide +kernel)
theorem mb_SM_release : (.code y_SM_release b_SM_release 2 none : Cond) ∈ lw_big := big_at 167 (rfl) (by decide +kernel)
theorem ml_law_32 : (.methodLink R_law 32 y_SM_meld : Cond) ∈ lw_big := big_at 168 (by decide +kernel) (by decide +kernel)
theorem mm_SM_meld : (.instanceMethod y_SM_meld : Cond) ∈ lw_big := big_at 169 (by decide +kernel) (by decide +kernel)
theorem ms_SM_meld : (.selects R_SM y_SM_meld y_SM_meld : Cond) ∈ lw_big := big_at 170 (by decide +kernel) (by decide +kernel)
theorem mb_SM_meld : (.code y_SM_meld b_SM_meld 4 (some .int) : Cond) ∈ lw_big := big_at 171 (rfl) (by decide +kernel)
theorem ml_law_36 : (.methodLink R_law 36 y_SM_size : Cond) ∈ lw_big := big_at 172 (by decide +kernel) (by decide +kernel)
theorem mm_SM_size : (.instanceMethod y_SM_size : Cond) ∈ lw_big := big_at 173 (by decide +kernel) (by decide +kernel)
theorem ms_SM_size : (.selects R_SM y_SM_size y_SM_size : Cond) ∈ lw_big := big_at 174 (by decide +kernel) (by decide +kernel)
theorem mb_SM_size : (.code y_SM_size b_SM_size 2 (some .int) : Cond) ∈ lw_big := big_at 175 (rfl) (by decide +kernel)
theorem ml_law_41 : (.methodLink R_law 41 y_SM_key : Cond) ∈ lw_big := big_at 176 (by decide +kernel) (by decide +kernel)
theorem mm_SM_key : (.instanceMethod y_SM_key : Cond) ∈ lw_big := big_at 177 (by decide +kernel) (by decide +kernel)
theorem ms_SM_key : (.selects R_SM y_SM_key y_SM_key : Cond) ∈ lw_big := big_at 178 (by decide +kernel) (by decide +kernel)
theorem mb_SM_key : (.code y_SM_key b_SM_key 3 (some .long) : Cond) ∈ lw_big := big_at 179 (rfl) (by decide +kernel)
theorem ml_SM_128 : (.methodLink R_SM 128 y_SM_walk : Cond) ∈ lw_big := big_at 180 (by decide +kernel) (by decide +kernel)
theorem mm_SM_walk : (.instanceMethod y_SM_walk : Cond) ∈ lw_big := big_at 182 (by decide +kernel) (by decide +kernel)
theorem mb_SM_walk : (.code y_SM_walk b_SM_walk 4 none : Cond) ∈ lw_big := big_at 183 (rfl) (by decide +kernel)
theorem ml_SM_125 : (.methodLink R_SM 125 y_SM_await : Cond) ∈ lw_big := big_at 184 (by decide +kernel) (by decide +kernel)
theorem mm_SM_await : (.instanceMethod y_SM_await : Cond) ∈ lw_big := big_at 186 (by decide +kernel) (by decide +kernel)
theorem mb_SM_await : (.code y_SM_await b_SM_await 3 none : Cond) ∈ lw_big := big_at 187 (rfl) (by decide +kernel)
theorem ml_law_46 : (.methodLink R_law 46 y_SM_sum : Cond) ∈ lw_big := big_at 188 (by decide +kernel) (by decide +kernel)
theorem mm_SM_sum : (.instanceMethod y_SM_sum : Cond) ∈ lw_big := big_at 189 (by decide +kernel) (by decide +kernel)
theorem ms_SM_sum : (.selects R_SM y_SM_sum y_SM_sum : Cond) ∈ lw_big := big_at 190 (by decide +kernel) (by decide +kernel)
theorem mb_SM_sum : (.code y_SM_sum b_SM_sum 5 (some .long) : Cond) ∈ lw_big := big_at 191 (rfl) (by decide +kernel)
theorem ml_law_50 : (.methodLink R_law 50 y_SM_free : Cond) ∈ lw_big := big_at 192 (by decide +kernel) (by decide +kernel)
theorem mm_SM_free : (.instanceMethod y_SM_free : Cond) ∈ lw_big := big_at 193 (by decide +kernel) (by decide +kernel)
theorem ms_SM_free : (.selects R_SM y_SM_free y_SM_free : Cond) ∈ lw_big := big_at 194 (by decide +kernel) (by decide +kernel)
theorem mb_SM_free : (.code y_SM_free b_SM_free 1 (some .int) : Cond) ∈ lw_big := big_at 195 (rfl) (by decide +kernel)
theorem ml_law_54 : (.methodLink R_law 54 y_SM_few : Cond) ∈ lw_big := big_at 196 (by decide +kernel) (by decide +kernel)
theorem mm_SM_few : (.instanceMethod y_SM_few : Cond) ∈ lw_big := big_at 197 (by decide +kernel) (by decide +kernel)
theorem ms_SM_few : (.selects R_SM y_SM_few y_SM_few : Cond) ∈ lw_big := big_at 198 (by decide +kernel) (by decide +kernel)
theorem mb_SM_few : (.code y_SM_few b_SM_few 1 (some .boolean) : Cond) ∈ lw_big := big_at 199 (rfl) (by decide +kernel)
theorem mc_law_10 : (.classLink R_law 10 R_MD : Cond) ∈ lw_big := big_at 200 (by decide +kernel) (by decide +kernel)
theorem mz_MD : (.instantiable R_MD 5 : Cond) ∈ lw_big := big_at 201 (by decide +kernel) (by decide +kernel)
theorem ml_law_12 : (.methodLink R_law 12 y_MD_init : Cond) ∈ lw_big := big_at 202 (by decide +kernel) (by decide +kernel)
theorem mm_MD_init : (.instanceMethod y_MD_init : Cond) ∈ lw_big := big_at 203 (by decide +kernel) (by decide +kernel)
theorem mb_MD_init : (.code y_MD_init b_MD_init 1 none : Cond) ∈ lw_big := big_at 204 (rfl) (by decide +kernel)
theorem ml_MD_1 : (.methodLink R_MD 1 objectInit : Cond) ∈ lw_big := big_at 205 (by decide +kernel) (by decide +kernel)
theorem mf_MD_20 : (.fieldLink R_MD 20 "SkewMeldsModel" "heaps" "I" : Cond) ∈ lw_big := big_at 206 (by decide +kernel) (by decide +kernel)
theorem mf_MD_24 : (.fieldLink R_MD 24 "SkewMeldsModel" "used" "I" : Cond) ∈ lw_big := big_at 207 (by decide +kernel) (by decide +kernel)
theorem mf_MD_7 : (.fieldLink R_MD 7 "SkewMeldsModel" "owners" "[I" : Cond) ∈ lw_big := big_at 208 (by decide +kernel) (by decide +kernel)
theorem mf_MD_13 : (.fieldLink R_MD 13 "SkewMeldsModel" "keys" "[I" : Cond) ∈ lw_big := big_at 209 (by decide +kernel) (by decide +kernel)
theorem mf_MD_16 : (.fieldLink R_MD 16 "SkewMeldsModel" "told" "[Z" : Cond) ∈ lw_big := big_at 210 (by decide +kernel) (by decide +kernel)
theorem ma_boolean : (.arrayClass .boolean : Cond) ∈ lw_big := big_at 222 (by decide +kernel) (by decide +kernel)
theorem ml_law_17 : (.methodLink R_law 17 y_MD_heap : Cond) ∈ lw_big := big_at 223 (by decide +kernel) (by decide +kernel)
theorem mm_MD_heap : (.instanceMethod y_MD_heap : Cond) ∈ lw_big := big_at 224 (by decide +kernel) (by decide +kernel)
theorem ms_MD_heap : (.selects R_MD y_MD_heap y_MD_heap : Cond) ∈ lw_big := big_at 225 (by decide +kernel) (by decide +kernel)
theorem mb_MD_heap : (.code y_MD_heap b_MD_heap 1 (some .int) : Cond) ∈ lw_big := big_at 226 (rfl) (by decide +kernel)
theorem ml_law_22 : (.methodLink R_law 22 y_MD_add : Cond) ∈ lw_big := big_at 227 (by decide +kernel) (by decide +kernel)
theorem mm_MD_add : (.instanceMethod y_MD_add : Cond) ∈ lw_big := big_at 228 (by decide +kernel) (by decide +kernel)
theorem ms_MD_add : (.selects R_MD y_MD_add y_MD_add : Cond) ∈ lw_big := big_at 229 (by decide +kernel) (by decide +kernel)
theorem mb_MD_add : (.code y_MD_add b_MD_add 3 (some .int) : Cond) ∈ lw_big := big_at 230 (rfl) (by decide +kernel)
theorem ml_MD_27 : (.methodLink R_MD 27 y_MD_isHeap : Cond) ∈ lw_big := big_at 231 (by decide +kernel) (by decide +kernel)
theorem mm_MD_isHeap : (.instanceMethod y_MD_isHeap : Cond) ∈ lw_big := big_at 233 (by decide +kernel) (by decide +kernel)
theorem mb_MD_isHeap : (.code y_MD_isHeap b_MD_isHeap 2 (some .boolean) : Cond) ∈ lw_big := big_at 234 (rfl) (by decide +kernel)
theorem ml_MD_31 : (.methodLink R_MD 31 y_MD_sizeOf : Cond) ∈ lw_big := big_at 235 (by decide +kernel) (by decide +kernel)
theorem mm_MD_sizeOf : (.instanceMethod y_MD_sizeOf : Cond) ∈ lw_big := big_at 237 (by decide +kernel) (by decide +kernel)
theorem mb_MD_sizeOf : (.code y_MD_sizeOf b_MD_sizeOf 4 (some .int) : Cond) ∈ lw_big := big_at 238 (rfl) (by decide +kernel)
theorem ml_law_27 : (.methodLink R_law 27 y_MD_least : Cond) ∈ lw_big := big_at 239 (by decide +kernel) (by decide +kernel)
theorem mm_MD_least : (.instanceMethod y_MD_least : Cond) ∈ lw_big := big_at 240 (by decide +kernel) (by decide +kernel)
theorem ms_MD_least : (.selects R_MD y_MD_least y_MD_least : Cond) ∈ lw_big := big_at 241 (by decide +kernel) (by decide +kernel)
theorem mb_MD_least : (.code y_MD_least b_MD_least 3 (some .long) : Cond) ∈ lw_big := big_at 242 (rfl) (by decide +kernel)
theorem ml_MD_35 : (.methodLink R_MD 35 y_MD_untell : Cond) ∈ lw_big := big_at 243 (by decide +kernel) (by decide +kernel)
theorem mm_MD_untell : (.instanceMethod y_MD_untell : Cond) ∈ lw_big := big_at 245 (by decide +kernel) (by decide +kernel)
theorem mb_MD_untell : (.code y_MD_untell b_MD_untell 2 none : Cond) ∈ lw_big := big_at 246 (rfl) (by decide +kernel)
theorem ml_MD_38 : (.methodLink R_MD 38 y_MD_placeOf : Cond) ∈ lw_big := big_at 247 (by decide +kernel) (by decide +kernel)
theorem mm_MD_placeOf : (.instanceMethod y_MD_placeOf : Cond) ∈ lw_big := big_at 249 (by decide +kernel) (by decide +kernel)
theorem mb_MD_placeOf : (.code y_MD_placeOf b_MD_placeOf 4 (some .int) : Cond) ∈ lw_big := big_at 250 (rfl) (by decide +kernel)
theorem mk_MD_41 : (.constantLong R_MD 41 (-9223372036854775808) : Cond) ∈ lw_big := big_at 251 (by decide +kernel) (by decide +kernel)
theorem ml_law_31 : (.methodLink R_law 31 y_MD_take : Cond) ∈ lw_big := big_at 252 (by decide +kernel) (by decide +kernel)
theorem mm_MD_take : (.instanceMethod y_MD_take : Cond) ∈ lw_big := big_at 253 (by decide +kernel) (by decide +kernel)
theorem ms_MD_take : (.selects R_MD y_MD_take y_MD_take : Cond) ∈ lw_big := big_at 254 (by decide +kernel) (by decide +kernel)
theorem mb_MD_take : (.code y_MD_take b_MD_take 5 (some .long) : Cond) ∈ lw_big := big_at 255 (rfl) (by decide +kernel)
theorem ml_law_35 : (.methodLink R_law 35 y_MD_meld : Cond) ∈ lw_big := big_at 256 (by decide +kernel) (by decide +kernel)
theorem mm_MD_meld : (.instanceMethod y_MD_meld : Cond) ∈ lw_big := big_at 257 (by decide +kernel) (by decide +kernel)
theorem ms_MD_meld : (.selects R_MD y_MD_meld y_MD_meld : Cond) ∈ lw_big := big_at 258 (by decide +kernel) (by decide +kernel)
theorem mb_MD_meld : (.code y_MD_meld b_MD_meld 4 (some .int) : Cond) ∈ lw_big := big_at 259 (rfl) (by decide +kernel)
theorem ml_law_40 : (.methodLink R_law 40 y_MD_size : Cond) ∈ lw_big := big_at 260 (by decide +kernel) (by decide +kernel)
theorem mm_MD_size : (.instanceMethod y_MD_size : Cond) ∈ lw_big := big_at 261 (by decide +kernel) (by decide +kernel)
theorem ms_MD_size : (.selects R_MD y_MD_size y_MD_size : Cond) ∈ lw_big := big_at 262 (by decide +kernel) (by decide +kernel)
theorem mb_MD_size : (.code y_MD_size b_MD_size 2 (some .int) : Cond) ∈ lw_big := big_at 263 (rfl) (by decide +kernel)
theorem ml_law_45 : (.methodLink R_law 45 y_MD_key : Cond) ∈ lw_big := big_at 264 (by decide +kernel) (by decide +kernel)
theorem mm_MD_key : (.instanceMethod y_MD_key : Cond) ∈ lw_big := big_at 265 (by decide +kernel) (by decide +kernel)
theorem ms_MD_key : (.selects R_MD y_MD_key y_MD_key : Cond) ∈ lw_big := big_at 266 (by decide +kernel) (by decide +kernel)
theorem mb_MD_key : (.code y_MD_key b_MD_key 4 (some .long) : Cond) ∈ lw_big := big_at 267 (rfl) (by decide +kernel)
theorem ml_law_49 : (.methodLink R_law 49 y_MD_sum : Cond) ∈ lw_big := big_at 268 (by decide +kernel) (by decide +kernel)
theorem mm_MD_sum : (.instanceMethod y_MD_sum : Cond) ∈ lw_big := big_at 269 (by decide +kernel) (by decide +kernel)
theorem ms_MD_sum : (.selects R_MD y_MD_sum y_MD_sum : Cond) ∈ lw_big := big_at 270 (by decide +kernel) (by decide +kernel)
theorem mb_MD_sum : (.code y_MD_sum b_MD_sum 5 (some .long) : Cond) ∈ lw_big := big_at 271 (rfl) (by decide +kernel)
theorem ml_law_53 : (.methodLink R_law 53 y_MD_free : Cond) ∈ lw_big := big_at 272 (by decide +kernel) (by decide +kernel)
theorem mm_MD_free : (.instanceMethod y_MD_free : Cond) ∈ lw_big := big_at 273 (by decide +kernel) (by decide +kernel)
theorem ms_MD_free : (.selects R_MD y_MD_free y_MD_free : Cond) ∈ lw_big := big_at 274 (by decide +kernel) (by decide +kernel)
theorem mb_MD_free : (.code y_MD_free b_MD_free 1 (some .int) : Cond) ∈ lw_big := big_at 275 (rfl) (by decide +kernel)
theorem ml_law_58 : (.methodLink R_law 58 y_MD_few : Cond) ∈ lw_big := big_at 276 (by decide +kernel) (by decide +kernel)
theorem mm_MD_few : (.instanceMethod y_MD_few : Cond) ∈ lw_big := big_at 277 (by decide +kernel) (by decide +kernel)
theorem ms_MD_few : (.selects R_MD y_MD_few y_MD_few : Cond) ∈ lw_big := big_at 278 (by decide +kernel) (by decide +kernel)
theorem mb_MD_few : (.code y_MD_few b_MD_few 1 (some .boolean) : Cond) ∈ lw_big := big_at 279 (rfl) (by decide +kernel)
theorem i_SM : ∀ w ∈ u_ws R_SM F_SM 16, w ∈ lw_big := by decide +kernel
theorem i_MD : ∀ w ∈ u_ws R_MD F_MD 5, w ∈ lw_big := by decide +kernel
-- a method's words
def w_SM_init : List Cond := .code y_SM_init b_SM_init 2 none :: lw_big
theorem e_SM_init : w_SM_init = .code y_SM_init b_SM_init 2 none :: lw_big := rfl
def w_SM_heap : List Cond := .code y_SM_heap b_SM_heap 1 (some .int) :: lw_big
theorem e_SM_heap : w_SM_heap = .code y_SM_heap b_SM_heap 1 (some .int) :: lw_big := rfl
def w_SM_begin : List Cond := .code y_SM_begin b_SM_begin 2 none :: lw_big
theorem e_SM_begin : w_SM_begin = .code y_SM_begin b_SM_begin 2 none :: lw_big := rfl
def w_SM_add : List Cond := .code y_SM_add b_SM_add 4 (some .int) :: lw_big
theorem e_SM_add : w_SM_add = .code y_SM_add b_SM_add 4 (some .int) :: lw_big := rfl
def w_SM_isHeap : List Cond := .code y_SM_isHeap b_SM_isHeap 2 (some .boolean) :: lw_big
theorem e_SM_isHeap : w_SM_isHeap = .code y_SM_isHeap b_SM_isHeap 2 (some .boolean) :: lw_big := rfl
def w_SM_make : List Cond := .code y_SM_make b_SM_make 3 (some .int) :: lw_big
theorem e_SM_make : w_SM_make = .code y_SM_make b_SM_make 3 (some .int) :: lw_big := rfl
def w_SM_get : List Cond := .code y_SM_get b_SM_get 3 (some .int) :: lw_big
theorem e_SM_get : w_SM_get = .code y_SM_get b_SM_get 3 (some .int) :: lw_big := rfl
def w_SM_set : List Cond := .code y_SM_set b_SM_set 4 none :: lw_big
theorem e_SM_set : w_SM_set = .code y_SM_set b_SM_set 4 none :: lw_big := rfl
def w_SM_insert : List Cond := .code y_SM_insert b_SM_insert 6 (some .int) :: lw_big
theorem e_SM_insert : w_SM_insert = .code y_SM_insert b_SM_insert 6 (some .int) :: lw_big := rfl
def w_SM_skewLink : List Cond := .code y_SM_skewLink b_SM_skewLink 7 (some .int) :: lw_big
theorem e_SM_skewLink : w_SM_skewLink = .code y_SM_skewLink b_SM_skewLink 7 (some .int) :: lw_big := rfl
def w_SM_link : List Cond := .code y_SM_link b_SM_link 6 (some .int) :: lw_big
theorem e_SM_link : w_SM_link = .code y_SM_link b_SM_link 6 (some .int) :: lw_big := rfl
def w_SM_least : List Cond := .code y_SM_least b_SM_least 2 (some .long) :: lw_big
theorem e_SM_least : w_SM_least = .code y_SM_least b_SM_least 2 (some .long) :: lw_big := rfl
def w_SM_fewFor : List Cond := .code y_SM_fewFor b_SM_fewFor 1 (some .int) :: lw_big
theorem e_SM_fewFor : w_SM_fewFor = .code y_SM_fewFor b_SM_fewFor 1 (some .int) :: lw_big := rfl
def w_IN_numberOfLeadingZeros : List Cond := .code y_IN_numberOfLeadingZeros b_IN_numberOfLeadingZeros 2 (some .int) :: lw_big
theorem e_IN_numberOfLeadingZeros : w_IN_numberOfLeadingZeros = .code y_IN_numberOfLeadingZeros b_IN_numberOfLeadingZeros 2 (some .int) :: lw_big := rfl
def w_SM_leastTree : List Cond := .code y_SM_leastTree b_SM_leastTree 4 (some .int) :: lw_big
theorem e_SM_leastTree : w_SM_leastTree = .code y_SM_leastTree b_SM_leastTree 4 (some .int) :: lw_big := rfl
def w_SM_take : List Cond := .code y_SM_take b_SM_take 7 (some .long) :: lw_big
theorem e_SM_take : w_SM_take = .code y_SM_take b_SM_take 7 (some .long) :: lw_big := rfl
def w_SM_remove : List Cond := .code y_SM_remove b_SM_remove 5 none :: lw_big
theorem e_SM_remove : w_SM_remove = .code y_SM_remove b_SM_remove 5 none :: lw_big := rfl
def w_SM_norm : List Cond := .code y_SM_norm b_SM_norm 2 (some .int) :: lw_big
theorem e_SM_norm : w_SM_norm = .code y_SM_norm b_SM_norm 2 (some .int) :: lw_big := rfl
def w_SM_put : List Cond := .code y_SM_put b_SM_put 6 (some .int) :: lw_big
theorem e_SM_put : w_SM_put = .code y_SM_put b_SM_put 6 (some .int) :: lw_big := rfl
def w_SM_turned : List Cond := .code y_SM_turned b_SM_turned 5 (some .int) :: lw_big
theorem e_SM_turned : w_SM_turned = .code y_SM_turned b_SM_turned 5 (some .int) :: lw_big := rfl
def w_SM_merge : List Cond := .code y_SM_merge b_SM_merge 9 (some .int) :: lw_big
theorem e_SM_merge : w_SM_merge = .code y_SM_merge b_SM_merge 9 (some .int) :: lw_big := rfl
def w_SM_release : List Cond := .code y_SM_release b_SM_release 2 none :: lw_big
theorem e_SM_release : w_SM_release = .code y_SM_release b_SM_release 2 none :: lw_big := rfl
def w_SM_meld : List Cond := .code y_SM_meld b_SM_meld 4 (some .int) :: lw_big
theorem e_SM_meld : w_SM_meld = .code y_SM_meld b_SM_meld 4 (some .int) :: lw_big := rfl
def w_SM_size : List Cond := .code y_SM_size b_SM_size 2 (some .int) :: lw_big
theorem e_SM_size : w_SM_size = .code y_SM_size b_SM_size 2 (some .int) :: lw_big := rfl
def w_SM_key : List Cond := .code y_SM_key b_SM_key 3 (some .long) :: lw_big
theorem e_SM_key : w_SM_key = .code y_SM_key b_SM_key 3 (some .long) :: lw_big := rfl
def w_SM_walk : List Cond := .code y_SM_walk b_SM_walk 4 none :: lw_big
theorem e_SM_walk : w_SM_walk = .code y_SM_walk b_SM_walk 4 none :: lw_big := rfl
def w_SM_await : List Cond := .code y_SM_await b_SM_await 3 none :: lw_big
theorem e_SM_await : w_SM_await = .code y_SM_await b_SM_await 3 none :: lw_big := rfl
def w_SM_sum : List Cond := .code y_SM_sum b_SM_sum 5 (some .long) :: lw_big
theorem e_SM_sum : w_SM_sum = .code y_SM_sum b_SM_sum 5 (some .long) :: lw_big := rfl
def w_SM_free : List Cond := .code y_SM_free b_SM_free 1 (some .int) :: lw_big
theorem e_SM_free : w_SM_free = .code y_SM_free b_SM_free 1 (some .int) :: lw_big := rfl
def w_SM_few : List Cond := .code y_SM_few b_SM_few 1 (some .boolean) :: lw_big
theorem e_SM_few : w_SM_few = .code y_SM_few b_SM_few 1 (some .boolean) :: lw_big := rfl
def w_MD_init : List Cond := .code y_MD_init b_MD_init 1 none :: lw_big
theorem e_MD_init : w_MD_init = .code y_MD_init b_MD_init 1 none :: lw_big := rfl
def w_MD_heap : List Cond := .code y_MD_heap b_MD_heap 1 (some .int) :: lw_big
theorem e_MD_heap : w_MD_heap = .code y_MD_heap b_MD_heap 1 (some .int) :: lw_big := rfl
def w_MD_add : List Cond := .code y_MD_add b_MD_add 3 (some .int) :: lw_big
theorem e_MD_add : w_MD_add = .code y_MD_add b_MD_add 3 (some .int) :: lw_big := rfl
def w_MD_isHeap : List Cond := .code y_MD_isHeap b_MD_isHeap 2 (some .boolean) :: lw_big
theorem e_MD_isHeap : w_MD_isHeap = .code y_MD_isHeap b_MD_isHeap 2 (some .boolean) :: lw_big := rfl
def w_MD_sizeOf : List Cond := .code y_MD_sizeOf b_MD_sizeOf 4 (some .int) :: lw_big
theorem e_MD_sizeOf : w_MD_sizeOf = .code y_MD_sizeOf b_MD_sizeOf 4 (some .int) :: lw_big := rfl
def w_MD_least : List Cond := .code y_MD_least b_MD_least 3 (some .long) :: lw_big
theorem e_MD_least : w_MD_least = .code y_MD_least b_MD_least 3 (some .long) :: lw_big := rfl
def w_MD_untell : List Cond := .code y_MD_untell b_MD_untell 2 none :: lw_big
theorem e_MD_untell : w_MD_untell = .code y_MD_untell b_MD_untell 2 none :: lw_big := rfl
def w_MD_placeOf : List Cond := .code y_MD_placeOf b_MD_placeOf 4 (some .int) :: lw_big
theorem e_MD_placeOf : w_MD_placeOf = .code y_MD_placeOf b_MD_placeOf 4 (some .int) :: lw_big := rfl
def w_MD_take : List Cond := .code y_MD_take b_MD_take 5 (some .long) :: lw_big
theorem e_MD_take : w_MD_take = .code y_MD_take b_MD_take 5 (some .long) :: lw_big := rfl
def w_MD_meld : List Cond := .code y_MD_meld b_MD_meld 4 (some .int) :: lw_big
theorem e_MD_meld : w_MD_meld = .code y_MD_meld b_MD_meld 4 (some .int) :: lw_big := rfl
def w_MD_size : List Cond := .code y_MD_size b_MD_size 2 (some .int) :: lw_big
theorem e_MD_size : w_MD_size = .code y_MD_size b_MD_size 2 (some .int) :: lw_big := rfl
def w_MD_key : List Cond := .code y_MD_key b_MD_key 4 (some .long) :: lw_big
theorem e_MD_key : w_MD_key = .code y_MD_key b_MD_key 4 (some .long) :: lw_big := rfl
def w_MD_sum : List Cond := .code y_MD_sum b_MD_sum 5 (some .long) :: lw_big
theorem e_MD_sum : w_MD_sum = .code y_MD_sum b_MD_sum 5 (some .long) :: lw_big := rfl
def w_MD_free : List Cond := .code y_MD_free b_MD_free 1 (some .int) :: lw_big
theorem e_MD_free : w_MD_free = .code y_MD_free b_MD_free 1 (some .int) :: lw_big := rfl
def w_MD_few : List Cond := .code y_MD_few b_MD_few 1 (some .boolean) :: lw_big
theorem e_MD_few : w_MD_few = .code y_MD_few b_MD_few 1 (some .boolean) :: lw_big := rfl
theorem g_SM_SM_remove : GoodIn lw_big (wsV R_SM 103 R_SM y_SM_remove w_SM_remove) := big_gV ml_SM_103 mm_SM_remove ms_SM_remove mi_SM mb_SM_remove
theorem g_SM_SM_norm : GoodIn lw_big (wsV R_SM 107 R_SM y_SM_norm w_SM_norm) := big_gV ml_SM_107 mm_SM_norm ms_SM_norm mi_SM mb_SM_norm
theorem g_SM_SM_turned : GoodIn lw_big (wsV R_SM 110 R_SM y_SM_turned w_SM_turned) := big_gV ml_SM_110 mm_SM_turned ms_SM_turned mi_SM mb_SM_turned
theorem g_SM_SM_merge : GoodIn lw_big (wsV R_SM 113 R_SM y_SM_merge w_SM_merge) := big_gV ml_SM_113 mm_SM_merge ms_SM_merge mi_SM mb_SM_merge
theorem g_SM_SM_release : GoodIn lw_big (wsV R_SM 116 R_SM y_SM_release w_SM_release) := big_gV ml_SM_116 mm_SM_release ms_SM_release mi_SM mb_SM_release
theorem g_SM_SM_await : GoodIn lw_big (wsV R_SM 125 R_SM y_SM_await w_SM_await) := big_gV ml_SM_125 mm_SM_await ms_SM_await mi_SM mb_SM_await
theorem g_SM_SM_walk : GoodIn lw_big (wsV R_SM 128 R_SM y_SM_walk w_SM_walk) := big_gV ml_SM_128 mm_SM_walk ms_SM_walk mi_SM mb_SM_walk
theorem g_SM_IN_numberOfLeadingZeros : GoodIn lw_big (va_wsS R_SM 50 y_IN_numberOfLeadingZeros w_IN_numberOfLeadingZeros) := big_gS ml_SM_50 mt_IN_numberOfLeadingZeros mi_IN mb_IN_numberOfLeadingZeros
theorem g_SM_SM_get : GoodIn lw_big (wsV R_SM 59 R_SM y_SM_get w_SM_get) := big_gV ml_SM_59 mm_SM_get ms_SM_get mi_SM mb_SM_get
theorem g_SM_SM_set : GoodIn lw_big (wsV R_SM 63 R_SM y_SM_set w_SM_set) := big_gV ml_SM_63 mm_SM_set ms_SM_set mi_SM mb_SM_set
theorem g_SM_SM_link : GoodIn lw_big (wsV R_SM 67 R_SM y_SM_link w_SM_link) := big_gV ml_SM_67 mm_SM_link ms_SM_link mi_SM mb_SM_link
theorem g_SM_SM_skewLink : GoodIn lw_big (wsV R_SM 71 R_SM y_SM_skewLink w_SM_skewLink) := big_gV ml_SM_71 mm_SM_skewLink ms_SM_skewLink mi_SM mb_SM_skewLink
theorem g_SM_SM_put : GoodIn lw_big (wsV R_SM 75 R_SM y_SM_put w_SM_put) := big_gV ml_SM_75 mm_SM_put ms_SM_put mi_SM mb_SM_put
theorem g_SM_SM_begin : GoodIn lw_big (wsV R_SM 79 R_SM y_SM_begin w_SM_begin) := big_gV ml_SM_79 mm_SM_begin ms_SM_begin mi_SM mb_SM_begin
theorem g_SM_SM_isHeap : GoodIn lw_big (wsV R_SM 83 R_SM y_SM_isHeap w_SM_isHeap) := big_gV ml_SM_83 mm_SM_isHeap ms_SM_isHeap mi_SM mb_SM_isHeap
theorem g_SM_SM_make : GoodIn lw_big (wsV R_SM 87 R_SM y_SM_make w_SM_make) := big_gV ml_SM_87 mm_SM_make ms_SM_make mi_SM mb_SM_make
theorem g_SM_SM_insert : GoodIn lw_big (wsV R_SM 90 R_SM y_SM_insert w_SM_insert) := big_gV ml_SM_90 mm_SM_insert ms_SM_insert mi_SM mb_SM_insert
theorem g_SM_SM_fewFor : GoodIn lw_big (va_wsS R_SM 93 y_SM_fewFor w_SM_fewFor) := big_gS ml_SM_93 mt_SM_fewFor mi_SM mb_SM_fewFor
theorem g_SM_SM_leastTree : GoodIn lw_big (wsV R_SM 96 R_SM y_SM_leastTree w_SM_leastTree) := big_gV ml_SM_96 mm_SM_leastTree ms_SM_leastTree mi_SM mb_SM_leastTree
theorem g_law_SM_heap : GoodIn lw_big (wsV R_law 13 R_SM y_SM_heap w_SM_heap) := big_gV ml_law_13 mm_SM_heap ms_SM_heap mi_SM mb_SM_heap
theorem g_law_MD_heap : GoodIn lw_big (wsV R_law 17 R_MD y_MD_heap w_MD_heap) := big_gV ml_law_17 mm_MD_heap ms_MD_heap mi_MD mb_MD_heap
theorem g_law_SM_add : GoodIn lw_big (wsV R_law 18 R_SM y_SM_add w_SM_add) := big_gV ml_law_18 mm_SM_add ms_SM_add mi_SM mb_SM_add
theorem g_law_MD_add : GoodIn lw_big (wsV R_law 22 R_MD y_MD_add w_MD_add) := big_gV ml_law_22 mm_MD_add ms_MD_add mi_MD mb_MD_add
theorem g_law_SM_least : GoodIn lw_big (wsV R_law 23 R_SM y_SM_least w_SM_least) := big_gV ml_law_23 mm_SM_least ms_SM_least mi_SM mb_SM_least
theorem g_law_MD_least : GoodIn lw_big (wsV R_law 27 R_MD y_MD_least w_MD_least) := big_gV ml_law_27 mm_MD_least ms_MD_least mi_MD mb_MD_least
theorem g_law_SM_take : GoodIn lw_big (wsV R_law 28 R_SM y_SM_take w_SM_take) := big_gV ml_law_28 mm_SM_take ms_SM_take mi_SM mb_SM_take
theorem g_law_MD_take : GoodIn lw_big (wsV R_law 31 R_MD y_MD_take w_MD_take) := big_gV ml_law_31 mm_MD_take ms_MD_take mi_MD mb_MD_take
theorem g_law_SM_meld : GoodIn lw_big (wsV R_law 32 R_SM y_SM_meld w_SM_meld) := big_gV ml_law_32 mm_SM_meld ms_SM_meld mi_SM mb_SM_meld
theorem g_law_MD_meld : GoodIn lw_big (wsV R_law 35 R_MD y_MD_meld w_MD_meld) := big_gV ml_law_35 mm_MD_meld ms_MD_meld mi_MD mb_MD_meld
theorem g_law_SM_size : GoodIn lw_big (wsV R_law 36 R_SM y_SM_size w_SM_size) := big_gV ml_law_36 mm_SM_size ms_SM_size mi_SM mb_SM_size
theorem g_law_MD_size : GoodIn lw_big (wsV R_law 40 R_MD y_MD_size w_MD_size) := big_gV ml_law_40 mm_MD_size ms_MD_size mi_MD mb_MD_size
theorem g_law_SM_key : GoodIn lw_big (wsV R_law 41 R_SM y_SM_key w_SM_key) := big_gV ml_law_41 mm_SM_key ms_SM_key mi_SM mb_SM_key
theorem g_law_MD_key : GoodIn lw_big (wsV R_law 45 R_MD y_MD_key w_MD_key) := big_gV ml_law_45 mm_MD_key ms_MD_key mi_MD mb_MD_key
theorem g_law_SM_sum : GoodIn lw_big (wsV R_law 46 R_SM y_SM_sum w_SM_sum) := big_gV ml_law_46 mm_SM_sum ms_SM_sum mi_SM mb_SM_sum
theorem g_law_MD_sum : GoodIn lw_big (wsV R_law 49 R_MD y_MD_sum w_MD_sum) := big_gV ml_law_49 mm_MD_sum ms_MD_sum mi_MD mb_MD_sum
theorem g_law_SM_free : GoodIn lw_big (wsV R_law 50 R_SM y_SM_free w_SM_free) := big_gV ml_law_50 mm_SM_free ms_SM_free mi_SM mb_SM_free
theorem g_law_MD_free : GoodIn lw_big (wsV R_law 53 R_MD y_MD_free w_MD_free) := big_gV ml_law_53 mm_MD_free ms_MD_free mi_MD mb_MD_free
theorem g_law_SM_few : GoodIn lw_big (wsV R_law 54 R_SM y_SM_few w_SM_few) := big_gV ml_law_54 mm_SM_few ms_SM_few mi_SM mb_SM_few
theorem g_law_MD_few : GoodIn lw_big (wsV R_law 58 R_MD y_MD_few w_MD_few) := big_gV ml_law_58 mm_MD_few ms_MD_few mi_MD mb_MD_few
theorem g_MD_MD_isHeap : GoodIn lw_big (wsV R_MD 27 R_MD y_MD_isHeap w_MD_isHeap) := big_gV ml_MD_27 mm_MD_isHeap ms_MD_isHeap mi_MD mb_MD_isHeap
theorem g_MD_MD_sizeOf : GoodIn lw_big (wsV R_MD 31 R_MD y_MD_sizeOf w_MD_sizeOf) := big_gV ml_MD_31 mm_MD_sizeOf ms_MD_sizeOf mi_MD mb_MD_sizeOf
theorem g_MD_MD_untell : GoodIn lw_big (wsV R_MD 35 R_MD y_MD_untell w_MD_untell) := big_gV ml_MD_35 mm_MD_untell ms_MD_untell mi_MD mb_MD_untell
theorem g_MD_MD_placeOf : GoodIn lw_big (wsV R_MD 38 R_MD y_MD_placeOf w_MD_placeOf) := big_gV ml_MD_38 mm_MD_placeOf ms_MD_placeOf mi_MD mb_MD_placeOf
theorem g_law_SM_init : GoodIn lw_big w_SM_init := big_gI mb_SM_init
theorem g_law_MD_init : GoodIn lw_big w_MD_init := big_gI mb_MD_init
end
section
theorem d_IN_numberOfLeadingZeros_0 : decode b_IN_numberOfLeadingZeros 0 = .ok (.iload_n 0, 1) := by decide +kernel
theorem d_IN_numberOfLeadingZeros_1 : decode b_IN_numberOfLeadingZeros 1 = .ok (.ifCond .gt 14, 3) := by decide +kernel
theorem d_IN_numberOfLeadingZeros_4 : decode b_IN_numberOfLeadingZeros 4 = .ok (.iload_n 0, 1) := by decide +kernel
theorem d_IN_numberOfLeadingZeros_5 : decode b_IN_numberOfLeadingZeros 5 = .ok (.ifCond .ne 8, 3) := by decide +kernel
theorem d_IN_numberOfLeadingZeros_8 : decode b_IN_numberOfLeadingZeros 8 = .ok (.bipush 32, 2) := by decide +kernel
theorem d_IN_numberOfLeadingZeros_10 : decode b_IN_numberOfLeadingZeros 10 = .ok (.goto 4, 3) := by decide +kernel
theorem d_IN_numberOfLeadingZeros_13 : decode b_IN_numberOfLeadingZeros 13 = .ok (.iconst 0, 1) := by decide +kernel
theorem d_IN_numberOfLeadingZeros_14 : decode b_IN_numberOfLeadingZeros 14 = .ok (.ireturn, 1) := by decide +kernel
theorem d_IN_numberOfLeadingZeros_15 : decode b_IN_numberOfLeadingZeros 15 = .ok (.bipush 31, 2) := by decide +kernel
theorem d_IN_numberOfLeadingZeros_17 : decode b_IN_numberOfLeadingZeros 17 = .ok (.istore_n 1, 1) := by decide +kernel
theorem d_IN_numberOfLeadingZeros_18 : decode b_IN_numberOfLeadingZeros 18 = .ok (.iload_n 0, 1) := by decide +kernel
theorem d_IN_numberOfLeadingZeros_19 : decode b_IN_numberOfLeadingZeros 19 = .ok (.ldc_w 264, 3) := by decide +kernel
theorem d_IN_numberOfLeadingZeros_22 : decode b_IN_numberOfLeadingZeros 22 = .ok (.if_icmp .lt 11, 3) := by decide +kernel
theorem d_IN_numberOfLeadingZeros_25 : decode b_IN_numberOfLeadingZeros 25 = .ok (.iinc 1 (-16), 3) := by decide +kernel
theorem d_IN_numberOfLeadingZeros_28 : decode b_IN_numberOfLeadingZeros 28 = .ok (.iload_n 0, 1) := by decide +kernel
theorem d_IN_numberOfLeadingZeros_29 : decode b_IN_numberOfLeadingZeros 29 = .ok (.bipush 16, 2) := by decide +kernel
theorem d_IN_numberOfLeadingZeros_31 : decode b_IN_numberOfLeadingZeros 31 = .ok (.iushr, 1) := by decide +kernel
theorem d_IN_numberOfLeadingZeros_32 : decode b_IN_numberOfLeadingZeros 32 = .ok (.istore_n 0, 1) := by decide +kernel
theorem d_IN_numberOfLeadingZeros_33 : decode b_IN_numberOfLeadingZeros 33 = .ok (.iload_n 0, 1) := by decide +kernel
theorem d_IN_numberOfLeadingZeros_34 : decode b_IN_numberOfLeadingZeros 34 = .ok (.sipush 256, 3) := by decide +kernel
theorem d_IN_numberOfLeadingZeros_37 : decode b_IN_numberOfLeadingZeros 37 = .ok (.if_icmp .lt 11, 3) := by decide +kernel
theorem d_IN_numberOfLeadingZeros_40 : decode b_IN_numberOfLeadingZeros 40 = .ok (.iinc 1 (-8), 3) := by decide +kernel
theorem d_IN_numberOfLeadingZeros_43 : decode b_IN_numberOfLeadingZeros 43 = .ok (.iload_n 0, 1) := by decide +kernel
theorem d_IN_numberOfLeadingZeros_44 : decode b_IN_numberOfLeadingZeros 44 = .ok (.bipush 8, 2) := by decide +kernel
theorem d_IN_numberOfLeadingZeros_46 : decode b_IN_numberOfLeadingZeros 46 = .ok (.iushr, 1) := by decide +kernel
theorem d_IN_numberOfLeadingZeros_47 : decode b_IN_numberOfLeadingZeros 47 = .ok (.istore_n 0, 1) := by decide +kernel
theorem d_IN_numberOfLeadingZeros_48 : decode b_IN_numberOfLeadingZeros 48 = .ok (.iload_n 0, 1) := by decide +kernel
theorem d_IN_numberOfLeadingZeros_49 : decode b_IN_numberOfLeadingZeros 49 = .ok (.bipush 16, 2) := by decide +kernel
theorem d_IN_numberOfLeadingZeros_51 : decode b_IN_numberOfLeadingZeros 51 = .ok (.if_icmp .lt 10, 3) := by decide +kernel
theorem d_IN_numberOfLeadingZeros_54 : decode b_IN_numberOfLeadingZeros 54 = .ok (.iinc 1 (-4), 3) := by decide +kernel
theorem d_IN_numberOfLeadingZeros_57 : decode b_IN_numberOfLeadingZeros 57 = .ok (.iload_n 0, 1) := by decide +kernel
theorem d_IN_numberOfLeadingZeros_58 : decode b_IN_numberOfLeadingZeros 58 = .ok (.iconst 4, 1) := by decide +kernel
theorem d_IN_numberOfLeadingZeros_59 : decode b_IN_numberOfLeadingZeros 59 = .ok (.iushr, 1) := by decide +kernel
theorem d_IN_numberOfLeadingZeros_60 : decode b_IN_numberOfLeadingZeros 60 = .ok (.istore_n 0, 1) := by decide +kernel
theorem d_IN_numberOfLeadingZeros_61 : decode b_IN_numberOfLeadingZeros 61 = .ok (.iload_n 0, 1) := by decide +kernel
theorem d_IN_numberOfLeadingZeros_62 : decode b_IN_numberOfLeadingZeros 62 = .ok (.iconst 4, 1) := by decide +kernel
theorem d_IN_numberOfLeadingZeros_63 : decode b_IN_numberOfLeadingZeros 63 = .ok (.if_icmp .lt 10, 3) := by decide +kernel
theorem d_IN_numberOfLeadingZeros_66 : decode b_IN_numberOfLeadingZeros 66 = .ok (.iinc 1 (-2), 3) := by decide +kernel
theorem d_IN_numberOfLeadingZeros_69 : decode b_IN_numberOfLeadingZeros 69 = .ok (.iload_n 0, 1) := by decide +kernel
theorem d_IN_numberOfLeadingZeros_70 : decode b_IN_numberOfLeadingZeros 70 = .ok (.iconst 2, 1) := by decide +kernel
theorem d_IN_numberOfLeadingZeros_71 : decode b_IN_numberOfLeadingZeros 71 = .ok (.iushr, 1) := by decide +kernel
theorem d_IN_numberOfLeadingZeros_72 : decode b_IN_numberOfLeadingZeros 72 = .ok (.istore_n 0, 1) := by decide +kernel
theorem d_IN_numberOfLeadingZeros_73 : decode b_IN_numberOfLeadingZeros 73 = .ok (.iload_n 1, 1) := by decide +kernel
theorem d_IN_numberOfLeadingZeros_74 : decode b_IN_numberOfLeadingZeros 74 = .ok (.iload_n 0, 1) := by decide +kernel
theorem d_IN_numberOfLeadingZeros_75 : decode b_IN_numberOfLeadingZeros 75 = .ok (.iconst 1, 1) := by decide +kernel
theorem d_IN_numberOfLeadingZeros_76 : decode b_IN_numberOfLeadingZeros 76 = .ok (.iushr, 1) := by decide +kernel
theorem d_IN_numberOfLeadingZeros_77 : decode b_IN_numberOfLeadingZeros 77 = .ok (.isub, 1) := by decide +kernel
theorem d_IN_numberOfLeadingZeros_78 : decode b_IN_numberOfLeadingZeros 78 = .ok (.ireturn, 1) := by decide +kernel
theorem d_SM_init_0 : decode b_SM_init 0 = .ok (.aload_n 0, 1) := by decide +kernel
theorem d_SM_init_1 : decode b_SM_init 1 = .ok (.invokespecial 1, 3) := by decide +kernel
theorem d_SM_init_4 : decode b_SM_init 4 = .ok (.aload_n 0, 1) := by decide +kernel
theorem d_SM_init_5 : decode b_SM_init 5 = .ok (.sipush 200, 3) := by decide +kernel
theorem d_SM_init_8 : decode b_SM_init 8 = .ok (.newarray .int, 2) := by decide +kernel
theorem d_SM_init_10 : decode b_SM_init 10 = .ok (.putfield 7, 3) := by decide +kernel
theorem d_SM_init_13 : decode b_SM_init 13 = .ok (.aload_n 0, 1) := by decide +kernel
theorem d_SM_init_14 : decode b_SM_init 14 = .ok (.sipush 200, 3) := by decide +kernel
theorem d_SM_init_17 : decode b_SM_init 17 = .ok (.newarray .int, 2) := by decide +kernel
theorem d_SM_init_19 : decode b_SM_init 19 = .ok (.putfield 13, 3) := by decide +kernel
theorem d_SM_init_22 : decode b_SM_init 22 = .ok (.aload_n 0, 1) := by decide +kernel
theorem d_SM_init_23 : decode b_SM_init 23 = .ok (.sipush 200, 3) := by decide +kernel
theorem d_SM_init_26 : decode b_SM_init 26 = .ok (.newarray .int, 2) := by decide +kernel
theorem d_SM_init_28 : decode b_SM_init 28 = .ok (.putfield 16, 3) := by decide +kernel
theorem d_SM_init_31 : decode b_SM_init 31 = .ok (.aload_n 0, 1) := by decide +kernel
theorem d_SM_init_32 : decode b_SM_init 32 = .ok (.sipush 200, 3) := by decide +kernel
theorem d_SM_init_35 : decode b_SM_init 35 = .ok (.newarray .int, 2) := by decide +kernel
theorem d_SM_init_37 : decode b_SM_init 37 = .ok (.putfield 19, 3) := by decide +kernel
theorem d_SM_init_40 : decode b_SM_init 40 = .ok (.aload_n 0, 1) := by decide +kernel
theorem d_SM_init_41 : decode b_SM_init 41 = .ok (.sipush 200, 3) := by decide +kernel
theorem d_SM_init_44 : decode b_SM_init 44 = .ok (.newarray .int, 2) := by decide +kernel
theorem d_SM_init_46 : decode b_SM_init 46 = .ok (.putfield 22, 3) := by decide +kernel
theorem d_SM_init_49 : decode b_SM_init 49 = .ok (.aload_n 0, 1) := by decide +kernel
theorem d_SM_init_50 : decode b_SM_init 50 = .ok (.sipush 200, 3) := by decide +kernel
theorem d_SM_init_53 : decode b_SM_init 53 = .ok (.putfield 25, 3) := by decide +kernel
theorem d_SM_init_56 : decode b_SM_init 56 = .ok (.aload_n 0, 1) := by decide +kernel
theorem d_SM_init_57 : decode b_SM_init 57 = .ok (.bipush 8, 2) := by decide +kernel
theorem d_SM_init_59 : decode b_SM_init 59 = .ok (.newarray .int, 2) := by decide +kernel
theorem d_SM_init_61 : decode b_SM_init 61 = .ok (.putfield 29, 3) := by decide +kernel
theorem d_SM_init_64 : decode b_SM_init 64 = .ok (.aload_n 0, 1) := by decide +kernel
theorem d_SM_init_65 : decode b_SM_init 65 = .ok (.bipush 8, 2) := by decide +kernel
theorem d_SM_init_67 : decode b_SM_init 67 = .ok (.newarray .int, 2) := by decide +kernel
theorem d_SM_init_69 : decode b_SM_init 69 = .ok (.putfield 32, 3) := by decide +kernel
theorem d_SM_init_72 : decode b_SM_init 72 = .ok (.aload_n 0, 1) := by decide +kernel
theorem d_SM_init_73 : decode b_SM_init 73 = .ok (.sipush 200, 3) := by decide +kernel
theorem d_SM_init_76 : decode b_SM_init 76 = .ok (.newarray .int, 2) := by decide +kernel
theorem d_SM_init_78 : decode b_SM_init 78 = .ok (.putfield 35, 3) := by decide +kernel
theorem d_SM_init_81 : decode b_SM_init 81 = .ok (.aload_n 0, 1) := by decide +kernel
theorem d_SM_init_82 : decode b_SM_init 82 = .ok (.sipush 200, 3) := by decide +kernel
theorem d_SM_init_85 : decode b_SM_init 85 = .ok (.newarray .int, 2) := by decide +kernel
theorem d_SM_init_87 : decode b_SM_init 87 = .ok (.putfield 38, 3) := by decide +kernel
theorem d_SM_init_90 : decode b_SM_init 90 = .ok (.iconst 0, 1) := by decide +kernel
theorem d_SM_init_91 : decode b_SM_init 91 = .ok (.istore_n 1, 1) := by decide +kernel
theorem d_SM_init_92 : decode b_SM_init 92 = .ok (.iload_n 1, 1) := by decide +kernel
theorem d_SM_init_93 : decode b_SM_init 93 = .ok (.sipush 200, 3) := by decide +kernel
theorem d_SM_init_96 : decode b_SM_init 96 = .ok (.if_icmp .ge 31, 3) := by decide +kernel
theorem d_SM_init_99 : decode b_SM_init 99 = .ok (.aload_n 0, 1) := by decide +kernel
theorem d_SM_init_100 : decode b_SM_init 100 = .ok (.getfield 19, 3) := by decide +kernel
theorem d_SM_init_103 : decode b_SM_init 103 = .ok (.iload_n 1, 1) := by decide +kernel
theorem d_SM_init_104 : decode b_SM_init 104 = .ok (.iload_n 1, 1) := by decide +kernel
theorem d_SM_init_105 : decode b_SM_init 105 = .ok (.iconst 1, 1) := by decide +kernel
theorem d_SM_init_106 : decode b_SM_init 106 = .ok (.iadd, 1) := by decide +kernel
theorem d_SM_init_107 : decode b_SM_init 107 = .ok (.sipush 200, 3) := by decide +kernel
theorem d_SM_init_110 : decode b_SM_init 110 = .ok (.if_icmp .ge 9, 3) := by decide +kernel
theorem d_SM_init_113 : decode b_SM_init 113 = .ok (.iload_n 1, 1) := by decide +kernel
theorem d_SM_init_114 : decode b_SM_init 114 = .ok (.iconst 1, 1) := by decide +kernel
theorem d_SM_init_115 : decode b_SM_init 115 = .ok (.iadd, 1) := by decide +kernel
theorem d_SM_init_116 : decode b_SM_init 116 = .ok (.goto 4, 3) := by decide +kernel
theorem d_SM_init_119 : decode b_SM_init 119 = .ok (.iconst (-1), 1) := by decide +kernel
theorem d_SM_init_120 : decode b_SM_init 120 = .ok (.iastore, 1) := by decide +kernel
theorem d_SM_init_121 : decode b_SM_init 121 = .ok (.iinc 1 1, 3) := by decide +kernel
theorem d_SM_init_124 : decode b_SM_init 124 = .ok (.goto (-32), 3) := by decide +kernel
theorem d_SM_init_127 : decode b_SM_init 127 = .ok (.return_, 1) := by decide +kernel
theorem d_SM_isHeap_0 : decode b_SM_isHeap 0 = .ok (.iload_n 1, 1) := by decide +kernel
theorem d_SM_isHeap_1 : decode b_SM_isHeap 1 = .ok (.ifCond .lt 15, 3) := by decide +kernel
theorem d_SM_isHeap_4 : decode b_SM_isHeap 4 = .ok (.iload_n 1, 1) := by decide +kernel
theorem d_SM_isHeap_5 : decode b_SM_isHeap 5 = .ok (.aload_n 0, 1) := by decide +kernel
theorem d_SM_isHeap_6 : decode b_SM_isHeap 6 = .ok (.getfield 41, 3) := by decide +kernel
theorem d_SM_isHeap_9 : decode b_SM_isHeap 9 = .ok (.if_icmp .ge 7, 3) := by decide +kernel
theorem d_SM_isHeap_12 : decode b_SM_isHeap 12 = .ok (.iconst 1, 1) := by decide +kernel
theorem d_SM_isHeap_13 : decode b_SM_isHeap 13 = .ok (.goto 4, 3) := by decide +kernel
theorem d_SM_isHeap_16 : decode b_SM_isHeap 16 = .ok (.iconst 0, 1) := by decide +kernel
theorem d_SM_isHeap_17 : decode b_SM_isHeap 17 = .ok (.ireturn, 1) := by decide +kernel
theorem d_SM_get_0 : decode b_SM_get 0 = .ok (.aload_n 0, 1) := by decide +kernel
theorem d_SM_get_1 : decode b_SM_get 1 = .ok (.dup, 1) := by decide +kernel
theorem d_SM_get_2 : decode b_SM_get 2 = .ok (.getfield 44, 3) := by decide +kernel
theorem d_SM_get_5 : decode b_SM_get 5 = .ok (.iconst 1, 1) := by decide +kernel
theorem d_SM_get_6 : decode b_SM_get 6 = .ok (.iadd, 1) := by decide +kernel
theorem d_SM_get_7 : decode b_SM_get 7 = .ok (.putfield 44, 3) := by decide +kernel
theorem d_SM_get_10 : decode b_SM_get 10 = .ok (.aload_n 1, 1) := by decide +kernel
theorem d_SM_get_11 : decode b_SM_get 11 = .ok (.iload_n 2, 1) := by decide +kernel
theorem d_SM_get_12 : decode b_SM_get 12 = .ok (.iaload, 1) := by decide +kernel
theorem d_SM_get_13 : decode b_SM_get 13 = .ok (.ireturn, 1) := by decide +kernel
theorem d_SM_set_0 : decode b_SM_set 0 = .ok (.aload_n 0, 1) := by decide +kernel
theorem d_SM_set_1 : decode b_SM_set 1 = .ok (.dup, 1) := by decide +kernel
theorem d_SM_set_2 : decode b_SM_set 2 = .ok (.getfield 44, 3) := by decide +kernel
theorem d_SM_set_5 : decode b_SM_set 5 = .ok (.iconst 1, 1) := by decide +kernel
theorem d_SM_set_6 : decode b_SM_set 6 = .ok (.iadd, 1) := by decide +kernel
theorem d_SM_set_7 : decode b_SM_set 7 = .ok (.putfield 44, 3) := by decide +kernel
theorem d_SM_set_10 : decode b_SM_set 10 = .ok (.aload_n 1, 1) := by decide +kernel
theorem d_SM_set_11 : decode b_SM_set 11 = .ok (.iload_n 2, 1) := by decide +kernel
theorem d_SM_set_12 : decode b_SM_set 12 = .ok (.iload_n 3, 1) := by decide +kernel
theorem d_SM_set_13 : decode b_SM_set 13 = .ok (.iastore, 1) := by decide +kernel
theorem d_SM_set_14 : decode b_SM_set 14 = .ok (.return_, 1) := by decide +kernel
theorem d_SM_begin_0 : decode b_SM_begin 0 = .ok (.aload_n 0, 1) := by decide +kernel
theorem d_SM_begin_1 : decode b_SM_begin 1 = .ok (.iconst 0, 1) := by decide +kernel
theorem d_SM_begin_2 : decode b_SM_begin 2 = .ok (.putfield 44, 3) := by decide +kernel
theorem d_SM_begin_5 : decode b_SM_begin 5 = .ok (.aload_n 0, 1) := by decide +kernel
theorem d_SM_begin_6 : decode b_SM_begin 6 = .ok (.iload_n 1, 1) := by decide +kernel
theorem d_SM_begin_7 : decode b_SM_begin 7 = .ok (.putfield 47, 3) := by decide +kernel
theorem d_SM_begin_10 : decode b_SM_begin 10 = .ok (.return_, 1) := by decide +kernel
theorem d_SM_fewFor_0 : decode b_SM_fewFor 0 = .ok (.sipush 200, 3) := by decide +kernel
theorem d_SM_fewFor_3 : decode b_SM_fewFor 3 = .ok (.bipush 33, 2) := by decide +kernel
theorem d_SM_fewFor_5 : decode b_SM_fewFor 5 = .ok (.iload_n 0, 1) := by decide +kernel
theorem d_SM_fewFor_6 : decode b_SM_fewFor 6 = .ok (.iconst 1, 1) := by decide +kernel
theorem d_SM_fewFor_7 : decode b_SM_fewFor 7 = .ok (.iadd, 1) := by decide +kernel
theorem d_SM_fewFor_8 : decode b_SM_fewFor 8 = .ok (.invokestatic 50, 3) := by decide +kernel
theorem d_SM_fewFor_11 : decode b_SM_fewFor 11 = .ok (.isub, 1) := by decide +kernel
theorem d_SM_fewFor_12 : decode b_SM_fewFor 12 = .ok (.imul, 1) := by decide +kernel
theorem d_SM_fewFor_13 : decode b_SM_fewFor 13 = .ok (.ireturn, 1) := by decide +kernel
theorem d_SM_make_0 : decode b_SM_make 0 = .ok (.aload_n 0, 1) := by decide +kernel
theorem d_SM_make_1 : decode b_SM_make 1 = .ok (.getfield 56, 3) := by decide +kernel
theorem d_SM_make_4 : decode b_SM_make 4 = .ok (.istore_n 2, 1) := by decide +kernel
theorem d_SM_make_5 : decode b_SM_make 5 = .ok (.aload_n 0, 1) := by decide +kernel
theorem d_SM_make_6 : decode b_SM_make 6 = .ok (.aload_n 0, 1) := by decide +kernel
theorem d_SM_make_7 : decode b_SM_make 7 = .ok (.aload_n 0, 1) := by decide +kernel
theorem d_SM_make_8 : decode b_SM_make 8 = .ok (.getfield 19, 3) := by decide +kernel
theorem d_SM_make_11 : decode b_SM_make 11 = .ok (.iload_n 2, 1) := by decide +kernel
theorem d_SM_make_12 : decode b_SM_make 12 = .ok (.invokevirtual 59, 3) := by decide +kernel
theorem d_SM_make_15 : decode b_SM_make 15 = .ok (.putfield 56, 3) := by decide +kernel
theorem d_SM_make_18 : decode b_SM_make 18 = .ok (.aload_n 0, 1) := by decide +kernel
theorem d_SM_make_19 : decode b_SM_make 19 = .ok (.dup, 1) := by decide +kernel
theorem d_SM_make_20 : decode b_SM_make 20 = .ok (.getfield 25, 3) := by decide +kernel
theorem d_SM_make_23 : decode b_SM_make 23 = .ok (.iconst 1, 1) := by decide +kernel
theorem d_SM_make_24 : decode b_SM_make 24 = .ok (.isub, 1) := by decide +kernel
theorem d_SM_make_25 : decode b_SM_make 25 = .ok (.putfield 25, 3) := by decide +kernel
theorem d_SM_make_28 : decode b_SM_make 28 = .ok (.aload_n 0, 1) := by decide +kernel
theorem d_SM_make_29 : decode b_SM_make 29 = .ok (.aload_n 0, 1) := by decide +kernel
theorem d_SM_make_30 : decode b_SM_make 30 = .ok (.getfield 7, 3) := by decide +kernel
theorem d_SM_make_33 : decode b_SM_make 33 = .ok (.iload_n 2, 1) := by decide +kernel
theorem d_SM_make_34 : decode b_SM_make 34 = .ok (.iload_n 1, 1) := by decide +kernel
theorem d_SM_make_35 : decode b_SM_make 35 = .ok (.invokevirtual 63, 3) := by decide +kernel
theorem d_SM_make_38 : decode b_SM_make 38 = .ok (.aload_n 0, 1) := by decide +kernel
theorem d_SM_make_39 : decode b_SM_make 39 = .ok (.aload_n 0, 1) := by decide +kernel
theorem d_SM_make_40 : decode b_SM_make 40 = .ok (.getfield 13, 3) := by decide +kernel
theorem d_SM_make_43 : decode b_SM_make 43 = .ok (.iload_n 2, 1) := by decide +kernel
theorem d_SM_make_44 : decode b_SM_make 44 = .ok (.iconst 0, 1) := by decide +kernel
theorem d_SM_make_45 : decode b_SM_make 45 = .ok (.invokevirtual 63, 3) := by decide +kernel
theorem d_SM_make_48 : decode b_SM_make 48 = .ok (.aload_n 0, 1) := by decide +kernel
theorem d_SM_make_49 : decode b_SM_make 49 = .ok (.aload_n 0, 1) := by decide +kernel
theorem d_SM_make_50 : decode b_SM_make 50 = .ok (.getfield 16, 3) := by decide +kernel
theorem d_SM_make_53 : decode b_SM_make 53 = .ok (.iload_n 2, 1) := by decide +kernel
theorem d_SM_make_54 : decode b_SM_make 54 = .ok (.iconst (-1), 1) := by decide +kernel
theorem d_SM_make_55 : decode b_SM_make 55 = .ok (.invokevirtual 63, 3) := by decide +kernel
theorem d_SM_make_58 : decode b_SM_make 58 = .ok (.aload_n 0, 1) := by decide +kernel
theorem d_SM_make_59 : decode b_SM_make 59 = .ok (.aload_n 0, 1) := by decide +kernel
theorem d_SM_make_60 : decode b_SM_make 60 = .ok (.getfield 22, 3) := by decide +kernel
theorem d_SM_make_63 : decode b_SM_make 63 = .ok (.iload_n 2, 1) := by decide +kernel
theorem d_SM_make_64 : decode b_SM_make 64 = .ok (.iconst (-1), 1) := by decide +kernel
theorem d_SM_make_65 : decode b_SM_make 65 = .ok (.invokevirtual 63, 3) := by decide +kernel
theorem d_SM_make_68 : decode b_SM_make 68 = .ok (.iload_n 2, 1) := by decide +kernel
theorem d_SM_make_69 : decode b_SM_make 69 = .ok (.ireturn, 1) := by decide +kernel
theorem d_SM_release_0 : decode b_SM_release 0 = .ok (.aload_n 0, 1) := by decide +kernel
theorem d_SM_release_1 : decode b_SM_release 1 = .ok (.aload_n 0, 1) := by decide +kernel
theorem d_SM_release_2 : decode b_SM_release 2 = .ok (.getfield 19, 3) := by decide +kernel
theorem d_SM_release_5 : decode b_SM_release 5 = .ok (.iload_n 1, 1) := by decide +kernel
theorem d_SM_release_6 : decode b_SM_release 6 = .ok (.aload_n 0, 1) := by decide +kernel
theorem d_SM_release_7 : decode b_SM_release 7 = .ok (.getfield 56, 3) := by decide +kernel
theorem d_SM_release_10 : decode b_SM_release 10 = .ok (.invokevirtual 63, 3) := by decide +kernel
theorem d_SM_release_13 : decode b_SM_release 13 = .ok (.aload_n 0, 1) := by decide +kernel
theorem d_SM_release_14 : decode b_SM_release 14 = .ok (.iload_n 1, 1) := by decide +kernel
theorem d_SM_release_15 : decode b_SM_release 15 = .ok (.putfield 56, 3) := by decide +kernel
theorem d_SM_release_18 : decode b_SM_release 18 = .ok (.aload_n 0, 1) := by decide +kernel
theorem d_SM_release_19 : decode b_SM_release 19 = .ok (.dup, 1) := by decide +kernel
theorem d_SM_release_20 : decode b_SM_release 20 = .ok (.getfield 25, 3) := by decide +kernel
theorem d_SM_release_23 : decode b_SM_release 23 = .ok (.iconst 1, 1) := by decide +kernel
theorem d_SM_release_24 : decode b_SM_release 24 = .ok (.iadd, 1) := by decide +kernel
theorem d_SM_release_25 : decode b_SM_release 25 = .ok (.putfield 25, 3) := by decide +kernel
theorem d_SM_release_28 : decode b_SM_release 28 = .ok (.return_, 1) := by decide +kernel
theorem d_SM_link_0 : decode b_SM_link 0 = .ok (.aload_n 0, 1) := by decide +kernel
theorem d_SM_link_1 : decode b_SM_link 1 = .ok (.aload_n 0, 1) := by decide +kernel
theorem d_SM_link_2 : decode b_SM_link 2 = .ok (.getfield 7, 3) := by decide +kernel
theorem d_SM_link_5 : decode b_SM_link 5 = .ok (.iload_n 2, 1) := by decide +kernel
theorem d_SM_link_6 : decode b_SM_link 6 = .ok (.invokevirtual 59, 3) := by decide +kernel
theorem d_SM_link_9 : decode b_SM_link 9 = .ok (.aload_n 0, 1) := by decide +kernel
theorem d_SM_link_10 : decode b_SM_link 10 = .ok (.aload_n 0, 1) := by decide +kernel
theorem d_SM_link_11 : decode b_SM_link 11 = .ok (.getfield 7, 3) := by decide +kernel
theorem d_SM_link_14 : decode b_SM_link 14 = .ok (.iload_n 1, 1) := by decide +kernel
theorem d_SM_link_15 : decode b_SM_link 15 = .ok (.invokevirtual 59, 3) := by decide +kernel
theorem d_SM_link_18 : decode b_SM_link 18 = .ok (.if_icmp .ge 7, 3) := by decide +kernel
theorem d_SM_link_21 : decode b_SM_link 21 = .ok (.iconst 1, 1) := by decide +kernel
theorem d_SM_link_22 : decode b_SM_link 22 = .ok (.goto 4, 3) := by decide +kernel
theorem d_SM_link_25 : decode b_SM_link 25 = .ok (.iconst 0, 1) := by decide +kernel
theorem d_SM_link_26 : decode b_SM_link 26 = .ok (.istore_n 3, 1) := by decide +kernel
theorem d_SM_link_27 : decode b_SM_link 27 = .ok (.iload_n 3, 1) := by decide +kernel
theorem d_SM_link_28 : decode b_SM_link 28 = .ok (.ifCond .eq 7, 3) := by decide +kernel
theorem d_SM_link_31 : decode b_SM_link 31 = .ok (.iload_n 2, 1) := by decide +kernel
theorem d_SM_link_32 : decode b_SM_link 32 = .ok (.goto 4, 3) := by decide +kernel
theorem d_SM_link_35 : decode b_SM_link 35 = .ok (.iload_n 1, 1) := by decide +kernel
theorem d_SM_link_36 : decode b_SM_link 36 = .ok (.istore 4, 2) := by decide +kernel
theorem d_SM_link_38 : decode b_SM_link 38 = .ok (.iload_n 3, 1) := by decide +kernel
theorem d_SM_link_39 : decode b_SM_link 39 = .ok (.ifCond .eq 7, 3) := by decide +kernel
theorem d_SM_link_42 : decode b_SM_link 42 = .ok (.iload_n 1, 1) := by decide +kernel
theorem d_SM_link_43 : decode b_SM_link 43 = .ok (.goto 4, 3) := by decide +kernel
theorem d_SM_link_46 : decode b_SM_link 46 = .ok (.iload_n 2, 1) := by decide +kernel
theorem d_SM_link_47 : decode b_SM_link 47 = .ok (.istore 5, 2) := by decide +kernel
theorem d_SM_link_49 : decode b_SM_link 49 = .ok (.aload_n 0, 1) := by decide +kernel
theorem d_SM_link_50 : decode b_SM_link 50 = .ok (.aload_n 0, 1) := by decide +kernel
theorem d_SM_link_51 : decode b_SM_link 51 = .ok (.getfield 19, 3) := by decide +kernel
theorem d_SM_link_54 : decode b_SM_link 54 = .ok (.iload 5, 2) := by decide +kernel
theorem d_SM_link_56 : decode b_SM_link 56 = .ok (.aload_n 0, 1) := by decide +kernel
theorem d_SM_link_57 : decode b_SM_link 57 = .ok (.aload_n 0, 1) := by decide +kernel
theorem d_SM_link_58 : decode b_SM_link 58 = .ok (.getfield 16, 3) := by decide +kernel
theorem d_SM_link_61 : decode b_SM_link 61 = .ok (.iload 4, 2) := by decide +kernel
theorem d_SM_link_63 : decode b_SM_link 63 = .ok (.invokevirtual 59, 3) := by decide +kernel
theorem d_SM_link_66 : decode b_SM_link 66 = .ok (.invokevirtual 63, 3) := by decide +kernel
theorem d_SM_link_69 : decode b_SM_link 69 = .ok (.aload_n 0, 1) := by decide +kernel
theorem d_SM_link_70 : decode b_SM_link 70 = .ok (.aload_n 0, 1) := by decide +kernel
theorem d_SM_link_71 : decode b_SM_link 71 = .ok (.getfield 16, 3) := by decide +kernel
theorem d_SM_link_74 : decode b_SM_link 74 = .ok (.iload 4, 2) := by decide +kernel
theorem d_SM_link_76 : decode b_SM_link 76 = .ok (.iload 5, 2) := by decide +kernel
theorem d_SM_link_78 : decode b_SM_link 78 = .ok (.invokevirtual 63, 3) := by decide +kernel
theorem d_SM_link_81 : decode b_SM_link 81 = .ok (.aload_n 0, 1) := by decide +kernel
theorem d_SM_link_82 : decode b_SM_link 82 = .ok (.aload_n 0, 1) := by decide +kernel
theorem d_SM_link_83 : decode b_SM_link 83 = .ok (.getfield 13, 3) := by decide +kernel
theorem d_SM_link_86 : decode b_SM_link 86 = .ok (.iload 4, 2) := by decide +kernel
theorem d_SM_link_88 : decode b_SM_link 88 = .ok (.aload_n 0, 1) := by decide +kernel
theorem d_SM_link_89 : decode b_SM_link 89 = .ok (.aload_n 0, 1) := by decide +kernel
theorem d_SM_link_90 : decode b_SM_link 90 = .ok (.getfield 13, 3) := by decide +kernel
theorem d_SM_link_93 : decode b_SM_link 93 = .ok (.iload 4, 2) := by decide +kernel
theorem d_SM_link_95 : decode b_SM_link 95 = .ok (.invokevirtual 59, 3) := by decide +kernel
theorem d_SM_link_98 : decode b_SM_link 98 = .ok (.iconst 1, 1) := by decide +kernel
theorem d_SM_link_99 : decode b_SM_link 99 = .ok (.iadd, 1) := by decide +kernel
theorem d_SM_link_100 : decode b_SM_link 100 = .ok (.invokevirtual 63, 3) := by decide +kernel
theorem d_SM_link_103 : decode b_SM_link 103 = .ok (.iload 4, 2) := by decide +kernel
theorem d_SM_link_105 : decode b_SM_link 105 = .ok (.ireturn, 1) := by decide +kernel
theorem d_SM_skewLink_0 : decode b_SM_skewLink 0 = .ok (.aload_n 0, 1) := by decide +kernel
theorem d_SM_skewLink_1 : decode b_SM_skewLink 1 = .ok (.iload_n 2, 1) := by decide +kernel
theorem d_SM_skewLink_2 : decode b_SM_skewLink 2 = .ok (.iload_n 3, 1) := by decide +kernel
theorem d_SM_skewLink_3 : decode b_SM_skewLink 3 = .ok (.invokevirtual 67, 3) := by decide +kernel
theorem d_SM_skewLink_6 : decode b_SM_skewLink 6 = .ok (.istore 4, 2) := by decide +kernel
theorem d_SM_skewLink_8 : decode b_SM_skewLink 8 = .ok (.aload_n 0, 1) := by decide +kernel
theorem d_SM_skewLink_9 : decode b_SM_skewLink 9 = .ok (.aload_n 0, 1) := by decide +kernel
theorem d_SM_skewLink_10 : decode b_SM_skewLink 10 = .ok (.getfield 7, 3) := by decide +kernel
theorem d_SM_skewLink_13 : decode b_SM_skewLink 13 = .ok (.iload 4, 2) := by decide +kernel
theorem d_SM_skewLink_15 : decode b_SM_skewLink 15 = .ok (.invokevirtual 59, 3) := by decide +kernel
theorem d_SM_skewLink_18 : decode b_SM_skewLink 18 = .ok (.istore 5, 2) := by decide +kernel
theorem d_SM_skewLink_20 : decode b_SM_skewLink 20 = .ok (.aload_n 0, 1) := by decide +kernel
theorem d_SM_skewLink_21 : decode b_SM_skewLink 21 = .ok (.aload_n 0, 1) := by decide +kernel
theorem d_SM_skewLink_22 : decode b_SM_skewLink 22 = .ok (.getfield 7, 3) := by decide +kernel
theorem d_SM_skewLink_25 : decode b_SM_skewLink 25 = .ok (.iload_n 1, 1) := by decide +kernel
theorem d_SM_skewLink_26 : decode b_SM_skewLink 26 = .ok (.invokevirtual 59, 3) := by decide +kernel
theorem d_SM_skewLink_29 : decode b_SM_skewLink 29 = .ok (.istore 6, 2) := by decide +kernel
theorem d_SM_skewLink_31 : decode b_SM_skewLink 31 = .ok (.iload 6, 2) := by decide +kernel
theorem d_SM_skewLink_33 : decode b_SM_skewLink 33 = .ok (.iload 5, 2) := by decide +kernel
theorem d_SM_skewLink_35 : decode b_SM_skewLink 35 = .ok (.if_icmp .ge 26, 3) := by decide +kernel
theorem d_SM_skewLink_38 : decode b_SM_skewLink 38 = .ok (.aload_n 0, 1) := by decide +kernel
theorem d_SM_skewLink_39 : decode b_SM_skewLink 39 = .ok (.aload_n 0, 1) := by decide +kernel
theorem d_SM_skewLink_40 : decode b_SM_skewLink 40 = .ok (.getfield 7, 3) := by decide +kernel
theorem d_SM_skewLink_43 : decode b_SM_skewLink 43 = .ok (.iload 4, 2) := by decide +kernel
theorem d_SM_skewLink_45 : decode b_SM_skewLink 45 = .ok (.iload 6, 2) := by decide +kernel
theorem d_SM_skewLink_47 : decode b_SM_skewLink 47 = .ok (.invokevirtual 63, 3) := by decide +kernel
theorem d_SM_skewLink_50 : decode b_SM_skewLink 50 = .ok (.aload_n 0, 1) := by decide +kernel
theorem d_SM_skewLink_51 : decode b_SM_skewLink 51 = .ok (.aload_n 0, 1) := by decide +kernel
theorem d_SM_skewLink_52 : decode b_SM_skewLink 52 = .ok (.getfield 7, 3) := by decide +kernel
theorem d_SM_skewLink_55 : decode b_SM_skewLink 55 = .ok (.iload_n 1, 1) := by decide +kernel
theorem d_SM_skewLink_56 : decode b_SM_skewLink 56 = .ok (.iload 5, 2) := by decide +kernel
theorem d_SM_skewLink_58 : decode b_SM_skewLink 58 = .ok (.invokevirtual 63, 3) := by decide +kernel
theorem d_SM_skewLink_61 : decode b_SM_skewLink 61 = .ok (.aload_n 0, 1) := by decide +kernel
theorem d_SM_skewLink_62 : decode b_SM_skewLink 62 = .ok (.aload_n 0, 1) := by decide +kernel
theorem d_SM_skewLink_63 : decode b_SM_skewLink 63 = .ok (.getfield 19, 3) := by decide +kernel
theorem d_SM_skewLink_66 : decode b_SM_skewLink 66 = .ok (.iload_n 1, 1) := by decide +kernel
theorem d_SM_skewLink_67 : decode b_SM_skewLink 67 = .ok (.aload_n 0, 1) := by decide +kernel
theorem d_SM_skewLink_68 : decode b_SM_skewLink 68 = .ok (.aload_n 0, 1) := by decide +kernel
theorem d_SM_skewLink_69 : decode b_SM_skewLink 69 = .ok (.getfield 22, 3) := by decide +kernel
theorem d_SM_skewLink_72 : decode b_SM_skewLink 72 = .ok (.iload 4, 2) := by decide +kernel
theorem d_SM_skewLink_74 : decode b_SM_skewLink 74 = .ok (.invokevirtual 59, 3) := by decide +kernel
theorem d_SM_skewLink_77 : decode b_SM_skewLink 77 = .ok (.invokevirtual 63, 3) := by decide +kernel
theorem d_SM_skewLink_80 : decode b_SM_skewLink 80 = .ok (.aload_n 0, 1) := by decide +kernel
theorem d_SM_skewLink_81 : decode b_SM_skewLink 81 = .ok (.aload_n 0, 1) := by decide +kernel
theorem d_SM_skewLink_82 : decode b_SM_skewLink 82 = .ok (.getfield 22, 3) := by decide +kernel
theorem d_SM_skewLink_85 : decode b_SM_skewLink 85 = .ok (.iload 4, 2) := by decide +kernel
theorem d_SM_skewLink_87 : decode b_SM_skewLink 87 = .ok (.iload_n 1, 1) := by decide +kernel
theorem d_SM_skewLink_88 : decode b_SM_skewLink 88 = .ok (.invokevirtual 63, 3) := by decide +kernel
theorem d_SM_skewLink_91 : decode b_SM_skewLink 91 = .ok (.iload 4, 2) := by decide +kernel
theorem d_SM_skewLink_93 : decode b_SM_skewLink 93 = .ok (.ireturn, 1) := by decide +kernel
theorem d_SM_insert_0 : decode b_SM_insert 0 = .ok (.iload_n 2, 1) := by decide +kernel
theorem d_SM_insert_1 : decode b_SM_insert 1 = .ok (.iconst (-1), 1) := by decide +kernel
theorem d_SM_insert_2 : decode b_SM_insert 2 = .ok (.if_icmp .ne 7, 3) := by decide +kernel
theorem d_SM_insert_5 : decode b_SM_insert 5 = .ok (.iconst (-1), 1) := by decide +kernel
theorem d_SM_insert_6 : decode b_SM_insert 6 = .ok (.goto 12, 3) := by decide +kernel
theorem d_SM_insert_9 : decode b_SM_insert 9 = .ok (.aload_n 0, 1) := by decide +kernel
theorem d_SM_insert_10 : decode b_SM_insert 10 = .ok (.aload_n 0, 1) := by decide +kernel
theorem d_SM_insert_11 : decode b_SM_insert 11 = .ok (.getfield 19, 3) := by decide +kernel
theorem d_SM_insert_14 : decode b_SM_insert 14 = .ok (.iload_n 2, 1) := by decide +kernel
theorem d_SM_insert_15 : decode b_SM_insert 15 = .ok (.invokevirtual 59, 3) := by decide +kernel
theorem d_SM_insert_18 : decode b_SM_insert 18 = .ok (.istore_n 3, 1) := by decide +kernel
theorem d_SM_insert_19 : decode b_SM_insert 19 = .ok (.iload_n 3, 1) := by decide +kernel
theorem d_SM_insert_20 : decode b_SM_insert 20 = .ok (.iconst (-1), 1) := by decide +kernel
theorem d_SM_insert_21 : decode b_SM_insert 21 = .ok (.if_icmp .eq 59, 3) := by decide +kernel
theorem d_SM_insert_24 : decode b_SM_insert 24 = .ok (.aload_n 0, 1) := by decide +kernel
theorem d_SM_insert_25 : decode b_SM_insert 25 = .ok (.aload_n 0, 1) := by decide +kernel
theorem d_SM_insert_26 : decode b_SM_insert 26 = .ok (.getfield 13, 3) := by decide +kernel
theorem d_SM_insert_29 : decode b_SM_insert 29 = .ok (.iload_n 2, 1) := by decide +kernel
theorem d_SM_insert_30 : decode b_SM_insert 30 = .ok (.invokevirtual 59, 3) := by decide +kernel
theorem d_SM_insert_33 : decode b_SM_insert 33 = .ok (.aload_n 0, 1) := by decide +kernel
theorem d_SM_insert_34 : decode b_SM_insert 34 = .ok (.aload_n 0, 1) := by decide +kernel
theorem d_SM_insert_35 : decode b_SM_insert 35 = .ok (.getfield 13, 3) := by decide +kernel
theorem d_SM_insert_38 : decode b_SM_insert 38 = .ok (.iload_n 3, 1) := by decide +kernel
theorem d_SM_insert_39 : decode b_SM_insert 39 = .ok (.invokevirtual 59, 3) := by decide +kernel
theorem d_SM_insert_42 : decode b_SM_insert 42 = .ok (.if_icmp .ne 38, 3) := by decide +kernel
theorem d_SM_insert_45 : decode b_SM_insert 45 = .ok (.aload_n 0, 1) := by decide +kernel
theorem d_SM_insert_46 : decode b_SM_insert 46 = .ok (.aload_n 0, 1) := by decide +kernel
theorem d_SM_insert_47 : decode b_SM_insert 47 = .ok (.getfield 19, 3) := by decide +kernel
theorem d_SM_insert_50 : decode b_SM_insert 50 = .ok (.iload_n 3, 1) := by decide +kernel
theorem d_SM_insert_51 : decode b_SM_insert 51 = .ok (.invokevirtual 59, 3) := by decide +kernel
theorem d_SM_insert_54 : decode b_SM_insert 54 = .ok (.istore 4, 2) := by decide +kernel
theorem d_SM_insert_56 : decode b_SM_insert 56 = .ok (.aload_n 0, 1) := by decide +kernel
theorem d_SM_insert_57 : decode b_SM_insert 57 = .ok (.iload_n 1, 1) := by decide +kernel
theorem d_SM_insert_58 : decode b_SM_insert 58 = .ok (.iload_n 2, 1) := by decide +kernel
theorem d_SM_insert_59 : decode b_SM_insert 59 = .ok (.iload_n 3, 1) := by decide +kernel
theorem d_SM_insert_60 : decode b_SM_insert 60 = .ok (.invokevirtual 71, 3) := by decide +kernel
theorem d_SM_insert_63 : decode b_SM_insert 63 = .ok (.istore 5, 2) := by decide +kernel
theorem d_SM_insert_65 : decode b_SM_insert 65 = .ok (.aload_n 0, 1) := by decide +kernel
theorem d_SM_insert_66 : decode b_SM_insert 66 = .ok (.aload_n 0, 1) := by decide +kernel
theorem d_SM_insert_67 : decode b_SM_insert 67 = .ok (.getfield 19, 3) := by decide +kernel
theorem d_SM_insert_70 : decode b_SM_insert 70 = .ok (.iload 5, 2) := by decide +kernel
theorem d_SM_insert_72 : decode b_SM_insert 72 = .ok (.iload 4, 2) := by decide +kernel
theorem d_SM_insert_74 : decode b_SM_insert 74 = .ok (.invokevirtual 63, 3) := by decide +kernel
theorem d_SM_insert_77 : decode b_SM_insert 77 = .ok (.iload 5, 2) := by decide +kernel
theorem d_SM_insert_79 : decode b_SM_insert 79 = .ok (.ireturn, 1) := by decide +kernel
theorem d_SM_insert_80 : decode b_SM_insert 80 = .ok (.aload_n 0, 1) := by decide +kernel
theorem d_SM_insert_81 : decode b_SM_insert 81 = .ok (.aload_n 0, 1) := by decide +kernel
theorem d_SM_insert_82 : decode b_SM_insert 82 = .ok (.getfield 19, 3) := by decide +kernel
theorem d_SM_insert_85 : decode b_SM_insert 85 = .ok (.iload_n 1, 1) := by decide +kernel
theorem d_SM_insert_86 : decode b_SM_insert 86 = .ok (.iload_n 2, 1) := by decide +kernel
theorem d_SM_insert_87 : decode b_SM_insert 87 = .ok (.invokevirtual 63, 3) := by decide +kernel
theorem d_SM_insert_90 : decode b_SM_insert 90 = .ok (.iload_n 1, 1) := by decide +kernel
theorem d_SM_insert_91 : decode b_SM_insert 91 = .ok (.ireturn, 1) := by decide +kernel
theorem d_SM_put_0 : decode b_SM_put 0 = .ok (.iload_n 1, 1) := by decide +kernel
theorem d_SM_put_1 : decode b_SM_put 1 = .ok (.istore_n 3, 1) := by decide +kernel
theorem d_SM_put_2 : decode b_SM_put 2 = .ok (.iload_n 2, 1) := by decide +kernel
theorem d_SM_put_3 : decode b_SM_put 3 = .ok (.istore 4, 2) := by decide +kernel
theorem d_SM_put_5 : decode b_SM_put 5 = .ok (.iload 4, 2) := by decide +kernel
theorem d_SM_put_7 : decode b_SM_put 7 = .ok (.iconst (-1), 1) := by decide +kernel
theorem d_SM_put_8 : decode b_SM_put 8 = .ok (.if_icmp .eq 52, 3) := by decide +kernel
theorem d_SM_put_11 : decode b_SM_put 11 = .ok (.aload_n 0, 1) := by decide +kernel
theorem d_SM_put_12 : decode b_SM_put 12 = .ok (.aload_n 0, 1) := by decide +kernel
theorem d_SM_put_13 : decode b_SM_put 13 = .ok (.getfield 13, 3) := by decide +kernel
theorem d_SM_put_16 : decode b_SM_put 16 = .ok (.iload 4, 2) := by decide +kernel
theorem d_SM_put_18 : decode b_SM_put 18 = .ok (.invokevirtual 59, 3) := by decide +kernel
theorem d_SM_put_21 : decode b_SM_put 21 = .ok (.aload_n 0, 1) := by decide +kernel
theorem d_SM_put_22 : decode b_SM_put 22 = .ok (.aload_n 0, 1) := by decide +kernel
theorem d_SM_put_23 : decode b_SM_put 23 = .ok (.getfield 13, 3) := by decide +kernel
theorem d_SM_put_26 : decode b_SM_put 26 = .ok (.iload_n 3, 1) := by decide +kernel
theorem d_SM_put_27 : decode b_SM_put 27 = .ok (.invokevirtual 59, 3) := by decide +kernel
theorem d_SM_put_30 : decode b_SM_put 30 = .ok (.if_icmp .ne 30, 3) := by decide +kernel
theorem d_SM_put_33 : decode b_SM_put 33 = .ok (.aload_n 0, 1) := by decide +kernel
theorem d_SM_put_34 : decode b_SM_put 34 = .ok (.aload_n 0, 1) := by decide +kernel
theorem d_SM_put_35 : decode b_SM_put 35 = .ok (.getfield 19, 3) := by decide +kernel
theorem d_SM_put_38 : decode b_SM_put 38 = .ok (.iload 4, 2) := by decide +kernel
theorem d_SM_put_40 : decode b_SM_put 40 = .ok (.invokevirtual 59, 3) := by decide +kernel
theorem d_SM_put_43 : decode b_SM_put 43 = .ok (.istore 5, 2) := by decide +kernel
theorem d_SM_put_45 : decode b_SM_put 45 = .ok (.aload_n 0, 1) := by decide +kernel
theorem d_SM_put_46 : decode b_SM_put 46 = .ok (.iload_n 3, 1) := by decide +kernel
theorem d_SM_put_47 : decode b_SM_put 47 = .ok (.iload 4, 2) := by decide +kernel
theorem d_SM_put_49 : decode b_SM_put 49 = .ok (.invokevirtual 67, 3) := by decide +kernel
theorem d_SM_put_52 : decode b_SM_put 52 = .ok (.istore_n 3, 1) := by decide +kernel
theorem d_SM_put_53 : decode b_SM_put 53 = .ok (.iload 5, 2) := by decide +kernel
theorem d_SM_put_55 : decode b_SM_put 55 = .ok (.istore 4, 2) := by decide +kernel
theorem d_SM_put_57 : decode b_SM_put 57 = .ok (.goto (-52), 3) := by decide +kernel
theorem d_SM_put_60 : decode b_SM_put 60 = .ok (.aload_n 0, 1) := by decide +kernel
theorem d_SM_put_61 : decode b_SM_put 61 = .ok (.aload_n 0, 1) := by decide +kernel
theorem d_SM_put_62 : decode b_SM_put 62 = .ok (.getfield 19, 3) := by decide +kernel
theorem d_SM_put_65 : decode b_SM_put 65 = .ok (.iload_n 3, 1) := by decide +kernel
theorem d_SM_put_66 : decode b_SM_put 66 = .ok (.iload 4, 2) := by decide +kernel
theorem d_SM_put_68 : decode b_SM_put 68 = .ok (.invokevirtual 63, 3) := by decide +kernel
theorem d_SM_put_71 : decode b_SM_put 71 = .ok (.iload_n 3, 1) := by decide +kernel
theorem d_SM_put_72 : decode b_SM_put 72 = .ok (.ireturn, 1) := by decide +kernel
theorem d_SM_norm_0 : decode b_SM_norm 0 = .ok (.iload_n 1, 1) := by decide +kernel
theorem d_SM_norm_1 : decode b_SM_norm 1 = .ok (.iconst (-1), 1) := by decide +kernel
theorem d_SM_norm_2 : decode b_SM_norm 2 = .ok (.if_icmp .ne 7, 3) := by decide +kernel
theorem d_SM_norm_5 : decode b_SM_norm 5 = .ok (.iconst (-1), 1) := by decide +kernel
theorem d_SM_norm_6 : decode b_SM_norm 6 = .ok (.goto 17, 3) := by decide +kernel
theorem d_SM_norm_9 : decode b_SM_norm 9 = .ok (.aload_n 0, 1) := by decide +kernel
theorem d_SM_norm_10 : decode b_SM_norm 10 = .ok (.iload_n 1, 1) := by decide +kernel
theorem d_SM_norm_11 : decode b_SM_norm 11 = .ok (.aload_n 0, 1) := by decide +kernel
theorem d_SM_norm_12 : decode b_SM_norm 12 = .ok (.aload_n 0, 1) := by decide +kernel
theorem d_SM_norm_13 : decode b_SM_norm 13 = .ok (.getfield 19, 3) := by decide +kernel
theorem d_SM_norm_16 : decode b_SM_norm 16 = .ok (.iload_n 1, 1) := by decide +kernel
theorem d_SM_norm_17 : decode b_SM_norm 17 = .ok (.invokevirtual 59, 3) := by decide +kernel
theorem d_SM_norm_20 : decode b_SM_norm 20 = .ok (.invokevirtual 75, 3) := by decide +kernel
theorem d_SM_norm_23 : decode b_SM_norm 23 = .ok (.ireturn, 1) := by decide +kernel
theorem d_SM_merge_0 : decode b_SM_merge 0 = .ok (.iload_n 1, 1) := by decide +kernel
theorem d_SM_merge_1 : decode b_SM_merge 1 = .ok (.istore_n 3, 1) := by decide +kernel
theorem d_SM_merge_2 : decode b_SM_merge 2 = .ok (.iload_n 2, 1) := by decide +kernel
theorem d_SM_merge_3 : decode b_SM_merge 3 = .ok (.istore 4, 2) := by decide +kernel
theorem d_SM_merge_5 : decode b_SM_merge 5 = .ok (.iconst (-1), 1) := by decide +kernel
theorem d_SM_merge_6 : decode b_SM_merge 6 = .ok (.istore 5, 2) := by decide +kernel
theorem d_SM_merge_8 : decode b_SM_merge 8 = .ok (.iload_n 3, 1) := by decide +kernel
theorem d_SM_merge_9 : decode b_SM_merge 9 = .ok (.iconst (-1), 1) := by decide +kernel
theorem d_SM_merge_10 : decode b_SM_merge 10 = .ok (.if_icmp .eq 108, 3) := by decide +kernel
theorem d_SM_merge_13 : decode b_SM_merge 13 = .ok (.iload 4, 2) := by decide +kernel
theorem d_SM_merge_15 : decode b_SM_merge 15 = .ok (.iconst (-1), 1) := by decide +kernel
theorem d_SM_merge_16 : decode b_SM_merge 16 = .ok (.if_icmp .eq 102, 3) := by decide +kernel
theorem d_SM_merge_19 : decode b_SM_merge 19 = .ok (.aload_n 0, 1) := by decide +kernel
theorem d_SM_merge_20 : decode b_SM_merge 20 = .ok (.aload_n 0, 1) := by decide +kernel
theorem d_SM_merge_21 : decode b_SM_merge 21 = .ok (.getfield 13, 3) := by decide +kernel
theorem d_SM_merge_24 : decode b_SM_merge 24 = .ok (.iload_n 3, 1) := by decide +kernel
theorem d_SM_merge_25 : decode b_SM_merge 25 = .ok (.invokevirtual 59, 3) := by decide +kernel
theorem d_SM_merge_28 : decode b_SM_merge 28 = .ok (.aload_n 0, 1) := by decide +kernel
theorem d_SM_merge_29 : decode b_SM_merge 29 = .ok (.aload_n 0, 1) := by decide +kernel
theorem d_SM_merge_30 : decode b_SM_merge 30 = .ok (.getfield 13, 3) := by decide +kernel
theorem d_SM_merge_33 : decode b_SM_merge 33 = .ok (.iload 4, 2) := by decide +kernel
theorem d_SM_merge_35 : decode b_SM_merge 35 = .ok (.invokevirtual 59, 3) := by decide +kernel
theorem d_SM_merge_38 : decode b_SM_merge 38 = .ok (.if_icmp .gt 7, 3) := by decide +kernel
theorem d_SM_merge_41 : decode b_SM_merge 41 = .ok (.iconst 1, 1) := by decide +kernel
theorem d_SM_merge_42 : decode b_SM_merge 42 = .ok (.goto 4, 3) := by decide +kernel
theorem d_SM_merge_45 : decode b_SM_merge 45 = .ok (.iconst 0, 1) := by decide +kernel
theorem d_SM_merge_46 : decode b_SM_merge 46 = .ok (.istore 6, 2) := by decide +kernel
theorem d_SM_merge_48 : decode b_SM_merge 48 = .ok (.iload 6, 2) := by decide +kernel
theorem d_SM_merge_50 : decode b_SM_merge 50 = .ok (.ifCond .eq 7, 3) := by decide +kernel
theorem d_SM_merge_53 : decode b_SM_merge 53 = .ok (.iload_n 3, 1) := by decide +kernel
theorem d_SM_merge_54 : decode b_SM_merge 54 = .ok (.goto 5, 3) := by decide +kernel
theorem d_SM_merge_57 : decode b_SM_merge 57 = .ok (.iload 4, 2) := by decide +kernel
theorem d_SM_merge_59 : decode b_SM_merge 59 = .ok (.istore 7, 2) := by decide +kernel
theorem d_SM_merge_61 : decode b_SM_merge 61 = .ok (.aload_n 0, 1) := by decide +kernel
theorem d_SM_merge_62 : decode b_SM_merge 62 = .ok (.aload_n 0, 1) := by decide +kernel
theorem d_SM_merge_63 : decode b_SM_merge 63 = .ok (.getfield 19, 3) := by decide +kernel
theorem d_SM_merge_66 : decode b_SM_merge 66 = .ok (.iload 7, 2) := by decide +kernel
theorem d_SM_merge_68 : decode b_SM_merge 68 = .ok (.invokevirtual 59, 3) := by decide +kernel
theorem d_SM_merge_71 : decode b_SM_merge 71 = .ok (.istore 8, 2) := by decide +kernel
theorem d_SM_merge_73 : decode b_SM_merge 73 = .ok (.iload 6, 2) := by decide +kernel
theorem d_SM_merge_75 : decode b_SM_merge 75 = .ok (.ifCond .eq 8, 3) := by decide +kernel
theorem d_SM_merge_78 : decode b_SM_merge 78 = .ok (.iload 8, 2) := by decide +kernel
theorem d_SM_merge_80 : decode b_SM_merge 80 = .ok (.goto 4, 3) := by decide +kernel
theorem d_SM_merge_83 : decode b_SM_merge 83 = .ok (.iload_n 3, 1) := by decide +kernel
theorem d_SM_merge_84 : decode b_SM_merge 84 = .ok (.istore_n 3, 1) := by decide +kernel
theorem d_SM_merge_85 : decode b_SM_merge 85 = .ok (.iload 6, 2) := by decide +kernel
theorem d_SM_merge_87 : decode b_SM_merge 87 = .ok (.ifCond .eq 8, 3) := by decide +kernel
theorem d_SM_merge_90 : decode b_SM_merge 90 = .ok (.iload 4, 2) := by decide +kernel
theorem d_SM_merge_92 : decode b_SM_merge 92 = .ok (.goto 5, 3) := by decide +kernel
theorem d_SM_merge_95 : decode b_SM_merge 95 = .ok (.iload 8, 2) := by decide +kernel
theorem d_SM_merge_97 : decode b_SM_merge 97 = .ok (.istore 4, 2) := by decide +kernel
theorem d_SM_merge_99 : decode b_SM_merge 99 = .ok (.aload_n 0, 1) := by decide +kernel
theorem d_SM_merge_100 : decode b_SM_merge 100 = .ok (.aload_n 0, 1) := by decide +kernel
theorem d_SM_merge_101 : decode b_SM_merge 101 = .ok (.getfield 19, 3) := by decide +kernel
theorem d_SM_merge_104 : decode b_SM_merge 104 = .ok (.iload 7, 2) := by decide +kernel
theorem d_SM_merge_106 : decode b_SM_merge 106 = .ok (.iload 5, 2) := by decide +kernel
theorem d_SM_merge_108 : decode b_SM_merge 108 = .ok (.invokevirtual 63, 3) := by decide +kernel
theorem d_SM_merge_111 : decode b_SM_merge 111 = .ok (.iload 7, 2) := by decide +kernel
theorem d_SM_merge_113 : decode b_SM_merge 113 = .ok (.istore 5, 2) := by decide +kernel
theorem d_SM_merge_115 : decode b_SM_merge 115 = .ok (.goto (-107), 3) := by decide +kernel
theorem d_SM_merge_118 : decode b_SM_merge 118 = .ok (.iload_n 3, 1) := by decide +kernel
theorem d_SM_merge_119 : decode b_SM_merge 119 = .ok (.iconst (-1), 1) := by decide +kernel
theorem d_SM_merge_120 : decode b_SM_merge 120 = .ok (.if_icmp .eq 7, 3) := by decide +kernel
theorem d_SM_merge_123 : decode b_SM_merge 123 = .ok (.iload_n 3, 1) := by decide +kernel
theorem d_SM_merge_124 : decode b_SM_merge 124 = .ok (.goto 5, 3) := by decide +kernel
theorem d_SM_merge_127 : decode b_SM_merge 127 = .ok (.iload 4, 2) := by decide +kernel
theorem d_SM_merge_129 : decode b_SM_merge 129 = .ok (.istore 6, 2) := by decide +kernel
theorem d_SM_merge_131 : decode b_SM_merge 131 = .ok (.iload 5, 2) := by decide +kernel
theorem d_SM_merge_133 : decode b_SM_merge 133 = .ok (.iconst (-1), 1) := by decide +kernel
theorem d_SM_merge_134 : decode b_SM_merge 134 = .ok (.if_icmp .eq 32, 3) := by decide +kernel
theorem d_SM_merge_137 : decode b_SM_merge 137 = .ok (.aload_n 0, 1) := by decide +kernel
theorem d_SM_merge_138 : decode b_SM_merge 138 = .ok (.aload_n 0, 1) := by decide +kernel
theorem d_SM_merge_139 : decode b_SM_merge 139 = .ok (.getfield 19, 3) := by decide +kernel
theorem d_SM_merge_142 : decode b_SM_merge 142 = .ok (.iload 5, 2) := by decide +kernel
theorem d_SM_merge_144 : decode b_SM_merge 144 = .ok (.invokevirtual 59, 3) := by decide +kernel
theorem d_SM_merge_147 : decode b_SM_merge 147 = .ok (.istore 7, 2) := by decide +kernel
theorem d_SM_merge_149 : decode b_SM_merge 149 = .ok (.aload_n 0, 1) := by decide +kernel
theorem d_SM_merge_150 : decode b_SM_merge 150 = .ok (.iload 5, 2) := by decide +kernel
theorem d_SM_merge_152 : decode b_SM_merge 152 = .ok (.iload 6, 2) := by decide +kernel
theorem d_SM_merge_154 : decode b_SM_merge 154 = .ok (.invokevirtual 75, 3) := by decide +kernel
theorem d_SM_merge_157 : decode b_SM_merge 157 = .ok (.istore 6, 2) := by decide +kernel
theorem d_SM_merge_159 : decode b_SM_merge 159 = .ok (.iload 7, 2) := by decide +kernel
theorem d_SM_merge_161 : decode b_SM_merge 161 = .ok (.istore 5, 2) := by decide +kernel
theorem d_SM_merge_163 : decode b_SM_merge 163 = .ok (.goto (-32), 3) := by decide +kernel
theorem d_SM_merge_166 : decode b_SM_merge 166 = .ok (.iload 6, 2) := by decide +kernel
theorem d_SM_merge_168 : decode b_SM_merge 168 = .ok (.ireturn, 1) := by decide +kernel
theorem d_SM_heap_0 : decode b_SM_heap 0 = .ok (.aload_n 0, 1) := by decide +kernel
theorem d_SM_heap_1 : decode b_SM_heap 1 = .ok (.ldc 78, 2) := by decide +kernel
theorem d_SM_heap_3 : decode b_SM_heap 3 = .ok (.invokevirtual 79, 3) := by decide +kernel
theorem d_SM_heap_6 : decode b_SM_heap 6 = .ok (.aload_n 0, 1) := by decide +kernel
theorem d_SM_heap_7 : decode b_SM_heap 7 = .ok (.getfield 41, 3) := by decide +kernel
theorem d_SM_heap_10 : decode b_SM_heap 10 = .ok (.bipush 8, 2) := by decide +kernel
theorem d_SM_heap_12 : decode b_SM_heap 12 = .ok (.if_icmp .ne 5, 3) := by decide +kernel
theorem d_SM_heap_15 : decode b_SM_heap 15 = .ok (.iconst (-1), 1) := by decide +kernel
theorem d_SM_heap_16 : decode b_SM_heap 16 = .ok (.ireturn, 1) := by decide +kernel
theorem d_SM_heap_17 : decode b_SM_heap 17 = .ok (.aload_n 0, 1) := by decide +kernel
theorem d_SM_heap_18 : decode b_SM_heap 18 = .ok (.getfield 29, 3) := by decide +kernel
theorem d_SM_heap_21 : decode b_SM_heap 21 = .ok (.aload_n 0, 1) := by decide +kernel
theorem d_SM_heap_22 : decode b_SM_heap 22 = .ok (.getfield 41, 3) := by decide +kernel
theorem d_SM_heap_25 : decode b_SM_heap 25 = .ok (.iconst (-1), 1) := by decide +kernel
theorem d_SM_heap_26 : decode b_SM_heap 26 = .ok (.iastore, 1) := by decide +kernel
theorem d_SM_heap_27 : decode b_SM_heap 27 = .ok (.aload_n 0, 1) := by decide +kernel
theorem d_SM_heap_28 : decode b_SM_heap 28 = .ok (.getfield 32, 3) := by decide +kernel
theorem d_SM_heap_31 : decode b_SM_heap 31 = .ok (.aload_n 0, 1) := by decide +kernel
theorem d_SM_heap_32 : decode b_SM_heap 32 = .ok (.getfield 41, 3) := by decide +kernel
theorem d_SM_heap_35 : decode b_SM_heap 35 = .ok (.iconst 0, 1) := by decide +kernel
theorem d_SM_heap_36 : decode b_SM_heap 36 = .ok (.iastore, 1) := by decide +kernel
theorem d_SM_heap_37 : decode b_SM_heap 37 = .ok (.aload_n 0, 1) := by decide +kernel
theorem d_SM_heap_38 : decode b_SM_heap 38 = .ok (.dup, 1) := by decide +kernel
theorem d_SM_heap_39 : decode b_SM_heap 39 = .ok (.getfield 41, 3) := by decide +kernel
theorem d_SM_heap_42 : decode b_SM_heap 42 = .ok (.dup_x1, 1) := by decide +kernel
theorem d_SM_heap_43 : decode b_SM_heap 43 = .ok (.iconst 1, 1) := by decide +kernel
theorem d_SM_heap_44 : decode b_SM_heap 44 = .ok (.iadd, 1) := by decide +kernel
theorem d_SM_heap_45 : decode b_SM_heap 45 = .ok (.putfield 41, 3) := by decide +kernel
theorem d_SM_heap_48 : decode b_SM_heap 48 = .ok (.ireturn, 1) := by decide +kernel
theorem d_SM_add_0 : decode b_SM_add 0 = .ok (.aload_n 0, 1) := by decide +kernel
theorem d_SM_add_1 : decode b_SM_add 1 = .ok (.bipush 100, 2) := by decide +kernel
theorem d_SM_add_3 : decode b_SM_add 3 = .ok (.invokevirtual 79, 3) := by decide +kernel
theorem d_SM_add_6 : decode b_SM_add 6 = .ok (.aload_n 0, 1) := by decide +kernel
theorem d_SM_add_7 : decode b_SM_add 7 = .ok (.iload_n 1, 1) := by decide +kernel
theorem d_SM_add_8 : decode b_SM_add 8 = .ok (.invokevirtual 83, 3) := by decide +kernel
end
section
theorem d_SM_add_11 : decode b_SM_add 11 = .ok (.ifCond .ne 5, 3) := by decide +kernel
theorem d_SM_add_14 : decode b_SM_add 14 = .ok (.iconst (-1), 1) := by decide +kernel
theorem d_SM_add_15 : decode b_SM_add 15 = .ok (.ireturn, 1) := by decide +kernel
theorem d_SM_add_16 : decode b_SM_add 16 = .ok (.aload_n 0, 1) := by decide +kernel
theorem d_SM_add_17 : decode b_SM_add 17 = .ok (.getfield 25, 3) := by decide +kernel
theorem d_SM_add_20 : decode b_SM_add 20 = .ok (.ifCond .ne 6, 3) := by decide +kernel
theorem d_SM_add_23 : decode b_SM_add 23 = .ok (.bipush (-2), 2) := by decide +kernel
theorem d_SM_add_25 : decode b_SM_add 25 = .ok (.ireturn, 1) := by decide +kernel
theorem d_SM_add_26 : decode b_SM_add 26 = .ok (.aload_n 0, 1) := by decide +kernel
theorem d_SM_add_27 : decode b_SM_add 27 = .ok (.aload_n 0, 1) := by decide +kernel
theorem d_SM_add_28 : decode b_SM_add 28 = .ok (.getfield 29, 3) := by decide +kernel
theorem d_SM_add_31 : decode b_SM_add 31 = .ok (.iload_n 1, 1) := by decide +kernel
theorem d_SM_add_32 : decode b_SM_add 32 = .ok (.aload_n 0, 1) := by decide +kernel
theorem d_SM_add_33 : decode b_SM_add 33 = .ok (.aload_n 0, 1) := by decide +kernel
theorem d_SM_add_34 : decode b_SM_add 34 = .ok (.iload_n 2, 1) := by decide +kernel
theorem d_SM_add_35 : decode b_SM_add 35 = .ok (.invokevirtual 87, 3) := by decide +kernel
theorem d_SM_add_38 : decode b_SM_add 38 = .ok (.aload_n 0, 1) := by decide +kernel
theorem d_SM_add_39 : decode b_SM_add 39 = .ok (.aload_n 0, 1) := by decide +kernel
theorem d_SM_add_40 : decode b_SM_add 40 = .ok (.getfield 29, 3) := by decide +kernel
theorem d_SM_add_43 : decode b_SM_add 43 = .ok (.iload_n 1, 1) := by decide +kernel
theorem d_SM_add_44 : decode b_SM_add 44 = .ok (.invokevirtual 59, 3) := by decide +kernel
theorem d_SM_add_47 : decode b_SM_add 47 = .ok (.invokevirtual 90, 3) := by decide +kernel
theorem d_SM_add_50 : decode b_SM_add 50 = .ok (.invokevirtual 63, 3) := by decide +kernel
theorem d_SM_add_53 : decode b_SM_add 53 = .ok (.aload_n 0, 1) := by decide +kernel
theorem d_SM_add_54 : decode b_SM_add 54 = .ok (.aload_n 0, 1) := by decide +kernel
theorem d_SM_add_55 : decode b_SM_add 55 = .ok (.getfield 32, 3) := by decide +kernel
theorem d_SM_add_58 : decode b_SM_add 58 = .ok (.iload_n 1, 1) := by decide +kernel
theorem d_SM_add_59 : decode b_SM_add 59 = .ok (.invokevirtual 59, 3) := by decide +kernel
theorem d_SM_add_62 : decode b_SM_add 62 = .ok (.iconst 1, 1) := by decide +kernel
theorem d_SM_add_63 : decode b_SM_add 63 = .ok (.iadd, 1) := by decide +kernel
theorem d_SM_add_64 : decode b_SM_add 64 = .ok (.istore_n 3, 1) := by decide +kernel
theorem d_SM_add_65 : decode b_SM_add 65 = .ok (.aload_n 0, 1) := by decide +kernel
theorem d_SM_add_66 : decode b_SM_add 66 = .ok (.aload_n 0, 1) := by decide +kernel
theorem d_SM_add_67 : decode b_SM_add 67 = .ok (.getfield 32, 3) := by decide +kernel
theorem d_SM_add_70 : decode b_SM_add 70 = .ok (.iload_n 1, 1) := by decide +kernel
theorem d_SM_add_71 : decode b_SM_add 71 = .ok (.iload_n 3, 1) := by decide +kernel
theorem d_SM_add_72 : decode b_SM_add 72 = .ok (.invokevirtual 63, 3) := by decide +kernel
theorem d_SM_add_75 : decode b_SM_add 75 = .ok (.iload_n 3, 1) := by decide +kernel
theorem d_SM_add_76 : decode b_SM_add 76 = .ok (.ireturn, 1) := by decide +kernel
theorem d_SM_leastTree_0 : decode b_SM_leastTree 0 = .ok (.aload_n 0, 1) := by decide +kernel
theorem d_SM_leastTree_1 : decode b_SM_leastTree 1 = .ok (.aload_n 0, 1) := by decide +kernel
theorem d_SM_leastTree_2 : decode b_SM_leastTree 2 = .ok (.getfield 29, 3) := by decide +kernel
theorem d_SM_leastTree_5 : decode b_SM_leastTree 5 = .ok (.iload_n 1, 1) := by decide +kernel
theorem d_SM_leastTree_6 : decode b_SM_leastTree 6 = .ok (.invokevirtual 59, 3) := by decide +kernel
theorem d_SM_leastTree_9 : decode b_SM_leastTree 9 = .ok (.istore_n 2, 1) := by decide +kernel
theorem d_SM_leastTree_10 : decode b_SM_leastTree 10 = .ok (.iload_n 2, 1) := by decide +kernel
theorem d_SM_leastTree_11 : decode b_SM_leastTree 11 = .ok (.istore_n 3, 1) := by decide +kernel
theorem d_SM_leastTree_12 : decode b_SM_leastTree 12 = .ok (.iload_n 3, 1) := by decide +kernel
theorem d_SM_leastTree_13 : decode b_SM_leastTree 13 = .ok (.iconst (-1), 1) := by decide +kernel
theorem d_SM_leastTree_14 : decode b_SM_leastTree 14 = .ok (.if_icmp .eq 43, 3) := by decide +kernel
theorem d_SM_leastTree_17 : decode b_SM_leastTree 17 = .ok (.aload_n 0, 1) := by decide +kernel
theorem d_SM_leastTree_18 : decode b_SM_leastTree 18 = .ok (.aload_n 0, 1) := by decide +kernel
theorem d_SM_leastTree_19 : decode b_SM_leastTree 19 = .ok (.getfield 7, 3) := by decide +kernel
theorem d_SM_leastTree_22 : decode b_SM_leastTree 22 = .ok (.iload_n 3, 1) := by decide +kernel
theorem d_SM_leastTree_23 : decode b_SM_leastTree 23 = .ok (.invokevirtual 59, 3) := by decide +kernel
theorem d_SM_leastTree_26 : decode b_SM_leastTree 26 = .ok (.aload_n 0, 1) := by decide +kernel
theorem d_SM_leastTree_27 : decode b_SM_leastTree 27 = .ok (.aload_n 0, 1) := by decide +kernel
theorem d_SM_leastTree_28 : decode b_SM_leastTree 28 = .ok (.getfield 7, 3) := by decide +kernel
theorem d_SM_leastTree_31 : decode b_SM_leastTree 31 = .ok (.iload_n 2, 1) := by decide +kernel
theorem d_SM_leastTree_32 : decode b_SM_leastTree 32 = .ok (.invokevirtual 59, 3) := by decide +kernel
theorem d_SM_leastTree_35 : decode b_SM_leastTree 35 = .ok (.if_icmp .ge 7, 3) := by decide +kernel
theorem d_SM_leastTree_38 : decode b_SM_leastTree 38 = .ok (.iload_n 3, 1) := by decide +kernel
theorem d_SM_leastTree_39 : decode b_SM_leastTree 39 = .ok (.goto 4, 3) := by decide +kernel
theorem d_SM_leastTree_42 : decode b_SM_leastTree 42 = .ok (.iload_n 2, 1) := by decide +kernel
theorem d_SM_leastTree_43 : decode b_SM_leastTree 43 = .ok (.istore_n 2, 1) := by decide +kernel
theorem d_SM_leastTree_44 : decode b_SM_leastTree 44 = .ok (.aload_n 0, 1) := by decide +kernel
theorem d_SM_leastTree_45 : decode b_SM_leastTree 45 = .ok (.aload_n 0, 1) := by decide +kernel
theorem d_SM_leastTree_46 : decode b_SM_leastTree 46 = .ok (.getfield 19, 3) := by decide +kernel
theorem d_SM_leastTree_49 : decode b_SM_leastTree 49 = .ok (.iload_n 3, 1) := by decide +kernel
theorem d_SM_leastTree_50 : decode b_SM_leastTree 50 = .ok (.invokevirtual 59, 3) := by decide +kernel
theorem d_SM_leastTree_53 : decode b_SM_leastTree 53 = .ok (.istore_n 3, 1) := by decide +kernel
theorem d_SM_leastTree_54 : decode b_SM_leastTree 54 = .ok (.goto (-42), 3) := by decide +kernel
theorem d_SM_leastTree_57 : decode b_SM_leastTree 57 = .ok (.iload_n 2, 1) := by decide +kernel
theorem d_SM_leastTree_58 : decode b_SM_leastTree 58 = .ok (.ireturn, 1) := by decide +kernel
theorem d_SM_least_0 : decode b_SM_least 0 = .ok (.aload_n 0, 1) := by decide +kernel
theorem d_SM_least_1 : decode b_SM_least 1 = .ok (.aload_n 0, 1) := by decide +kernel
theorem d_SM_least_2 : decode b_SM_least 2 = .ok (.iload_n 1, 1) := by decide +kernel
theorem d_SM_least_3 : decode b_SM_least 3 = .ok (.invokevirtual 83, 3) := by decide +kernel
theorem d_SM_least_6 : decode b_SM_least 6 = .ok (.ifCond .eq 15, 3) := by decide +kernel
theorem d_SM_least_9 : decode b_SM_least 9 = .ok (.aload_n 0, 1) := by decide +kernel
theorem d_SM_least_10 : decode b_SM_least 10 = .ok (.getfield 32, 3) := by decide +kernel
theorem d_SM_least_13 : decode b_SM_least 13 = .ok (.iload_n 1, 1) := by decide +kernel
theorem d_SM_least_14 : decode b_SM_least 14 = .ok (.iaload, 1) := by decide +kernel
theorem d_SM_least_15 : decode b_SM_least 15 = .ok (.invokestatic 93, 3) := by decide +kernel
theorem d_SM_least_18 : decode b_SM_least 18 = .ok (.goto 5, 3) := by decide +kernel
theorem d_SM_least_21 : decode b_SM_least 21 = .ok (.ldc 78, 2) := by decide +kernel
theorem d_SM_least_23 : decode b_SM_least 23 = .ok (.invokevirtual 79, 3) := by decide +kernel
theorem d_SM_least_26 : decode b_SM_least 26 = .ok (.aload_n 0, 1) := by decide +kernel
theorem d_SM_least_27 : decode b_SM_least 27 = .ok (.iload_n 1, 1) := by decide +kernel
theorem d_SM_least_28 : decode b_SM_least 28 = .ok (.invokevirtual 83, 3) := by decide +kernel
theorem d_SM_least_31 : decode b_SM_least 31 = .ok (.ifCond .eq 29, 3) := by decide +kernel
theorem d_SM_least_34 : decode b_SM_least 34 = .ok (.aload_n 0, 1) := by decide +kernel
theorem d_SM_least_35 : decode b_SM_least 35 = .ok (.getfield 32, 3) := by decide +kernel
theorem d_SM_least_38 : decode b_SM_least 38 = .ok (.iload_n 1, 1) := by decide +kernel
theorem d_SM_least_39 : decode b_SM_least 39 = .ok (.iaload, 1) := by decide +kernel
theorem d_SM_least_40 : decode b_SM_least 40 = .ok (.ifCond .le 20, 3) := by decide +kernel
theorem d_SM_least_43 : decode b_SM_least 43 = .ok (.aload_n 0, 1) := by decide +kernel
theorem d_SM_least_44 : decode b_SM_least 44 = .ok (.aload_n 0, 1) := by decide +kernel
theorem d_SM_least_45 : decode b_SM_least 45 = .ok (.getfield 7, 3) := by decide +kernel
theorem d_SM_least_48 : decode b_SM_least 48 = .ok (.aload_n 0, 1) := by decide +kernel
theorem d_SM_least_49 : decode b_SM_least 49 = .ok (.iload_n 1, 1) := by decide +kernel
theorem d_SM_least_50 : decode b_SM_least 50 = .ok (.invokevirtual 96, 3) := by decide +kernel
theorem d_SM_least_53 : decode b_SM_least 53 = .ok (.invokevirtual 59, 3) := by decide +kernel
theorem d_SM_least_56 : decode b_SM_least 56 = .ok (.i2l, 1) := by decide +kernel
theorem d_SM_least_57 : decode b_SM_least 57 = .ok (.goto 6, 3) := by decide +kernel
theorem d_SM_least_60 : decode b_SM_least 60 = .ok (.ldc2_w 101, 3) := by decide +kernel
theorem d_SM_least_63 : decode b_SM_least 63 = .ok (.lreturn, 1) := by decide +kernel
theorem d_SM_remove_0 : decode b_SM_remove 0 = .ok (.aload_n 0, 1) := by decide +kernel
theorem d_SM_remove_1 : decode b_SM_remove 1 = .ok (.aload_n 0, 1) := by decide +kernel
theorem d_SM_remove_2 : decode b_SM_remove 2 = .ok (.getfield 19, 3) := by decide +kernel
theorem d_SM_remove_5 : decode b_SM_remove 5 = .ok (.iload_n 2, 1) := by decide +kernel
theorem d_SM_remove_6 : decode b_SM_remove 6 = .ok (.invokevirtual 59, 3) := by decide +kernel
theorem d_SM_remove_9 : decode b_SM_remove 9 = .ok (.istore_n 3, 1) := by decide +kernel
theorem d_SM_remove_10 : decode b_SM_remove 10 = .ok (.aload_n 0, 1) := by decide +kernel
theorem d_SM_remove_11 : decode b_SM_remove 11 = .ok (.aload_n 0, 1) := by decide +kernel
theorem d_SM_remove_12 : decode b_SM_remove 12 = .ok (.getfield 29, 3) := by decide +kernel
theorem d_SM_remove_15 : decode b_SM_remove 15 = .ok (.iload_n 1, 1) := by decide +kernel
theorem d_SM_remove_16 : decode b_SM_remove 16 = .ok (.invokevirtual 59, 3) := by decide +kernel
theorem d_SM_remove_19 : decode b_SM_remove 19 = .ok (.istore 4, 2) := by decide +kernel
theorem d_SM_remove_21 : decode b_SM_remove 21 = .ok (.iload 4, 2) := by decide +kernel
theorem d_SM_remove_23 : decode b_SM_remove 23 = .ok (.iload_n 2, 1) := by decide +kernel
theorem d_SM_remove_24 : decode b_SM_remove 24 = .ok (.if_icmp .ne 14, 3) := by decide +kernel
theorem d_SM_remove_27 : decode b_SM_remove 27 = .ok (.aload_n 0, 1) := by decide +kernel
theorem d_SM_remove_28 : decode b_SM_remove 28 = .ok (.aload_n 0, 1) := by decide +kernel
theorem d_SM_remove_29 : decode b_SM_remove 29 = .ok (.getfield 29, 3) := by decide +kernel
theorem d_SM_remove_32 : decode b_SM_remove 32 = .ok (.iload_n 1, 1) := by decide +kernel
theorem d_SM_remove_33 : decode b_SM_remove 33 = .ok (.iload_n 3, 1) := by decide +kernel
theorem d_SM_remove_34 : decode b_SM_remove 34 = .ok (.invokevirtual 63, 3) := by decide +kernel
theorem d_SM_remove_37 : decode b_SM_remove 37 = .ok (.return_, 1) := by decide +kernel
theorem d_SM_remove_38 : decode b_SM_remove 38 = .ok (.aload_n 0, 1) := by decide +kernel
theorem d_SM_remove_39 : decode b_SM_remove 39 = .ok (.aload_n 0, 1) := by decide +kernel
theorem d_SM_remove_40 : decode b_SM_remove 40 = .ok (.getfield 19, 3) := by decide +kernel
theorem d_SM_remove_43 : decode b_SM_remove 43 = .ok (.iload 4, 2) := by decide +kernel
theorem d_SM_remove_45 : decode b_SM_remove 45 = .ok (.invokevirtual 59, 3) := by decide +kernel
theorem d_SM_remove_48 : decode b_SM_remove 48 = .ok (.iload_n 2, 1) := by decide +kernel
theorem d_SM_remove_49 : decode b_SM_remove 49 = .ok (.if_icmp .eq 18, 3) := by decide +kernel
theorem d_SM_remove_52 : decode b_SM_remove 52 = .ok (.aload_n 0, 1) := by decide +kernel
theorem d_SM_remove_53 : decode b_SM_remove 53 = .ok (.aload_n 0, 1) := by decide +kernel
theorem d_SM_remove_54 : decode b_SM_remove 54 = .ok (.getfield 19, 3) := by decide +kernel
theorem d_SM_remove_57 : decode b_SM_remove 57 = .ok (.iload 4, 2) := by decide +kernel
theorem d_SM_remove_59 : decode b_SM_remove 59 = .ok (.invokevirtual 59, 3) := by decide +kernel
theorem d_SM_remove_62 : decode b_SM_remove 62 = .ok (.istore 4, 2) := by decide +kernel
theorem d_SM_remove_64 : decode b_SM_remove 64 = .ok (.goto (-26), 3) := by decide +kernel
theorem d_SM_remove_67 : decode b_SM_remove 67 = .ok (.aload_n 0, 1) := by decide +kernel
theorem d_SM_remove_68 : decode b_SM_remove 68 = .ok (.aload_n 0, 1) := by decide +kernel
theorem d_SM_remove_69 : decode b_SM_remove 69 = .ok (.getfield 19, 3) := by decide +kernel
theorem d_SM_remove_72 : decode b_SM_remove 72 = .ok (.iload 4, 2) := by decide +kernel
theorem d_SM_remove_74 : decode b_SM_remove 74 = .ok (.iload_n 3, 1) := by decide +kernel
theorem d_SM_remove_75 : decode b_SM_remove 75 = .ok (.invokevirtual 63, 3) := by decide +kernel
theorem d_SM_remove_78 : decode b_SM_remove 78 = .ok (.return_, 1) := by decide +kernel
theorem d_SM_turned_0 : decode b_SM_turned 0 = .ok (.iconst (-1), 1) := by decide +kernel
theorem d_SM_turned_1 : decode b_SM_turned 1 = .ok (.istore_n 2, 1) := by decide +kernel
theorem d_SM_turned_2 : decode b_SM_turned 2 = .ok (.iload_n 1, 1) := by decide +kernel
theorem d_SM_turned_3 : decode b_SM_turned 3 = .ok (.istore_n 3, 1) := by decide +kernel
theorem d_SM_turned_4 : decode b_SM_turned 4 = .ok (.iload_n 3, 1) := by decide +kernel
theorem d_SM_turned_5 : decode b_SM_turned 5 = .ok (.iconst (-1), 1) := by decide +kernel
theorem d_SM_turned_6 : decode b_SM_turned 6 = .ok (.if_icmp .eq 32, 3) := by decide +kernel
theorem d_SM_turned_9 : decode b_SM_turned 9 = .ok (.aload_n 0, 1) := by decide +kernel
theorem d_SM_turned_10 : decode b_SM_turned 10 = .ok (.aload_n 0, 1) := by decide +kernel
theorem d_SM_turned_11 : decode b_SM_turned 11 = .ok (.getfield 19, 3) := by decide +kernel
theorem d_SM_turned_14 : decode b_SM_turned 14 = .ok (.iload_n 3, 1) := by decide +kernel
theorem d_SM_turned_15 : decode b_SM_turned 15 = .ok (.invokevirtual 59, 3) := by decide +kernel
theorem d_SM_turned_18 : decode b_SM_turned 18 = .ok (.istore 4, 2) := by decide +kernel
theorem d_SM_turned_20 : decode b_SM_turned 20 = .ok (.aload_n 0, 1) := by decide +kernel
theorem d_SM_turned_21 : decode b_SM_turned 21 = .ok (.aload_n 0, 1) := by decide +kernel
theorem d_SM_turned_22 : decode b_SM_turned 22 = .ok (.getfield 19, 3) := by decide +kernel
theorem d_SM_turned_25 : decode b_SM_turned 25 = .ok (.iload_n 3, 1) := by decide +kernel
theorem d_SM_turned_26 : decode b_SM_turned 26 = .ok (.iload_n 2, 1) := by decide +kernel
theorem d_SM_turned_27 : decode b_SM_turned 27 = .ok (.invokevirtual 63, 3) := by decide +kernel
theorem d_SM_turned_30 : decode b_SM_turned 30 = .ok (.iload_n 3, 1) := by decide +kernel
theorem d_SM_turned_31 : decode b_SM_turned 31 = .ok (.istore_n 2, 1) := by decide +kernel
theorem d_SM_turned_32 : decode b_SM_turned 32 = .ok (.iload 4, 2) := by decide +kernel
theorem d_SM_turned_34 : decode b_SM_turned 34 = .ok (.istore_n 3, 1) := by decide +kernel
theorem d_SM_turned_35 : decode b_SM_turned 35 = .ok (.goto (-31), 3) := by decide +kernel
theorem d_SM_turned_38 : decode b_SM_turned 38 = .ok (.iload_n 2, 1) := by decide +kernel
theorem d_SM_turned_39 : decode b_SM_turned 39 = .ok (.ireturn, 1) := by decide +kernel
theorem d_SM_take_0 : decode b_SM_take 0 = .ok (.aload_n 0, 1) := by decide +kernel
theorem d_SM_take_1 : decode b_SM_take 1 = .ok (.aload_n 0, 1) := by decide +kernel
theorem d_SM_take_2 : decode b_SM_take 2 = .ok (.iload_n 1, 1) := by decide +kernel
theorem d_SM_take_3 : decode b_SM_take 3 = .ok (.invokevirtual 83, 3) := by decide +kernel
theorem d_SM_take_6 : decode b_SM_take 6 = .ok (.ifCond .eq 15, 3) := by decide +kernel
theorem d_SM_take_9 : decode b_SM_take 9 = .ok (.aload_n 0, 1) := by decide +kernel
theorem d_SM_take_10 : decode b_SM_take 10 = .ok (.getfield 32, 3) := by decide +kernel
theorem d_SM_take_13 : decode b_SM_take 13 = .ok (.iload_n 1, 1) := by decide +kernel
theorem d_SM_take_14 : decode b_SM_take 14 = .ok (.iaload, 1) := by decide +kernel
theorem d_SM_take_15 : decode b_SM_take 15 = .ok (.invokestatic 93, 3) := by decide +kernel
theorem d_SM_take_18 : decode b_SM_take 18 = .ok (.goto 5, 3) := by decide +kernel
theorem d_SM_take_21 : decode b_SM_take 21 = .ok (.ldc 78, 2) := by decide +kernel
theorem d_SM_take_23 : decode b_SM_take 23 = .ok (.invokevirtual 79, 3) := by decide +kernel
theorem d_SM_take_26 : decode b_SM_take 26 = .ok (.aload_n 0, 1) := by decide +kernel
theorem d_SM_take_27 : decode b_SM_take 27 = .ok (.iload_n 1, 1) := by decide +kernel
theorem d_SM_take_28 : decode b_SM_take 28 = .ok (.invokevirtual 83, 3) := by decide +kernel
theorem d_SM_take_31 : decode b_SM_take 31 = .ok (.ifCond .eq 12, 3) := by decide +kernel
theorem d_SM_take_34 : decode b_SM_take 34 = .ok (.aload_n 0, 1) := by decide +kernel
theorem d_SM_take_35 : decode b_SM_take 35 = .ok (.getfield 32, 3) := by decide +kernel
theorem d_SM_take_38 : decode b_SM_take 38 = .ok (.iload_n 1, 1) := by decide +kernel
theorem d_SM_take_39 : decode b_SM_take 39 = .ok (.iaload, 1) := by decide +kernel
theorem d_SM_take_40 : decode b_SM_take 40 = .ok (.ifCond .ne 7, 3) := by decide +kernel
theorem d_SM_take_43 : decode b_SM_take 43 = .ok (.ldc2_w 101, 3) := by decide +kernel
theorem d_SM_take_46 : decode b_SM_take 46 = .ok (.lreturn, 1) := by decide +kernel
theorem d_SM_take_47 : decode b_SM_take 47 = .ok (.aload_n 0, 1) := by decide +kernel
theorem d_SM_take_48 : decode b_SM_take 48 = .ok (.iload_n 1, 1) := by decide +kernel
theorem d_SM_take_49 : decode b_SM_take 49 = .ok (.invokevirtual 96, 3) := by decide +kernel
theorem d_SM_take_52 : decode b_SM_take 52 = .ok (.istore_n 2, 1) := by decide +kernel
theorem d_SM_take_53 : decode b_SM_take 53 = .ok (.aload_n 0, 1) := by decide +kernel
theorem d_SM_take_54 : decode b_SM_take 54 = .ok (.aload_n 0, 1) := by decide +kernel
theorem d_SM_take_55 : decode b_SM_take 55 = .ok (.getfield 7, 3) := by decide +kernel
theorem d_SM_take_58 : decode b_SM_take 58 = .ok (.iload_n 2, 1) := by decide +kernel
theorem d_SM_take_59 : decode b_SM_take 59 = .ok (.invokevirtual 59, 3) := by decide +kernel
theorem d_SM_take_62 : decode b_SM_take 62 = .ok (.istore_n 3, 1) := by decide +kernel
theorem d_SM_take_63 : decode b_SM_take 63 = .ok (.aload_n 0, 1) := by decide +kernel
theorem d_SM_take_64 : decode b_SM_take 64 = .ok (.iload_n 1, 1) := by decide +kernel
theorem d_SM_take_65 : decode b_SM_take 65 = .ok (.iload_n 2, 1) := by decide +kernel
theorem d_SM_take_66 : decode b_SM_take 66 = .ok (.invokevirtual 103, 3) := by decide +kernel
theorem d_SM_take_69 : decode b_SM_take 69 = .ok (.aload_n 0, 1) := by decide +kernel
theorem d_SM_take_70 : decode b_SM_take 70 = .ok (.aload_n 0, 1) := by decide +kernel
theorem d_SM_take_71 : decode b_SM_take 71 = .ok (.aload_n 0, 1) := by decide +kernel
theorem d_SM_take_72 : decode b_SM_take 72 = .ok (.aload_n 0, 1) := by decide +kernel
theorem d_SM_take_73 : decode b_SM_take 73 = .ok (.getfield 29, 3) := by decide +kernel
theorem d_SM_take_76 : decode b_SM_take 76 = .ok (.iload_n 1, 1) := by decide +kernel
theorem d_SM_take_77 : decode b_SM_take 77 = .ok (.invokevirtual 59, 3) := by decide +kernel
theorem d_SM_take_80 : decode b_SM_take 80 = .ok (.invokevirtual 107, 3) := by decide +kernel
theorem d_SM_take_83 : decode b_SM_take 83 = .ok (.aload_n 0, 1) := by decide +kernel
theorem d_SM_take_84 : decode b_SM_take 84 = .ok (.aload_n 0, 1) := by decide +kernel
theorem d_SM_take_85 : decode b_SM_take 85 = .ok (.aload_n 0, 1) := by decide +kernel
theorem d_SM_take_86 : decode b_SM_take 86 = .ok (.aload_n 0, 1) := by decide +kernel
theorem d_SM_take_87 : decode b_SM_take 87 = .ok (.getfield 16, 3) := by decide +kernel
theorem d_SM_take_90 : decode b_SM_take 90 = .ok (.iload_n 2, 1) := by decide +kernel
theorem d_SM_take_91 : decode b_SM_take 91 = .ok (.invokevirtual 59, 3) := by decide +kernel
theorem d_SM_take_94 : decode b_SM_take 94 = .ok (.invokevirtual 110, 3) := by decide +kernel
theorem d_SM_take_97 : decode b_SM_take 97 = .ok (.invokevirtual 107, 3) := by decide +kernel
theorem d_SM_take_100 : decode b_SM_take 100 = .ok (.invokevirtual 113, 3) := by decide +kernel
theorem d_SM_take_103 : decode b_SM_take 103 = .ok (.istore 4, 2) := by decide +kernel
theorem d_SM_take_105 : decode b_SM_take 105 = .ok (.aload_n 0, 1) := by decide +kernel
theorem d_SM_take_106 : decode b_SM_take 106 = .ok (.aload_n 0, 1) := by decide +kernel
theorem d_SM_take_107 : decode b_SM_take 107 = .ok (.getfield 22, 3) := by decide +kernel
theorem d_SM_take_110 : decode b_SM_take 110 = .ok (.iload_n 2, 1) := by decide +kernel
theorem d_SM_take_111 : decode b_SM_take 111 = .ok (.invokevirtual 59, 3) := by decide +kernel
theorem d_SM_take_114 : decode b_SM_take 114 = .ok (.istore 5, 2) := by decide +kernel
theorem d_SM_take_116 : decode b_SM_take 116 = .ok (.iload 5, 2) := by decide +kernel
theorem d_SM_take_118 : decode b_SM_take 118 = .ok (.iconst (-1), 1) := by decide +kernel
theorem d_SM_take_119 : decode b_SM_take 119 = .ok (.if_icmp .eq 32, 3) := by decide +kernel
theorem d_SM_take_122 : decode b_SM_take 122 = .ok (.aload_n 0, 1) := by decide +kernel
theorem d_SM_take_123 : decode b_SM_take 123 = .ok (.aload_n 0, 1) := by decide +kernel
theorem d_SM_take_124 : decode b_SM_take 124 = .ok (.getfield 19, 3) := by decide +kernel
theorem d_SM_take_127 : decode b_SM_take 127 = .ok (.iload 5, 2) := by decide +kernel
theorem d_SM_take_129 : decode b_SM_take 129 = .ok (.invokevirtual 59, 3) := by decide +kernel
theorem d_SM_take_132 : decode b_SM_take 132 = .ok (.istore 6, 2) := by decide +kernel
theorem d_SM_take_134 : decode b_SM_take 134 = .ok (.aload_n 0, 1) := by decide +kernel
theorem d_SM_take_135 : decode b_SM_take 135 = .ok (.iload 5, 2) := by decide +kernel
theorem d_SM_take_137 : decode b_SM_take 137 = .ok (.iload 4, 2) := by decide +kernel
theorem d_SM_take_139 : decode b_SM_take 139 = .ok (.invokevirtual 90, 3) := by decide +kernel
theorem d_SM_take_142 : decode b_SM_take 142 = .ok (.istore 4, 2) := by decide +kernel
theorem d_SM_take_144 : decode b_SM_take 144 = .ok (.iload 6, 2) := by decide +kernel
theorem d_SM_take_146 : decode b_SM_take 146 = .ok (.istore 5, 2) := by decide +kernel
theorem d_SM_take_148 : decode b_SM_take 148 = .ok (.goto (-32), 3) := by decide +kernel
theorem d_SM_take_151 : decode b_SM_take 151 = .ok (.aload_n 0, 1) := by decide +kernel
theorem d_SM_take_152 : decode b_SM_take 152 = .ok (.aload_n 0, 1) := by decide +kernel
theorem d_SM_take_153 : decode b_SM_take 153 = .ok (.getfield 29, 3) := by decide +kernel
theorem d_SM_take_156 : decode b_SM_take 156 = .ok (.iload_n 1, 1) := by decide +kernel
theorem d_SM_take_157 : decode b_SM_take 157 = .ok (.iload 4, 2) := by decide +kernel
theorem d_SM_take_159 : decode b_SM_take 159 = .ok (.invokevirtual 63, 3) := by decide +kernel
theorem d_SM_take_162 : decode b_SM_take 162 = .ok (.aload_n 0, 1) := by decide +kernel
theorem d_SM_take_163 : decode b_SM_take 163 = .ok (.aload_n 0, 1) := by decide +kernel
theorem d_SM_take_164 : decode b_SM_take 164 = .ok (.getfield 32, 3) := by decide +kernel
theorem d_SM_take_167 : decode b_SM_take 167 = .ok (.iload_n 1, 1) := by decide +kernel
theorem d_SM_take_168 : decode b_SM_take 168 = .ok (.aload_n 0, 1) := by decide +kernel
theorem d_SM_take_169 : decode b_SM_take 169 = .ok (.aload_n 0, 1) := by decide +kernel
theorem d_SM_take_170 : decode b_SM_take 170 = .ok (.getfield 32, 3) := by decide +kernel
theorem d_SM_take_173 : decode b_SM_take 173 = .ok (.iload_n 1, 1) := by decide +kernel
theorem d_SM_take_174 : decode b_SM_take 174 = .ok (.invokevirtual 59, 3) := by decide +kernel
theorem d_SM_take_177 : decode b_SM_take 177 = .ok (.iconst 1, 1) := by decide +kernel
theorem d_SM_take_178 : decode b_SM_take 178 = .ok (.isub, 1) := by decide +kernel
theorem d_SM_take_179 : decode b_SM_take 179 = .ok (.invokevirtual 63, 3) := by decide +kernel
theorem d_SM_take_182 : decode b_SM_take 182 = .ok (.aload_n 0, 1) := by decide +kernel
theorem d_SM_take_183 : decode b_SM_take 183 = .ok (.iload_n 2, 1) := by decide +kernel
theorem d_SM_take_184 : decode b_SM_take 184 = .ok (.invokevirtual 116, 3) := by decide +kernel
theorem d_SM_take_187 : decode b_SM_take 187 = .ok (.iload_n 3, 1) := by decide +kernel
theorem d_SM_take_188 : decode b_SM_take 188 = .ok (.i2l, 1) := by decide +kernel
theorem d_SM_take_189 : decode b_SM_take 189 = .ok (.lreturn, 1) := by decide +kernel
theorem d_SM_meld_0 : decode b_SM_meld 0 = .ok (.aload_n 0, 1) := by decide +kernel
theorem d_SM_meld_1 : decode b_SM_meld 1 = .ok (.iload_n 1, 1) := by decide +kernel
theorem d_SM_meld_2 : decode b_SM_meld 2 = .ok (.invokevirtual 83, 3) := by decide +kernel
theorem d_SM_meld_5 : decode b_SM_meld 5 = .ok (.ifCond .eq 16, 3) := by decide +kernel
theorem d_SM_meld_8 : decode b_SM_meld 8 = .ok (.aload_n 0, 1) := by decide +kernel
theorem d_SM_meld_9 : decode b_SM_meld 9 = .ok (.iload_n 2, 1) := by decide +kernel
theorem d_SM_meld_10 : decode b_SM_meld 10 = .ok (.invokevirtual 83, 3) := by decide +kernel
theorem d_SM_meld_13 : decode b_SM_meld 13 = .ok (.ifCond .eq 8, 3) := by decide +kernel
theorem d_SM_meld_16 : decode b_SM_meld 16 = .ok (.iload_n 1, 1) := by decide +kernel
theorem d_SM_meld_17 : decode b_SM_meld 17 = .ok (.iload_n 2, 1) := by decide +kernel
theorem d_SM_meld_18 : decode b_SM_meld 18 = .ok (.if_icmp .ne 11, 3) := by decide +kernel
theorem d_SM_meld_21 : decode b_SM_meld 21 = .ok (.aload_n 0, 1) := by decide +kernel
theorem d_SM_meld_22 : decode b_SM_meld 22 = .ok (.ldc 78, 2) := by decide +kernel
theorem d_SM_meld_24 : decode b_SM_meld 24 = .ok (.invokevirtual 79, 3) := by decide +kernel
theorem d_SM_meld_27 : decode b_SM_meld 27 = .ok (.iconst (-1), 1) := by decide +kernel
theorem d_SM_meld_28 : decode b_SM_meld 28 = .ok (.ireturn, 1) := by decide +kernel
theorem d_SM_meld_29 : decode b_SM_meld 29 = .ok (.aload_n 0, 1) := by decide +kernel
theorem d_SM_meld_30 : decode b_SM_meld 30 = .ok (.aload_n 0, 1) := by decide +kernel
theorem d_SM_meld_31 : decode b_SM_meld 31 = .ok (.getfield 32, 3) := by decide +kernel
theorem d_SM_meld_34 : decode b_SM_meld 34 = .ok (.iload_n 1, 1) := by decide +kernel
theorem d_SM_meld_35 : decode b_SM_meld 35 = .ok (.iaload, 1) := by decide +kernel
theorem d_SM_meld_36 : decode b_SM_meld 36 = .ok (.aload_n 0, 1) := by decide +kernel
theorem d_SM_meld_37 : decode b_SM_meld 37 = .ok (.getfield 32, 3) := by decide +kernel
theorem d_SM_meld_40 : decode b_SM_meld 40 = .ok (.iload_n 2, 1) := by decide +kernel
theorem d_SM_meld_41 : decode b_SM_meld 41 = .ok (.iaload, 1) := by decide +kernel
theorem d_SM_meld_42 : decode b_SM_meld 42 = .ok (.iadd, 1) := by decide +kernel
theorem d_SM_meld_43 : decode b_SM_meld 43 = .ok (.invokestatic 93, 3) := by decide +kernel
theorem d_SM_meld_46 : decode b_SM_meld 46 = .ok (.invokevirtual 79, 3) := by decide +kernel
theorem d_SM_meld_49 : decode b_SM_meld 49 = .ok (.aload_n 0, 1) := by decide +kernel
theorem d_SM_meld_50 : decode b_SM_meld 50 = .ok (.aload_n 0, 1) := by decide +kernel
theorem d_SM_meld_51 : decode b_SM_meld 51 = .ok (.getfield 29, 3) := by decide +kernel
theorem d_SM_meld_54 : decode b_SM_meld 54 = .ok (.iload_n 1, 1) := by decide +kernel
theorem d_SM_meld_55 : decode b_SM_meld 55 = .ok (.aload_n 0, 1) := by decide +kernel
theorem d_SM_meld_56 : decode b_SM_meld 56 = .ok (.aload_n 0, 1) := by decide +kernel
theorem d_SM_meld_57 : decode b_SM_meld 57 = .ok (.aload_n 0, 1) := by decide +kernel
theorem d_SM_meld_58 : decode b_SM_meld 58 = .ok (.aload_n 0, 1) := by decide +kernel
theorem d_SM_meld_59 : decode b_SM_meld 59 = .ok (.getfield 29, 3) := by decide +kernel
theorem d_SM_meld_62 : decode b_SM_meld 62 = .ok (.iload_n 1, 1) := by decide +kernel
theorem d_SM_meld_63 : decode b_SM_meld 63 = .ok (.invokevirtual 59, 3) := by decide +kernel
theorem d_SM_meld_66 : decode b_SM_meld 66 = .ok (.invokevirtual 107, 3) := by decide +kernel
theorem d_SM_meld_69 : decode b_SM_meld 69 = .ok (.aload_n 0, 1) := by decide +kernel
theorem d_SM_meld_70 : decode b_SM_meld 70 = .ok (.aload_n 0, 1) := by decide +kernel
theorem d_SM_meld_71 : decode b_SM_meld 71 = .ok (.aload_n 0, 1) := by decide +kernel
theorem d_SM_meld_72 : decode b_SM_meld 72 = .ok (.getfield 29, 3) := by decide +kernel
theorem d_SM_meld_75 : decode b_SM_meld 75 = .ok (.iload_n 2, 1) := by decide +kernel
theorem d_SM_meld_76 : decode b_SM_meld 76 = .ok (.invokevirtual 59, 3) := by decide +kernel
theorem d_SM_meld_79 : decode b_SM_meld 79 = .ok (.invokevirtual 107, 3) := by decide +kernel
theorem d_SM_meld_82 : decode b_SM_meld 82 = .ok (.invokevirtual 113, 3) := by decide +kernel
theorem d_SM_meld_85 : decode b_SM_meld 85 = .ok (.invokevirtual 63, 3) := by decide +kernel
theorem d_SM_meld_88 : decode b_SM_meld 88 = .ok (.aload_n 0, 1) := by decide +kernel
theorem d_SM_meld_89 : decode b_SM_meld 89 = .ok (.aload_n 0, 1) := by decide +kernel
theorem d_SM_meld_90 : decode b_SM_meld 90 = .ok (.getfield 29, 3) := by decide +kernel
theorem d_SM_meld_93 : decode b_SM_meld 93 = .ok (.iload_n 2, 1) := by decide +kernel
theorem d_SM_meld_94 : decode b_SM_meld 94 = .ok (.iconst (-1), 1) := by decide +kernel
theorem d_SM_meld_95 : decode b_SM_meld 95 = .ok (.invokevirtual 63, 3) := by decide +kernel
theorem d_SM_meld_98 : decode b_SM_meld 98 = .ok (.aload_n 0, 1) := by decide +kernel
theorem d_SM_meld_99 : decode b_SM_meld 99 = .ok (.aload_n 0, 1) := by decide +kernel
theorem d_SM_meld_100 : decode b_SM_meld 100 = .ok (.getfield 32, 3) := by decide +kernel
theorem d_SM_meld_103 : decode b_SM_meld 103 = .ok (.iload_n 1, 1) := by decide +kernel
theorem d_SM_meld_104 : decode b_SM_meld 104 = .ok (.invokevirtual 59, 3) := by decide +kernel
theorem d_SM_meld_107 : decode b_SM_meld 107 = .ok (.aload_n 0, 1) := by decide +kernel
theorem d_SM_meld_108 : decode b_SM_meld 108 = .ok (.aload_n 0, 1) := by decide +kernel
theorem d_SM_meld_109 : decode b_SM_meld 109 = .ok (.getfield 32, 3) := by decide +kernel
theorem d_SM_meld_112 : decode b_SM_meld 112 = .ok (.iload_n 2, 1) := by decide +kernel
theorem d_SM_meld_113 : decode b_SM_meld 113 = .ok (.invokevirtual 59, 3) := by decide +kernel
theorem d_SM_meld_116 : decode b_SM_meld 116 = .ok (.iadd, 1) := by decide +kernel
theorem d_SM_meld_117 : decode b_SM_meld 117 = .ok (.istore_n 3, 1) := by decide +kernel
theorem d_SM_meld_118 : decode b_SM_meld 118 = .ok (.aload_n 0, 1) := by decide +kernel
theorem d_SM_meld_119 : decode b_SM_meld 119 = .ok (.aload_n 0, 1) := by decide +kernel
theorem d_SM_meld_120 : decode b_SM_meld 120 = .ok (.getfield 32, 3) := by decide +kernel
theorem d_SM_meld_123 : decode b_SM_meld 123 = .ok (.iload_n 1, 1) := by decide +kernel
theorem d_SM_meld_124 : decode b_SM_meld 124 = .ok (.iload_n 3, 1) := by decide +kernel
theorem d_SM_meld_125 : decode b_SM_meld 125 = .ok (.invokevirtual 63, 3) := by decide +kernel
theorem d_SM_meld_128 : decode b_SM_meld 128 = .ok (.aload_n 0, 1) := by decide +kernel
theorem d_SM_meld_129 : decode b_SM_meld 129 = .ok (.aload_n 0, 1) := by decide +kernel
theorem d_SM_meld_130 : decode b_SM_meld 130 = .ok (.getfield 32, 3) := by decide +kernel
theorem d_SM_meld_133 : decode b_SM_meld 133 = .ok (.iload_n 2, 1) := by decide +kernel
theorem d_SM_meld_134 : decode b_SM_meld 134 = .ok (.iconst 0, 1) := by decide +kernel
theorem d_SM_meld_135 : decode b_SM_meld 135 = .ok (.invokevirtual 63, 3) := by decide +kernel
theorem d_SM_meld_138 : decode b_SM_meld 138 = .ok (.iload_n 3, 1) := by decide +kernel
theorem d_SM_meld_139 : decode b_SM_meld 139 = .ok (.ireturn, 1) := by decide +kernel
theorem d_SM_size_0 : decode b_SM_size 0 = .ok (.aload_n 0, 1) := by decide +kernel
theorem d_SM_size_1 : decode b_SM_size 1 = .ok (.ldc 78, 2) := by decide +kernel
theorem d_SM_size_3 : decode b_SM_size 3 = .ok (.invokevirtual 79, 3) := by decide +kernel
theorem d_SM_size_6 : decode b_SM_size 6 = .ok (.aload_n 0, 1) := by decide +kernel
theorem d_SM_size_7 : decode b_SM_size 7 = .ok (.iload_n 1, 1) := by decide +kernel
theorem d_SM_size_8 : decode b_SM_size 8 = .ok (.invokevirtual 83, 3) := by decide +kernel
theorem d_SM_size_11 : decode b_SM_size 11 = .ok (.ifCond .eq 12, 3) := by decide +kernel
theorem d_SM_size_14 : decode b_SM_size 14 = .ok (.aload_n 0, 1) := by decide +kernel
theorem d_SM_size_15 : decode b_SM_size 15 = .ok (.getfield 32, 3) := by decide +kernel
theorem d_SM_size_18 : decode b_SM_size 18 = .ok (.iload_n 1, 1) := by decide +kernel
theorem d_SM_size_19 : decode b_SM_size 19 = .ok (.iaload, 1) := by decide +kernel
theorem d_SM_size_20 : decode b_SM_size 20 = .ok (.goto 4, 3) := by decide +kernel
theorem d_SM_size_23 : decode b_SM_size 23 = .ok (.iconst (-1), 1) := by decide +kernel
theorem d_SM_size_24 : decode b_SM_size 24 = .ok (.ireturn, 1) := by decide +kernel
theorem d_SM_await_0 : decode b_SM_await 0 = .ok (.iload_n 1, 1) := by decide +kernel
theorem d_SM_await_1 : decode b_SM_await 1 = .ok (.istore_n 2, 1) := by decide +kernel
theorem d_SM_await_2 : decode b_SM_await 2 = .ok (.iload_n 2, 1) := by decide +kernel
theorem d_SM_await_3 : decode b_SM_await 3 = .ok (.iconst (-1), 1) := by decide +kernel
theorem d_SM_await_4 : decode b_SM_await 4 = .ok (.if_icmp .eq 30, 3) := by decide +kernel
theorem d_SM_await_7 : decode b_SM_await 7 = .ok (.aload_n 0, 1) := by decide +kernel
theorem d_SM_await_8 : decode b_SM_await 8 = .ok (.getfield 38, 3) := by decide +kernel
theorem d_SM_await_11 : decode b_SM_await 11 = .ok (.aload_n 0, 1) := by decide +kernel
theorem d_SM_await_12 : decode b_SM_await 12 = .ok (.dup, 1) := by decide +kernel
theorem d_SM_await_13 : decode b_SM_await 13 = .ok (.getfield 119, 3) := by decide +kernel
theorem d_SM_await_16 : decode b_SM_await 16 = .ok (.dup_x1, 1) := by decide +kernel
theorem d_SM_await_17 : decode b_SM_await 17 = .ok (.iconst 1, 1) := by decide +kernel
theorem d_SM_await_18 : decode b_SM_await 18 = .ok (.iadd, 1) := by decide +kernel
theorem d_SM_await_19 : decode b_SM_await 19 = .ok (.putfield 119, 3) := by decide +kernel
theorem d_SM_await_22 : decode b_SM_await 22 = .ok (.iload_n 2, 1) := by decide +kernel
theorem d_SM_await_23 : decode b_SM_await 23 = .ok (.iastore, 1) := by decide +kernel
theorem d_SM_await_24 : decode b_SM_await 24 = .ok (.aload_n 0, 1) := by decide +kernel
theorem d_SM_await_25 : decode b_SM_await 25 = .ok (.getfield 19, 3) := by decide +kernel
theorem d_SM_await_28 : decode b_SM_await 28 = .ok (.iload_n 2, 1) := by decide +kernel
theorem d_SM_await_29 : decode b_SM_await 29 = .ok (.iaload, 1) := by decide +kernel
theorem d_SM_await_30 : decode b_SM_await 30 = .ok (.istore_n 2, 1) := by decide +kernel
theorem d_SM_await_31 : decode b_SM_await 31 = .ok (.goto (-29), 3) := by decide +kernel
theorem d_SM_await_34 : decode b_SM_await 34 = .ok (.return_, 1) := by decide +kernel
theorem d_SM_walk_0 : decode b_SM_walk 0 = .ok (.aload_n 0, 1) := by decide +kernel
theorem d_SM_walk_1 : decode b_SM_walk 1 = .ok (.iconst 0, 1) := by decide +kernel
theorem d_SM_walk_2 : decode b_SM_walk 2 = .ok (.putfield 122, 3) := by decide +kernel
theorem d_SM_walk_5 : decode b_SM_walk 5 = .ok (.aload_n 0, 1) := by decide +kernel
theorem d_SM_walk_6 : decode b_SM_walk 6 = .ok (.iconst 0, 1) := by decide +kernel
theorem d_SM_walk_7 : decode b_SM_walk 7 = .ok (.putfield 119, 3) := by decide +kernel
theorem d_SM_walk_10 : decode b_SM_walk 10 = .ok (.aload_n 0, 1) := by decide +kernel
theorem d_SM_walk_11 : decode b_SM_walk 11 = .ok (.aload_n 0, 1) := by decide +kernel
theorem d_SM_walk_12 : decode b_SM_walk 12 = .ok (.getfield 29, 3) := by decide +kernel
theorem d_SM_walk_15 : decode b_SM_walk 15 = .ok (.iload_n 1, 1) := by decide +kernel
theorem d_SM_walk_16 : decode b_SM_walk 16 = .ok (.iaload, 1) := by decide +kernel
theorem d_SM_walk_17 : decode b_SM_walk 17 = .ok (.invokevirtual 125, 3) := by decide +kernel
theorem d_SM_walk_20 : decode b_SM_walk 20 = .ok (.aload_n 0, 1) := by decide +kernel
theorem d_SM_walk_21 : decode b_SM_walk 21 = .ok (.getfield 119, 3) := by decide +kernel
theorem d_SM_walk_24 : decode b_SM_walk 24 = .ok (.ifCond .le 108, 3) := by decide +kernel
theorem d_SM_walk_27 : decode b_SM_walk 27 = .ok (.aload_n 0, 1) := by decide +kernel
theorem d_SM_walk_28 : decode b_SM_walk 28 = .ok (.getfield 38, 3) := by decide +kernel
theorem d_SM_walk_31 : decode b_SM_walk 31 = .ok (.aload_n 0, 1) := by decide +kernel
theorem d_SM_walk_32 : decode b_SM_walk 32 = .ok (.dup, 1) := by decide +kernel
theorem d_SM_walk_33 : decode b_SM_walk 33 = .ok (.getfield 119, 3) := by decide +kernel
theorem d_SM_walk_36 : decode b_SM_walk 36 = .ok (.iconst 1, 1) := by decide +kernel
theorem d_SM_walk_37 : decode b_SM_walk 37 = .ok (.isub, 1) := by decide +kernel
theorem d_SM_walk_38 : decode b_SM_walk 38 = .ok (.dup_x1, 1) := by decide +kernel
theorem d_SM_walk_39 : decode b_SM_walk 39 = .ok (.putfield 119, 3) := by decide +kernel
theorem d_SM_walk_42 : decode b_SM_walk 42 = .ok (.iaload, 1) := by decide +kernel
theorem d_SM_walk_43 : decode b_SM_walk 43 = .ok (.istore_n 2, 1) := by decide +kernel
theorem d_SM_walk_44 : decode b_SM_walk 44 = .ok (.aload_n 0, 1) := by decide +kernel
theorem d_SM_walk_45 : decode b_SM_walk 45 = .ok (.dup, 1) := by decide +kernel
theorem d_SM_walk_46 : decode b_SM_walk 46 = .ok (.getfield 122, 3) := by decide +kernel
theorem d_SM_walk_49 : decode b_SM_walk 49 = .ok (.dup_x1, 1) := by decide +kernel
theorem d_SM_walk_50 : decode b_SM_walk 50 = .ok (.iconst 1, 1) := by decide +kernel
theorem d_SM_walk_51 : decode b_SM_walk 51 = .ok (.iadd, 1) := by decide +kernel
theorem d_SM_walk_52 : decode b_SM_walk 52 = .ok (.putfield 122, 3) := by decide +kernel
theorem d_SM_walk_55 : decode b_SM_walk 55 = .ok (.istore_n 3, 1) := by decide +kernel
theorem d_SM_walk_56 : decode b_SM_walk 56 = .ok (.iload_n 3, 1) := by decide +kernel
theorem d_SM_walk_57 : decode b_SM_walk 57 = .ok (.ifCond .le 40, 3) := by decide +kernel
theorem d_SM_walk_60 : decode b_SM_walk 60 = .ok (.aload_n 0, 1) := by decide +kernel
theorem d_SM_walk_61 : decode b_SM_walk 61 = .ok (.getfield 35, 3) := by decide +kernel
theorem d_SM_walk_64 : decode b_SM_walk 64 = .ok (.iload_n 3, 1) := by decide +kernel
theorem d_SM_walk_65 : decode b_SM_walk 65 = .ok (.iconst 1, 1) := by decide +kernel
theorem d_SM_walk_66 : decode b_SM_walk 66 = .ok (.isub, 1) := by decide +kernel
theorem d_SM_walk_67 : decode b_SM_walk 67 = .ok (.iaload, 1) := by decide +kernel
theorem d_SM_walk_68 : decode b_SM_walk 68 = .ok (.aload_n 0, 1) := by decide +kernel
theorem d_SM_walk_69 : decode b_SM_walk 69 = .ok (.getfield 7, 3) := by decide +kernel
theorem d_SM_walk_72 : decode b_SM_walk 72 = .ok (.iload_n 2, 1) := by decide +kernel
theorem d_SM_walk_73 : decode b_SM_walk 73 = .ok (.iaload, 1) := by decide +kernel
theorem d_SM_walk_74 : decode b_SM_walk 74 = .ok (.if_icmp .le 23, 3) := by decide +kernel
theorem d_SM_walk_77 : decode b_SM_walk 77 = .ok (.aload_n 0, 1) := by decide +kernel
theorem d_SM_walk_78 : decode b_SM_walk 78 = .ok (.getfield 35, 3) := by decide +kernel
theorem d_SM_walk_81 : decode b_SM_walk 81 = .ok (.iload_n 3, 1) := by decide +kernel
theorem d_SM_walk_82 : decode b_SM_walk 82 = .ok (.aload_n 0, 1) := by decide +kernel
theorem d_SM_walk_83 : decode b_SM_walk 83 = .ok (.getfield 35, 3) := by decide +kernel
theorem d_SM_walk_86 : decode b_SM_walk 86 = .ok (.iload_n 3, 1) := by decide +kernel
theorem d_SM_walk_87 : decode b_SM_walk 87 = .ok (.iconst 1, 1) := by decide +kernel
theorem d_SM_walk_88 : decode b_SM_walk 88 = .ok (.isub, 1) := by decide +kernel
theorem d_SM_walk_89 : decode b_SM_walk 89 = .ok (.iaload, 1) := by decide +kernel
theorem d_SM_walk_90 : decode b_SM_walk 90 = .ok (.iastore, 1) := by decide +kernel
theorem d_SM_walk_91 : decode b_SM_walk 91 = .ok (.iinc 3 (-1), 3) := by decide +kernel
theorem d_SM_walk_94 : decode b_SM_walk 94 = .ok (.goto (-38), 3) := by decide +kernel
theorem d_SM_walk_97 : decode b_SM_walk 97 = .ok (.aload_n 0, 1) := by decide +kernel
theorem d_SM_walk_98 : decode b_SM_walk 98 = .ok (.getfield 35, 3) := by decide +kernel
theorem d_SM_walk_101 : decode b_SM_walk 101 = .ok (.iload_n 3, 1) := by decide +kernel
theorem d_SM_walk_102 : decode b_SM_walk 102 = .ok (.aload_n 0, 1) := by decide +kernel
theorem d_SM_walk_103 : decode b_SM_walk 103 = .ok (.getfield 7, 3) := by decide +kernel
theorem d_SM_walk_106 : decode b_SM_walk 106 = .ok (.iload_n 2, 1) := by decide +kernel
theorem d_SM_walk_107 : decode b_SM_walk 107 = .ok (.iaload, 1) := by decide +kernel
theorem d_SM_walk_108 : decode b_SM_walk 108 = .ok (.iastore, 1) := by decide +kernel
theorem d_SM_walk_109 : decode b_SM_walk 109 = .ok (.aload_n 0, 1) := by decide +kernel
theorem d_SM_walk_110 : decode b_SM_walk 110 = .ok (.aload_n 0, 1) := by decide +kernel
theorem d_SM_walk_111 : decode b_SM_walk 111 = .ok (.getfield 16, 3) := by decide +kernel
theorem d_SM_walk_114 : decode b_SM_walk 114 = .ok (.iload_n 2, 1) := by decide +kernel
theorem d_SM_walk_115 : decode b_SM_walk 115 = .ok (.iaload, 1) := by decide +kernel
theorem d_SM_walk_116 : decode b_SM_walk 116 = .ok (.invokevirtual 125, 3) := by decide +kernel
theorem d_SM_walk_119 : decode b_SM_walk 119 = .ok (.aload_n 0, 1) := by decide +kernel
theorem d_SM_walk_120 : decode b_SM_walk 120 = .ok (.aload_n 0, 1) := by decide +kernel
theorem d_SM_walk_121 : decode b_SM_walk 121 = .ok (.getfield 22, 3) := by decide +kernel
theorem d_SM_walk_124 : decode b_SM_walk 124 = .ok (.iload_n 2, 1) := by decide +kernel
theorem d_SM_walk_125 : decode b_SM_walk 125 = .ok (.iaload, 1) := by decide +kernel
theorem d_SM_walk_126 : decode b_SM_walk 126 = .ok (.invokevirtual 125, 3) := by decide +kernel
theorem d_SM_walk_129 : decode b_SM_walk 129 = .ok (.goto (-109), 3) := by decide +kernel
theorem d_SM_walk_132 : decode b_SM_walk 132 = .ok (.return_, 1) := by decide +kernel
theorem d_SM_key_0 : decode b_SM_key 0 = .ok (.aload_n 0, 1) := by decide +kernel
theorem d_SM_key_1 : decode b_SM_key 1 = .ok (.ldc 78, 2) := by decide +kernel
theorem d_SM_key_3 : decode b_SM_key 3 = .ok (.invokevirtual 79, 3) := by decide +kernel
theorem d_SM_key_6 : decode b_SM_key 6 = .ok (.aload_n 0, 1) := by decide +kernel
theorem d_SM_key_7 : decode b_SM_key 7 = .ok (.iload_n 1, 1) := by decide +kernel
theorem d_SM_key_8 : decode b_SM_key 8 = .ok (.invokevirtual 83, 3) := by decide +kernel
theorem d_SM_key_11 : decode b_SM_key 11 = .ok (.ifCond .eq 17, 3) := by decide +kernel
theorem d_SM_key_14 : decode b_SM_key 14 = .ok (.iload_n 2, 1) := by decide +kernel
theorem d_SM_key_15 : decode b_SM_key 15 = .ok (.ifCond .lt 13, 3) := by decide +kernel
theorem d_SM_key_18 : decode b_SM_key 18 = .ok (.iload_n 2, 1) := by decide +kernel
theorem d_SM_key_19 : decode b_SM_key 19 = .ok (.aload_n 0, 1) := by decide +kernel
theorem d_SM_key_20 : decode b_SM_key 20 = .ok (.getfield 32, 3) := by decide +kernel
theorem d_SM_key_23 : decode b_SM_key 23 = .ok (.iload_n 1, 1) := by decide +kernel
theorem d_SM_key_24 : decode b_SM_key 24 = .ok (.iaload, 1) := by decide +kernel
theorem d_SM_key_25 : decode b_SM_key 25 = .ok (.if_icmp .lt 7, 3) := by decide +kernel
theorem d_SM_key_28 : decode b_SM_key 28 = .ok (.ldc2_w 101, 3) := by decide +kernel
theorem d_SM_key_31 : decode b_SM_key 31 = .ok (.lreturn, 1) := by decide +kernel
theorem d_SM_key_32 : decode b_SM_key 32 = .ok (.aload_n 0, 1) := by decide +kernel
theorem d_SM_key_33 : decode b_SM_key 33 = .ok (.iload_n 1, 1) := by decide +kernel
theorem d_SM_key_34 : decode b_SM_key 34 = .ok (.invokevirtual 128, 3) := by decide +kernel
theorem d_SM_key_37 : decode b_SM_key 37 = .ok (.aload_n 0, 1) := by decide +kernel
theorem d_SM_key_38 : decode b_SM_key 38 = .ok (.getfield 35, 3) := by decide +kernel
theorem d_SM_key_41 : decode b_SM_key 41 = .ok (.iload_n 2, 1) := by decide +kernel
theorem d_SM_key_42 : decode b_SM_key 42 = .ok (.iaload, 1) := by decide +kernel
theorem d_SM_key_43 : decode b_SM_key 43 = .ok (.i2l, 1) := by decide +kernel
theorem d_SM_key_44 : decode b_SM_key 44 = .ok (.lreturn, 1) := by decide +kernel
theorem d_SM_sum_0 : decode b_SM_sum 0 = .ok (.aload_n 0, 1) := by decide +kernel
theorem d_SM_sum_1 : decode b_SM_sum 1 = .ok (.ldc 78, 2) := by decide +kernel
theorem d_SM_sum_3 : decode b_SM_sum 3 = .ok (.invokevirtual 79, 3) := by decide +kernel
theorem d_SM_sum_6 : decode b_SM_sum 6 = .ok (.aload_n 0, 1) := by decide +kernel
theorem d_SM_sum_7 : decode b_SM_sum 7 = .ok (.iconst 0, 1) := by decide +kernel
theorem d_SM_sum_8 : decode b_SM_sum 8 = .ok (.putfield 122, 3) := by decide +kernel
theorem d_SM_sum_11 : decode b_SM_sum 11 = .ok (.aload_n 0, 1) := by decide +kernel
theorem d_SM_sum_12 : decode b_SM_sum 12 = .ok (.iload_n 1, 1) := by decide +kernel
theorem d_SM_sum_13 : decode b_SM_sum 13 = .ok (.invokevirtual 83, 3) := by decide +kernel
theorem d_SM_sum_16 : decode b_SM_sum 16 = .ok (.ifCond .eq 8, 3) := by decide +kernel
theorem d_SM_sum_19 : decode b_SM_sum 19 = .ok (.aload_n 0, 1) := by decide +kernel
theorem d_SM_sum_20 : decode b_SM_sum 20 = .ok (.iload_n 1, 1) := by decide +kernel
theorem d_SM_sum_21 : decode b_SM_sum 21 = .ok (.invokevirtual 128, 3) := by decide +kernel
theorem d_SM_sum_24 : decode b_SM_sum 24 = .ok (.lconst 0, 1) := by decide +kernel
theorem d_SM_sum_25 : decode b_SM_sum 25 = .ok (.lstore_n 2, 1) := by decide +kernel
theorem d_SM_sum_26 : decode b_SM_sum 26 = .ok (.iconst 0, 1) := by decide +kernel
theorem d_SM_sum_27 : decode b_SM_sum 27 = .ok (.istore 4, 2) := by decide +kernel
theorem d_SM_sum_29 : decode b_SM_sum 29 = .ok (.iload 4, 2) := by decide +kernel
theorem d_SM_sum_31 : decode b_SM_sum 31 = .ok (.aload_n 0, 1) := by decide +kernel
theorem d_SM_sum_32 : decode b_SM_sum 32 = .ok (.getfield 122, 3) := by decide +kernel
theorem d_SM_sum_35 : decode b_SM_sum 35 = .ok (.if_icmp .ge 20, 3) := by decide +kernel
theorem d_SM_sum_38 : decode b_SM_sum 38 = .ok (.lload_n 2, 1) := by decide +kernel
theorem d_SM_sum_39 : decode b_SM_sum 39 = .ok (.aload_n 0, 1) := by decide +kernel
theorem d_SM_sum_40 : decode b_SM_sum 40 = .ok (.getfield 35, 3) := by decide +kernel
theorem d_SM_sum_43 : decode b_SM_sum 43 = .ok (.iload 4, 2) := by decide +kernel
theorem d_SM_sum_45 : decode b_SM_sum 45 = .ok (.iaload, 1) := by decide +kernel
theorem d_SM_sum_46 : decode b_SM_sum 46 = .ok (.i2l, 1) := by decide +kernel
theorem d_SM_sum_47 : decode b_SM_sum 47 = .ok (.ladd, 1) := by decide +kernel
theorem d_SM_sum_48 : decode b_SM_sum 48 = .ok (.lstore_n 2, 1) := by decide +kernel
theorem d_SM_sum_49 : decode b_SM_sum 49 = .ok (.iinc 4 1, 3) := by decide +kernel
theorem d_SM_sum_52 : decode b_SM_sum 52 = .ok (.goto (-23), 3) := by decide +kernel
theorem d_SM_sum_55 : decode b_SM_sum 55 = .ok (.lload_n 2, 1) := by decide +kernel
theorem d_SM_sum_56 : decode b_SM_sum 56 = .ok (.lreturn, 1) := by decide +kernel
theorem d_SM_free_0 : decode b_SM_free 0 = .ok (.aload_n 0, 1) := by decide +kernel
theorem d_SM_free_1 : decode b_SM_free 1 = .ok (.ldc 78, 2) := by decide +kernel
theorem d_SM_free_3 : decode b_SM_free 3 = .ok (.invokevirtual 79, 3) := by decide +kernel
theorem d_SM_free_6 : decode b_SM_free 6 = .ok (.aload_n 0, 1) := by decide +kernel
theorem d_SM_free_7 : decode b_SM_free 7 = .ok (.getfield 25, 3) := by decide +kernel
theorem d_SM_free_10 : decode b_SM_free 10 = .ok (.ireturn, 1) := by decide +kernel
theorem d_SM_few_0 : decode b_SM_few 0 = .ok (.aload_n 0, 1) := by decide +kernel
theorem d_SM_few_1 : decode b_SM_few 1 = .ok (.getfield 44, 3) := by decide +kernel
theorem d_SM_few_4 : decode b_SM_few 4 = .ok (.aload_n 0, 1) := by decide +kernel
theorem d_SM_few_5 : decode b_SM_few 5 = .ok (.getfield 47, 3) := by decide +kernel
theorem d_SM_few_8 : decode b_SM_few 8 = .ok (.if_icmp .gt 7, 3) := by decide +kernel
theorem d_SM_few_11 : decode b_SM_few 11 = .ok (.iconst 1, 1) := by decide +kernel
theorem d_SM_few_12 : decode b_SM_few 12 = .ok (.goto 4, 3) := by decide +kernel
theorem d_SM_few_15 : decode b_SM_few 15 = .ok (.iconst 0, 1) := by decide +kernel
theorem d_SM_few_16 : decode b_SM_few 16 = .ok (.ireturn, 1) := by decide +kernel
end
section
theorem d_MD_init_0 : decode b_MD_init 0 = .ok (.aload_n 0, 1) := by decide +kernel
theorem d_MD_init_1 : decode b_MD_init 1 = .ok (.invokespecial 1, 3) := by decide +kernel
theorem d_MD_init_4 : decode b_MD_init 4 = .ok (.aload_n 0, 1) := by decide +kernel
theorem d_MD_init_5 : decode b_MD_init 5 = .ok (.sipush 200, 3) := by decide +kernel
theorem d_MD_init_8 : decode b_MD_init 8 = .ok (.newarray .int, 2) := by decide +kernel
theorem d_MD_init_10 : decode b_MD_init 10 = .ok (.putfield 7, 3) := by decide +kernel
theorem d_MD_init_13 : decode b_MD_init 13 = .ok (.aload_n 0, 1) := by decide +kernel
theorem d_MD_init_14 : decode b_MD_init 14 = .ok (.sipush 200, 3) := by decide +kernel
theorem d_MD_init_17 : decode b_MD_init 17 = .ok (.newarray .int, 2) := by decide +kernel
theorem d_MD_init_19 : decode b_MD_init 19 = .ok (.putfield 13, 3) := by decide +kernel
theorem d_MD_init_22 : decode b_MD_init 22 = .ok (.aload_n 0, 1) := by decide +kernel
theorem d_MD_init_23 : decode b_MD_init 23 = .ok (.sipush 200, 3) := by decide +kernel
theorem d_MD_init_26 : decode b_MD_init 26 = .ok (.newarray .boolean, 2) := by decide +kernel
theorem d_MD_init_28 : decode b_MD_init 28 = .ok (.putfield 16, 3) := by decide +kernel
theorem d_MD_init_31 : decode b_MD_init 31 = .ok (.return_, 1) := by decide +kernel
theorem d_MD_isHeap_0 : decode b_MD_isHeap 0 = .ok (.iload_n 1, 1) := by decide +kernel
theorem d_MD_isHeap_1 : decode b_MD_isHeap 1 = .ok (.ifCond .lt 15, 3) := by decide +kernel
theorem d_MD_isHeap_4 : decode b_MD_isHeap 4 = .ok (.iload_n 1, 1) := by decide +kernel
theorem d_MD_isHeap_5 : decode b_MD_isHeap 5 = .ok (.aload_n 0, 1) := by decide +kernel
theorem d_MD_isHeap_6 : decode b_MD_isHeap 6 = .ok (.getfield 20, 3) := by decide +kernel
theorem d_MD_isHeap_9 : decode b_MD_isHeap 9 = .ok (.if_icmp .ge 7, 3) := by decide +kernel
theorem d_MD_isHeap_12 : decode b_MD_isHeap 12 = .ok (.iconst 1, 1) := by decide +kernel
theorem d_MD_isHeap_13 : decode b_MD_isHeap 13 = .ok (.goto 4, 3) := by decide +kernel
theorem d_MD_isHeap_16 : decode b_MD_isHeap 16 = .ok (.iconst 0, 1) := by decide +kernel
theorem d_MD_isHeap_17 : decode b_MD_isHeap 17 = .ok (.ireturn, 1) := by decide +kernel
theorem d_MD_heap_0 : decode b_MD_heap 0 = .ok (.aload_n 0, 1) := by decide +kernel
theorem d_MD_heap_1 : decode b_MD_heap 1 = .ok (.getfield 20, 3) := by decide +kernel
theorem d_MD_heap_4 : decode b_MD_heap 4 = .ok (.bipush 8, 2) := by decide +kernel
theorem d_MD_heap_6 : decode b_MD_heap 6 = .ok (.if_icmp .ne 5, 3) := by decide +kernel
theorem d_MD_heap_9 : decode b_MD_heap 9 = .ok (.iconst (-1), 1) := by decide +kernel
theorem d_MD_heap_10 : decode b_MD_heap 10 = .ok (.ireturn, 1) := by decide +kernel
theorem d_MD_heap_11 : decode b_MD_heap 11 = .ok (.aload_n 0, 1) := by decide +kernel
theorem d_MD_heap_12 : decode b_MD_heap 12 = .ok (.dup, 1) := by decide +kernel
theorem d_MD_heap_13 : decode b_MD_heap 13 = .ok (.getfield 20, 3) := by decide +kernel
theorem d_MD_heap_16 : decode b_MD_heap 16 = .ok (.iconst 1, 1) := by decide +kernel
theorem d_MD_heap_17 : decode b_MD_heap 17 = .ok (.iadd, 1) := by decide +kernel
theorem d_MD_heap_18 : decode b_MD_heap 18 = .ok (.putfield 20, 3) := by decide +kernel
theorem d_MD_heap_21 : decode b_MD_heap 21 = .ok (.aload_n 0, 1) := by decide +kernel
theorem d_MD_heap_22 : decode b_MD_heap 22 = .ok (.getfield 20, 3) := by decide +kernel
theorem d_MD_heap_25 : decode b_MD_heap 25 = .ok (.iconst 1, 1) := by decide +kernel
theorem d_MD_heap_26 : decode b_MD_heap 26 = .ok (.isub, 1) := by decide +kernel
theorem d_MD_heap_27 : decode b_MD_heap 27 = .ok (.ireturn, 1) := by decide +kernel
theorem d_MD_sizeOf_0 : decode b_MD_sizeOf 0 = .ok (.iconst 0, 1) := by decide +kernel
theorem d_MD_sizeOf_1 : decode b_MD_sizeOf 1 = .ok (.istore_n 2, 1) := by decide +kernel
theorem d_MD_sizeOf_2 : decode b_MD_sizeOf 2 = .ok (.iconst 0, 1) := by decide +kernel
theorem d_MD_sizeOf_3 : decode b_MD_sizeOf 3 = .ok (.istore_n 3, 1) := by decide +kernel
theorem d_MD_sizeOf_4 : decode b_MD_sizeOf 4 = .ok (.iload_n 3, 1) := by decide +kernel
theorem d_MD_sizeOf_5 : decode b_MD_sizeOf 5 = .ok (.aload_n 0, 1) := by decide +kernel
theorem d_MD_sizeOf_6 : decode b_MD_sizeOf 6 = .ok (.getfield 24, 3) := by decide +kernel
theorem d_MD_sizeOf_9 : decode b_MD_sizeOf 9 = .ok (.if_icmp .ge 27, 3) := by decide +kernel
theorem d_MD_sizeOf_12 : decode b_MD_sizeOf 12 = .ok (.iload_n 2, 1) := by decide +kernel
theorem d_MD_sizeOf_13 : decode b_MD_sizeOf 13 = .ok (.aload_n 0, 1) := by decide +kernel
theorem d_MD_sizeOf_14 : decode b_MD_sizeOf 14 = .ok (.getfield 7, 3) := by decide +kernel
theorem d_MD_sizeOf_17 : decode b_MD_sizeOf 17 = .ok (.iload_n 3, 1) := by decide +kernel
theorem d_MD_sizeOf_18 : decode b_MD_sizeOf 18 = .ok (.iaload, 1) := by decide +kernel
theorem d_MD_sizeOf_19 : decode b_MD_sizeOf 19 = .ok (.iload_n 1, 1) := by decide +kernel
theorem d_MD_sizeOf_20 : decode b_MD_sizeOf 20 = .ok (.if_icmp .ne 7, 3) := by decide +kernel
theorem d_MD_sizeOf_23 : decode b_MD_sizeOf 23 = .ok (.iconst 1, 1) := by decide +kernel
theorem d_MD_sizeOf_24 : decode b_MD_sizeOf 24 = .ok (.goto 4, 3) := by decide +kernel
theorem d_MD_sizeOf_27 : decode b_MD_sizeOf 27 = .ok (.iconst 0, 1) := by decide +kernel
theorem d_MD_sizeOf_28 : decode b_MD_sizeOf 28 = .ok (.iadd, 1) := by decide +kernel
theorem d_MD_sizeOf_29 : decode b_MD_sizeOf 29 = .ok (.istore_n 2, 1) := by decide +kernel
theorem d_MD_sizeOf_30 : decode b_MD_sizeOf 30 = .ok (.iinc 3 1, 3) := by decide +kernel
theorem d_MD_sizeOf_33 : decode b_MD_sizeOf 33 = .ok (.goto (-29), 3) := by decide +kernel
theorem d_MD_sizeOf_36 : decode b_MD_sizeOf 36 = .ok (.iload_n 2, 1) := by decide +kernel
theorem d_MD_sizeOf_37 : decode b_MD_sizeOf 37 = .ok (.ireturn, 1) := by decide +kernel
theorem d_MD_add_0 : decode b_MD_add 0 = .ok (.aload_n 0, 1) := by decide +kernel
theorem d_MD_add_1 : decode b_MD_add 1 = .ok (.iload_n 1, 1) := by decide +kernel
theorem d_MD_add_2 : decode b_MD_add 2 = .ok (.invokevirtual 27, 3) := by decide +kernel
theorem d_MD_add_5 : decode b_MD_add 5 = .ok (.ifCond .ne 5, 3) := by decide +kernel
theorem d_MD_add_8 : decode b_MD_add 8 = .ok (.iconst (-1), 1) := by decide +kernel
theorem d_MD_add_9 : decode b_MD_add 9 = .ok (.ireturn, 1) := by decide +kernel
theorem d_MD_add_10 : decode b_MD_add 10 = .ok (.aload_n 0, 1) := by decide +kernel
theorem d_MD_add_11 : decode b_MD_add 11 = .ok (.getfield 24, 3) := by decide +kernel
theorem d_MD_add_14 : decode b_MD_add 14 = .ok (.sipush 200, 3) := by decide +kernel
theorem d_MD_add_17 : decode b_MD_add 17 = .ok (.if_icmp .ne 6, 3) := by decide +kernel
theorem d_MD_add_20 : decode b_MD_add 20 = .ok (.bipush (-2), 2) := by decide +kernel
theorem d_MD_add_22 : decode b_MD_add 22 = .ok (.ireturn, 1) := by decide +kernel
theorem d_MD_add_23 : decode b_MD_add 23 = .ok (.aload_n 0, 1) := by decide +kernel
theorem d_MD_add_24 : decode b_MD_add 24 = .ok (.getfield 7, 3) := by decide +kernel
theorem d_MD_add_27 : decode b_MD_add 27 = .ok (.aload_n 0, 1) := by decide +kernel
theorem d_MD_add_28 : decode b_MD_add 28 = .ok (.getfield 24, 3) := by decide +kernel
theorem d_MD_add_31 : decode b_MD_add 31 = .ok (.iload_n 1, 1) := by decide +kernel
theorem d_MD_add_32 : decode b_MD_add 32 = .ok (.iastore, 1) := by decide +kernel
theorem d_MD_add_33 : decode b_MD_add 33 = .ok (.aload_n 0, 1) := by decide +kernel
theorem d_MD_add_34 : decode b_MD_add 34 = .ok (.getfield 13, 3) := by decide +kernel
theorem d_MD_add_37 : decode b_MD_add 37 = .ok (.aload_n 0, 1) := by decide +kernel
theorem d_MD_add_38 : decode b_MD_add 38 = .ok (.getfield 24, 3) := by decide +kernel
theorem d_MD_add_41 : decode b_MD_add 41 = .ok (.iload_n 2, 1) := by decide +kernel
theorem d_MD_add_42 : decode b_MD_add 42 = .ok (.iastore, 1) := by decide +kernel
theorem d_MD_add_43 : decode b_MD_add 43 = .ok (.aload_n 0, 1) := by decide +kernel
theorem d_MD_add_44 : decode b_MD_add 44 = .ok (.dup, 1) := by decide +kernel
theorem d_MD_add_45 : decode b_MD_add 45 = .ok (.getfield 24, 3) := by decide +kernel
theorem d_MD_add_48 : decode b_MD_add 48 = .ok (.iconst 1, 1) := by decide +kernel
theorem d_MD_add_49 : decode b_MD_add 49 = .ok (.iadd, 1) := by decide +kernel
theorem d_MD_add_50 : decode b_MD_add 50 = .ok (.putfield 24, 3) := by decide +kernel
theorem d_MD_add_53 : decode b_MD_add 53 = .ok (.aload_n 0, 1) := by decide +kernel
theorem d_MD_add_54 : decode b_MD_add 54 = .ok (.iload_n 1, 1) := by decide +kernel
theorem d_MD_add_55 : decode b_MD_add 55 = .ok (.invokevirtual 31, 3) := by decide +kernel
theorem d_MD_add_58 : decode b_MD_add 58 = .ok (.ireturn, 1) := by decide +kernel
theorem d_MD_placeOf_0 : decode b_MD_placeOf 0 = .ok (.iconst (-1), 1) := by decide +kernel
theorem d_MD_placeOf_1 : decode b_MD_placeOf 1 = .ok (.istore_n 2, 1) := by decide +kernel
theorem d_MD_placeOf_2 : decode b_MD_placeOf 2 = .ok (.iconst 0, 1) := by decide +kernel
theorem d_MD_placeOf_3 : decode b_MD_placeOf 3 = .ok (.istore_n 3, 1) := by decide +kernel
theorem d_MD_placeOf_4 : decode b_MD_placeOf 4 = .ok (.iload_n 3, 1) := by decide +kernel
theorem d_MD_placeOf_5 : decode b_MD_placeOf 5 = .ok (.aload_n 0, 1) := by decide +kernel
theorem d_MD_placeOf_6 : decode b_MD_placeOf 6 = .ok (.getfield 24, 3) := by decide +kernel
theorem d_MD_placeOf_9 : decode b_MD_placeOf 9 = .ok (.if_icmp .ge 53, 3) := by decide +kernel
theorem d_MD_placeOf_12 : decode b_MD_placeOf 12 = .ok (.aload_n 0, 1) := by decide +kernel
theorem d_MD_placeOf_13 : decode b_MD_placeOf 13 = .ok (.getfield 7, 3) := by decide +kernel
theorem d_MD_placeOf_16 : decode b_MD_placeOf 16 = .ok (.iload_n 3, 1) := by decide +kernel
theorem d_MD_placeOf_17 : decode b_MD_placeOf 17 = .ok (.iaload, 1) := by decide +kernel
theorem d_MD_placeOf_18 : decode b_MD_placeOf 18 = .ok (.iload_n 1, 1) := by decide +kernel
theorem d_MD_placeOf_19 : decode b_MD_placeOf 19 = .ok (.if_icmp .ne 35, 3) := by decide +kernel
theorem d_MD_placeOf_22 : decode b_MD_placeOf 22 = .ok (.aload_n 0, 1) := by decide +kernel
theorem d_MD_placeOf_23 : decode b_MD_placeOf 23 = .ok (.getfield 16, 3) := by decide +kernel
theorem d_MD_placeOf_26 : decode b_MD_placeOf 26 = .ok (.iload_n 3, 1) := by decide +kernel
theorem d_MD_placeOf_27 : decode b_MD_placeOf 27 = .ok (.baload, 1) := by decide +kernel
theorem d_MD_placeOf_28 : decode b_MD_placeOf 28 = .ok (.ifCond .ne 26, 3) := by decide +kernel
theorem d_MD_placeOf_31 : decode b_MD_placeOf 31 = .ok (.iload_n 2, 1) := by decide +kernel
theorem d_MD_placeOf_32 : decode b_MD_placeOf 32 = .ok (.ifCond .lt 18, 3) := by decide +kernel
theorem d_MD_placeOf_35 : decode b_MD_placeOf 35 = .ok (.aload_n 0, 1) := by decide +kernel
theorem d_MD_placeOf_36 : decode b_MD_placeOf 36 = .ok (.getfield 13, 3) := by decide +kernel
theorem d_MD_placeOf_39 : decode b_MD_placeOf 39 = .ok (.iload_n 3, 1) := by decide +kernel
theorem d_MD_placeOf_40 : decode b_MD_placeOf 40 = .ok (.iaload, 1) := by decide +kernel
theorem d_MD_placeOf_41 : decode b_MD_placeOf 41 = .ok (.aload_n 0, 1) := by decide +kernel
theorem d_MD_placeOf_42 : decode b_MD_placeOf 42 = .ok (.getfield 13, 3) := by decide +kernel
theorem d_MD_placeOf_45 : decode b_MD_placeOf 45 = .ok (.iload_n 2, 1) := by decide +kernel
theorem d_MD_placeOf_46 : decode b_MD_placeOf 46 = .ok (.iaload, 1) := by decide +kernel
theorem d_MD_placeOf_47 : decode b_MD_placeOf 47 = .ok (.if_icmp .ge 7, 3) := by decide +kernel
theorem d_MD_placeOf_50 : decode b_MD_placeOf 50 = .ok (.iload_n 3, 1) := by decide +kernel
theorem d_MD_placeOf_51 : decode b_MD_placeOf 51 = .ok (.goto 4, 3) := by decide +kernel
theorem d_MD_placeOf_54 : decode b_MD_placeOf 54 = .ok (.iload_n 2, 1) := by decide +kernel
theorem d_MD_placeOf_55 : decode b_MD_placeOf 55 = .ok (.istore_n 2, 1) := by decide +kernel
theorem d_MD_placeOf_56 : decode b_MD_placeOf 56 = .ok (.iinc 3 1, 3) := by decide +kernel
theorem d_MD_placeOf_59 : decode b_MD_placeOf 59 = .ok (.goto (-55), 3) := by decide +kernel
theorem d_MD_placeOf_62 : decode b_MD_placeOf 62 = .ok (.iload_n 2, 1) := by decide +kernel
theorem d_MD_placeOf_63 : decode b_MD_placeOf 63 = .ok (.ireturn, 1) := by decide +kernel
theorem d_MD_untell_0 : decode b_MD_untell 0 = .ok (.iconst 0, 1) := by decide +kernel
theorem d_MD_untell_1 : decode b_MD_untell 1 = .ok (.istore_n 1, 1) := by decide +kernel
theorem d_MD_untell_2 : decode b_MD_untell 2 = .ok (.iload_n 1, 1) := by decide +kernel
theorem d_MD_untell_3 : decode b_MD_untell 3 = .ok (.sipush 200, 3) := by decide +kernel
theorem d_MD_untell_6 : decode b_MD_untell 6 = .ok (.if_icmp .ge 16, 3) := by decide +kernel
theorem d_MD_untell_9 : decode b_MD_untell 9 = .ok (.aload_n 0, 1) := by decide +kernel
theorem d_MD_untell_10 : decode b_MD_untell 10 = .ok (.getfield 16, 3) := by decide +kernel
theorem d_MD_untell_13 : decode b_MD_untell 13 = .ok (.iload_n 1, 1) := by decide +kernel
theorem d_MD_untell_14 : decode b_MD_untell 14 = .ok (.iconst 0, 1) := by decide +kernel
theorem d_MD_untell_15 : decode b_MD_untell 15 = .ok (.bastore, 1) := by decide +kernel
theorem d_MD_untell_16 : decode b_MD_untell 16 = .ok (.iinc 1 1, 3) := by decide +kernel
theorem d_MD_untell_19 : decode b_MD_untell 19 = .ok (.goto (-17), 3) := by decide +kernel
theorem d_MD_untell_22 : decode b_MD_untell 22 = .ok (.return_, 1) := by decide +kernel
theorem d_MD_least_0 : decode b_MD_least 0 = .ok (.aload_n 0, 1) := by decide +kernel
theorem d_MD_least_1 : decode b_MD_least 1 = .ok (.invokevirtual 35, 3) := by decide +kernel
theorem d_MD_least_4 : decode b_MD_least 4 = .ok (.aload_n 0, 1) := by decide +kernel
theorem d_MD_least_5 : decode b_MD_least 5 = .ok (.iload_n 1, 1) := by decide +kernel
theorem d_MD_least_6 : decode b_MD_least 6 = .ok (.invokevirtual 27, 3) := by decide +kernel
theorem d_MD_least_9 : decode b_MD_least 9 = .ok (.ifCond .eq 11, 3) := by decide +kernel
theorem d_MD_least_12 : decode b_MD_least 12 = .ok (.aload_n 0, 1) := by decide +kernel
theorem d_MD_least_13 : decode b_MD_least 13 = .ok (.iload_n 1, 1) := by decide +kernel
theorem d_MD_least_14 : decode b_MD_least 14 = .ok (.invokevirtual 38, 3) := by decide +kernel
theorem d_MD_least_17 : decode b_MD_least 17 = .ok (.goto 4, 3) := by decide +kernel
theorem d_MD_least_20 : decode b_MD_least 20 = .ok (.iconst (-1), 1) := by decide +kernel
theorem d_MD_least_21 : decode b_MD_least 21 = .ok (.istore_n 2, 1) := by decide +kernel
theorem d_MD_least_22 : decode b_MD_least 22 = .ok (.iload_n 2, 1) := by decide +kernel
theorem d_MD_least_23 : decode b_MD_least 23 = .ok (.ifCond .ge 9, 3) := by decide +kernel
theorem d_MD_least_26 : decode b_MD_least 26 = .ok (.ldc2_w 41, 3) := by decide +kernel
theorem d_MD_least_29 : decode b_MD_least 29 = .ok (.goto 10, 3) := by decide +kernel
theorem d_MD_least_32 : decode b_MD_least 32 = .ok (.aload_n 0, 1) := by decide +kernel
theorem d_MD_least_33 : decode b_MD_least 33 = .ok (.getfield 13, 3) := by decide +kernel
theorem d_MD_least_36 : decode b_MD_least 36 = .ok (.iload_n 2, 1) := by decide +kernel
theorem d_MD_least_37 : decode b_MD_least 37 = .ok (.iaload, 1) := by decide +kernel
theorem d_MD_least_38 : decode b_MD_least 38 = .ok (.i2l, 1) := by decide +kernel
theorem d_MD_least_39 : decode b_MD_least 39 = .ok (.lreturn, 1) := by decide +kernel
theorem d_MD_take_0 : decode b_MD_take 0 = .ok (.aload_n 0, 1) := by decide +kernel
theorem d_MD_take_1 : decode b_MD_take 1 = .ok (.invokevirtual 35, 3) := by decide +kernel
theorem d_MD_take_4 : decode b_MD_take 4 = .ok (.aload_n 0, 1) := by decide +kernel
theorem d_MD_take_5 : decode b_MD_take 5 = .ok (.iload_n 1, 1) := by decide +kernel
theorem d_MD_take_6 : decode b_MD_take 6 = .ok (.invokevirtual 27, 3) := by decide +kernel
theorem d_MD_take_9 : decode b_MD_take 9 = .ok (.ifCond .eq 11, 3) := by decide +kernel
theorem d_MD_take_12 : decode b_MD_take 12 = .ok (.aload_n 0, 1) := by decide +kernel
theorem d_MD_take_13 : decode b_MD_take 13 = .ok (.iload_n 1, 1) := by decide +kernel
theorem d_MD_take_14 : decode b_MD_take 14 = .ok (.invokevirtual 38, 3) := by decide +kernel
theorem d_MD_take_17 : decode b_MD_take 17 = .ok (.goto 4, 3) := by decide +kernel
theorem d_MD_take_20 : decode b_MD_take 20 = .ok (.iconst (-1), 1) := by decide +kernel
theorem d_MD_take_21 : decode b_MD_take 21 = .ok (.istore_n 2, 1) := by decide +kernel
theorem d_MD_take_22 : decode b_MD_take 22 = .ok (.iload_n 2, 1) := by decide +kernel
theorem d_MD_take_23 : decode b_MD_take 23 = .ok (.ifCond .ge 7, 3) := by decide +kernel
theorem d_MD_take_26 : decode b_MD_take 26 = .ok (.ldc2_w 41, 3) := by decide +kernel
theorem d_MD_take_29 : decode b_MD_take 29 = .ok (.lreturn, 1) := by decide +kernel
theorem d_MD_take_30 : decode b_MD_take 30 = .ok (.aload_n 0, 1) := by decide +kernel
theorem d_MD_take_31 : decode b_MD_take 31 = .ok (.getfield 13, 3) := by decide +kernel
theorem d_MD_take_34 : decode b_MD_take 34 = .ok (.iload_n 2, 1) := by decide +kernel
theorem d_MD_take_35 : decode b_MD_take 35 = .ok (.iaload, 1) := by decide +kernel
theorem d_MD_take_36 : decode b_MD_take 36 = .ok (.i2l, 1) := by decide +kernel
theorem d_MD_take_37 : decode b_MD_take 37 = .ok (.lstore_n 3, 1) := by decide +kernel
theorem d_MD_take_38 : decode b_MD_take 38 = .ok (.aload_n 0, 1) := by decide +kernel
theorem d_MD_take_39 : decode b_MD_take 39 = .ok (.dup, 1) := by decide +kernel
theorem d_MD_take_40 : decode b_MD_take 40 = .ok (.getfield 24, 3) := by decide +kernel
theorem d_MD_take_43 : decode b_MD_take 43 = .ok (.iconst 1, 1) := by decide +kernel
theorem d_MD_take_44 : decode b_MD_take 44 = .ok (.isub, 1) := by decide +kernel
theorem d_MD_take_45 : decode b_MD_take 45 = .ok (.putfield 24, 3) := by decide +kernel
theorem d_MD_take_48 : decode b_MD_take 48 = .ok (.aload_n 0, 1) := by decide +kernel
theorem d_MD_take_49 : decode b_MD_take 49 = .ok (.getfield 7, 3) := by decide +kernel
theorem d_MD_take_52 : decode b_MD_take 52 = .ok (.iload_n 2, 1) := by decide +kernel
theorem d_MD_take_53 : decode b_MD_take 53 = .ok (.aload_n 0, 1) := by decide +kernel
theorem d_MD_take_54 : decode b_MD_take 54 = .ok (.getfield 7, 3) := by decide +kernel
theorem d_MD_take_57 : decode b_MD_take 57 = .ok (.aload_n 0, 1) := by decide +kernel
theorem d_MD_take_58 : decode b_MD_take 58 = .ok (.getfield 24, 3) := by decide +kernel
theorem d_MD_take_61 : decode b_MD_take 61 = .ok (.iaload, 1) := by decide +kernel
theorem d_MD_take_62 : decode b_MD_take 62 = .ok (.iastore, 1) := by decide +kernel
theorem d_MD_take_63 : decode b_MD_take 63 = .ok (.aload_n 0, 1) := by decide +kernel
theorem d_MD_take_64 : decode b_MD_take 64 = .ok (.getfield 13, 3) := by decide +kernel
theorem d_MD_take_67 : decode b_MD_take 67 = .ok (.iload_n 2, 1) := by decide +kernel
theorem d_MD_take_68 : decode b_MD_take 68 = .ok (.aload_n 0, 1) := by decide +kernel
theorem d_MD_take_69 : decode b_MD_take 69 = .ok (.getfield 13, 3) := by decide +kernel
theorem d_MD_take_72 : decode b_MD_take 72 = .ok (.aload_n 0, 1) := by decide +kernel
theorem d_MD_take_73 : decode b_MD_take 73 = .ok (.getfield 24, 3) := by decide +kernel
theorem d_MD_take_76 : decode b_MD_take 76 = .ok (.iaload, 1) := by decide +kernel
theorem d_MD_take_77 : decode b_MD_take 77 = .ok (.iastore, 1) := by decide +kernel
theorem d_MD_take_78 : decode b_MD_take 78 = .ok (.lload_n 3, 1) := by decide +kernel
theorem d_MD_take_79 : decode b_MD_take 79 = .ok (.lreturn, 1) := by decide +kernel
theorem d_MD_meld_0 : decode b_MD_meld 0 = .ok (.aload_n 0, 1) := by decide +kernel
theorem d_MD_meld_1 : decode b_MD_meld 1 = .ok (.iload_n 1, 1) := by decide +kernel
theorem d_MD_meld_2 : decode b_MD_meld 2 = .ok (.invokevirtual 27, 3) := by decide +kernel
theorem d_MD_meld_5 : decode b_MD_meld 5 = .ok (.ifCond .eq 16, 3) := by decide +kernel
theorem d_MD_meld_8 : decode b_MD_meld 8 = .ok (.aload_n 0, 1) := by decide +kernel
theorem d_MD_meld_9 : decode b_MD_meld 9 = .ok (.iload_n 2, 1) := by decide +kernel
theorem d_MD_meld_10 : decode b_MD_meld 10 = .ok (.invokevirtual 27, 3) := by decide +kernel
theorem d_MD_meld_13 : decode b_MD_meld 13 = .ok (.ifCond .eq 8, 3) := by decide +kernel
theorem d_MD_meld_16 : decode b_MD_meld 16 = .ok (.iload_n 1, 1) := by decide +kernel
theorem d_MD_meld_17 : decode b_MD_meld 17 = .ok (.iload_n 2, 1) := by decide +kernel
theorem d_MD_meld_18 : decode b_MD_meld 18 = .ok (.if_icmp .ne 5, 3) := by decide +kernel
theorem d_MD_meld_21 : decode b_MD_meld 21 = .ok (.iconst (-1), 1) := by decide +kernel
theorem d_MD_meld_22 : decode b_MD_meld 22 = .ok (.ireturn, 1) := by decide +kernel
theorem d_MD_meld_23 : decode b_MD_meld 23 = .ok (.iconst 0, 1) := by decide +kernel
theorem d_MD_meld_24 : decode b_MD_meld 24 = .ok (.istore_n 3, 1) := by decide +kernel
theorem d_MD_meld_25 : decode b_MD_meld 25 = .ok (.iload_n 3, 1) := by decide +kernel
theorem d_MD_meld_26 : decode b_MD_meld 26 = .ok (.aload_n 0, 1) := by decide +kernel
theorem d_MD_meld_27 : decode b_MD_meld 27 = .ok (.getfield 24, 3) := by decide +kernel
theorem d_MD_meld_30 : decode b_MD_meld 30 = .ok (.if_icmp .ge 35, 3) := by decide +kernel
theorem d_MD_meld_33 : decode b_MD_meld 33 = .ok (.aload_n 0, 1) := by decide +kernel
theorem d_MD_meld_34 : decode b_MD_meld 34 = .ok (.getfield 7, 3) := by decide +kernel
theorem d_MD_meld_37 : decode b_MD_meld 37 = .ok (.iload_n 3, 1) := by decide +kernel
theorem d_MD_meld_38 : decode b_MD_meld 38 = .ok (.aload_n 0, 1) := by decide +kernel
theorem d_MD_meld_39 : decode b_MD_meld 39 = .ok (.getfield 7, 3) := by decide +kernel
theorem d_MD_meld_42 : decode b_MD_meld 42 = .ok (.iload_n 3, 1) := by decide +kernel
theorem d_MD_meld_43 : decode b_MD_meld 43 = .ok (.iaload, 1) := by decide +kernel
theorem d_MD_meld_44 : decode b_MD_meld 44 = .ok (.iload_n 2, 1) := by decide +kernel
theorem d_MD_meld_45 : decode b_MD_meld 45 = .ok (.if_icmp .ne 7, 3) := by decide +kernel
theorem d_MD_meld_48 : decode b_MD_meld 48 = .ok (.iload_n 1, 1) := by decide +kernel
theorem d_MD_meld_49 : decode b_MD_meld 49 = .ok (.goto 9, 3) := by decide +kernel
theorem d_MD_meld_52 : decode b_MD_meld 52 = .ok (.aload_n 0, 1) := by decide +kernel
theorem d_MD_meld_53 : decode b_MD_meld 53 = .ok (.getfield 7, 3) := by decide +kernel
theorem d_MD_meld_56 : decode b_MD_meld 56 = .ok (.iload_n 3, 1) := by decide +kernel
theorem d_MD_meld_57 : decode b_MD_meld 57 = .ok (.iaload, 1) := by decide +kernel
theorem d_MD_meld_58 : decode b_MD_meld 58 = .ok (.iastore, 1) := by decide +kernel
theorem d_MD_meld_59 : decode b_MD_meld 59 = .ok (.iinc 3 1, 3) := by decide +kernel
theorem d_MD_meld_62 : decode b_MD_meld 62 = .ok (.goto (-37), 3) := by decide +kernel
theorem d_MD_meld_65 : decode b_MD_meld 65 = .ok (.aload_n 0, 1) := by decide +kernel
theorem d_MD_meld_66 : decode b_MD_meld 66 = .ok (.iload_n 1, 1) := by decide +kernel
theorem d_MD_meld_67 : decode b_MD_meld 67 = .ok (.invokevirtual 31, 3) := by decide +kernel
theorem d_MD_meld_70 : decode b_MD_meld 70 = .ok (.ireturn, 1) := by decide +kernel
theorem d_MD_size_0 : decode b_MD_size 0 = .ok (.aload_n 0, 1) := by decide +kernel
theorem d_MD_size_1 : decode b_MD_size 1 = .ok (.iload_n 1, 1) := by decide +kernel
theorem d_MD_size_2 : decode b_MD_size 2 = .ok (.invokevirtual 27, 3) := by decide +kernel
theorem d_MD_size_5 : decode b_MD_size 5 = .ok (.ifCond .eq 11, 3) := by decide +kernel
theorem d_MD_size_8 : decode b_MD_size 8 = .ok (.aload_n 0, 1) := by decide +kernel
theorem d_MD_size_9 : decode b_MD_size 9 = .ok (.iload_n 1, 1) := by decide +kernel
theorem d_MD_size_10 : decode b_MD_size 10 = .ok (.invokevirtual 31, 3) := by decide +kernel
theorem d_MD_size_13 : decode b_MD_size 13 = .ok (.goto 4, 3) := by decide +kernel
theorem d_MD_size_16 : decode b_MD_size 16 = .ok (.iconst (-1), 1) := by decide +kernel
theorem d_MD_size_17 : decode b_MD_size 17 = .ok (.ireturn, 1) := by decide +kernel
theorem d_MD_key_0 : decode b_MD_key 0 = .ok (.aload_n 0, 1) := by decide +kernel
theorem d_MD_key_1 : decode b_MD_key 1 = .ok (.iload_n 1, 1) := by decide +kernel
theorem d_MD_key_2 : decode b_MD_key 2 = .ok (.invokevirtual 27, 3) := by decide +kernel
theorem d_MD_key_5 : decode b_MD_key 5 = .ok (.ifCond .eq 16, 3) := by decide +kernel
theorem d_MD_key_8 : decode b_MD_key 8 = .ok (.iload_n 2, 1) := by decide +kernel
theorem d_MD_key_9 : decode b_MD_key 9 = .ok (.ifCond .lt 12, 3) := by decide +kernel
theorem d_MD_key_12 : decode b_MD_key 12 = .ok (.iload_n 2, 1) := by decide +kernel
theorem d_MD_key_13 : decode b_MD_key 13 = .ok (.aload_n 0, 1) := by decide +kernel
theorem d_MD_key_14 : decode b_MD_key 14 = .ok (.iload_n 1, 1) := by decide +kernel
theorem d_MD_key_15 : decode b_MD_key 15 = .ok (.invokevirtual 31, 3) := by decide +kernel
theorem d_MD_key_18 : decode b_MD_key 18 = .ok (.if_icmp .lt 7, 3) := by decide +kernel
theorem d_MD_key_21 : decode b_MD_key 21 = .ok (.ldc2_w 41, 3) := by decide +kernel
theorem d_MD_key_24 : decode b_MD_key 24 = .ok (.lreturn, 1) := by decide +kernel
theorem d_MD_key_25 : decode b_MD_key 25 = .ok (.aload_n 0, 1) := by decide +kernel
theorem d_MD_key_26 : decode b_MD_key 26 = .ok (.invokevirtual 35, 3) := by decide +kernel
theorem d_MD_key_29 : decode b_MD_key 29 = .ok (.iconst 0, 1) := by decide +kernel
theorem d_MD_key_30 : decode b_MD_key 30 = .ok (.istore_n 3, 1) := by decide +kernel
theorem d_MD_key_31 : decode b_MD_key 31 = .ok (.iload_n 3, 1) := by decide +kernel
theorem d_MD_key_32 : decode b_MD_key 32 = .ok (.iload_n 2, 1) := by decide +kernel
theorem d_MD_key_33 : decode b_MD_key 33 = .ok (.if_icmp .ge 20, 3) := by decide +kernel
theorem d_MD_key_36 : decode b_MD_key 36 = .ok (.aload_n 0, 1) := by decide +kernel
theorem d_MD_key_37 : decode b_MD_key 37 = .ok (.getfield 16, 3) := by decide +kernel
theorem d_MD_key_40 : decode b_MD_key 40 = .ok (.aload_n 0, 1) := by decide +kernel
theorem d_MD_key_41 : decode b_MD_key 41 = .ok (.iload_n 1, 1) := by decide +kernel
theorem d_MD_key_42 : decode b_MD_key 42 = .ok (.invokevirtual 38, 3) := by decide +kernel
theorem d_MD_key_45 : decode b_MD_key 45 = .ok (.iconst 1, 1) := by decide +kernel
theorem d_MD_key_46 : decode b_MD_key 46 = .ok (.bastore, 1) := by decide +kernel
theorem d_MD_key_47 : decode b_MD_key 47 = .ok (.iinc 3 1, 3) := by decide +kernel
theorem d_MD_key_50 : decode b_MD_key 50 = .ok (.goto (-19), 3) := by decide +kernel
theorem d_MD_key_53 : decode b_MD_key 53 = .ok (.aload_n 0, 1) := by decide +kernel
theorem d_MD_key_54 : decode b_MD_key 54 = .ok (.getfield 13, 3) := by decide +kernel
theorem d_MD_key_57 : decode b_MD_key 57 = .ok (.aload_n 0, 1) := by decide +kernel
theorem d_MD_key_58 : decode b_MD_key 58 = .ok (.iload_n 1, 1) := by decide +kernel
theorem d_MD_key_59 : decode b_MD_key 59 = .ok (.invokevirtual 38, 3) := by decide +kernel
theorem d_MD_key_62 : decode b_MD_key 62 = .ok (.iaload, 1) := by decide +kernel
theorem d_MD_key_63 : decode b_MD_key 63 = .ok (.i2l, 1) := by decide +kernel
theorem d_MD_key_64 : decode b_MD_key 64 = .ok (.lreturn, 1) := by decide +kernel
theorem d_MD_sum_0 : decode b_MD_sum 0 = .ok (.lconst 0, 1) := by decide +kernel
theorem d_MD_sum_1 : decode b_MD_sum 1 = .ok (.lstore_n 2, 1) := by decide +kernel
theorem d_MD_sum_2 : decode b_MD_sum 2 = .ok (.iconst 0, 1) := by decide +kernel
theorem d_MD_sum_3 : decode b_MD_sum 3 = .ok (.istore 4, 2) := by decide +kernel
theorem d_MD_sum_5 : decode b_MD_sum 5 = .ok (.iload 4, 2) := by decide +kernel
theorem d_MD_sum_7 : decode b_MD_sum 7 = .ok (.aload_n 0, 1) := by decide +kernel
theorem d_MD_sum_8 : decode b_MD_sum 8 = .ok (.getfield 24, 3) := by decide +kernel
theorem d_MD_sum_11 : decode b_MD_sum 11 = .ok (.if_icmp .ge 43, 3) := by decide +kernel
theorem d_MD_sum_14 : decode b_MD_sum 14 = .ok (.lload_n 2, 1) := by decide +kernel
theorem d_MD_sum_15 : decode b_MD_sum 15 = .ok (.aload_n 0, 1) := by decide +kernel
theorem d_MD_sum_16 : decode b_MD_sum 16 = .ok (.iload_n 1, 1) := by decide +kernel
theorem d_MD_sum_17 : decode b_MD_sum 17 = .ok (.invokevirtual 27, 3) := by decide +kernel
theorem d_MD_sum_20 : decode b_MD_sum 20 = .ok (.ifCond .eq 25, 3) := by decide +kernel
theorem d_MD_sum_23 : decode b_MD_sum 23 = .ok (.aload_n 0, 1) := by decide +kernel
theorem d_MD_sum_24 : decode b_MD_sum 24 = .ok (.getfield 7, 3) := by decide +kernel
theorem d_MD_sum_27 : decode b_MD_sum 27 = .ok (.iload 4, 2) := by decide +kernel
theorem d_MD_sum_29 : decode b_MD_sum 29 = .ok (.iaload, 1) := by decide +kernel
theorem d_MD_sum_30 : decode b_MD_sum 30 = .ok (.iload_n 1, 1) := by decide +kernel
theorem d_MD_sum_31 : decode b_MD_sum 31 = .ok (.if_icmp .ne 14, 3) := by decide +kernel
theorem d_MD_sum_34 : decode b_MD_sum 34 = .ok (.aload_n 0, 1) := by decide +kernel
theorem d_MD_sum_35 : decode b_MD_sum 35 = .ok (.getfield 13, 3) := by decide +kernel
theorem d_MD_sum_38 : decode b_MD_sum 38 = .ok (.iload 4, 2) := by decide +kernel
theorem d_MD_sum_40 : decode b_MD_sum 40 = .ok (.iaload, 1) := by decide +kernel
theorem d_MD_sum_41 : decode b_MD_sum 41 = .ok (.i2l, 1) := by decide +kernel
theorem d_MD_sum_42 : decode b_MD_sum 42 = .ok (.goto 4, 3) := by decide +kernel
theorem d_MD_sum_45 : decode b_MD_sum 45 = .ok (.lconst 0, 1) := by decide +kernel
theorem d_MD_sum_46 : decode b_MD_sum 46 = .ok (.ladd, 1) := by decide +kernel
theorem d_MD_sum_47 : decode b_MD_sum 47 = .ok (.lstore_n 2, 1) := by decide +kernel
theorem d_MD_sum_48 : decode b_MD_sum 48 = .ok (.iinc 4 1, 3) := by decide +kernel
theorem d_MD_sum_51 : decode b_MD_sum 51 = .ok (.goto (-46), 3) := by decide +kernel
theorem d_MD_sum_54 : decode b_MD_sum 54 = .ok (.lload_n 2, 1) := by decide +kernel
theorem d_MD_sum_55 : decode b_MD_sum 55 = .ok (.lreturn, 1) := by decide +kernel
theorem d_MD_free_0 : decode b_MD_free 0 = .ok (.sipush 200, 3) := by decide +kernel
theorem d_MD_free_3 : decode b_MD_free 3 = .ok (.aload_n 0, 1) := by decide +kernel
theorem d_MD_free_4 : decode b_MD_free 4 = .ok (.getfield 24, 3) := by decide +kernel
theorem d_MD_free_7 : decode b_MD_free 7 = .ok (.isub, 1) := by decide +kernel
theorem d_MD_free_8 : decode b_MD_free 8 = .ok (.ireturn, 1) := by decide +kernel
theorem d_MD_few_0 : decode b_MD_few 0 = .ok (.iconst 1, 1) := by decide +kernel
theorem d_MD_few_1 : decode b_MD_few 1 = .ok (.ireturn, 1) := by decide +kernel
end
section
theorem d_law_0 : decode code 0 = .ok (.new 7, 3) := by decide +kernel
theorem d_law_3 : decode code 3 = .ok (.dup, 1) := by decide +kernel
theorem d_law_4 : decode code 4 = .ok (.invokespecial 9, 3) := by decide +kernel
theorem d_law_7 : decode code 7 = .ok (.astore_n 1, 1) := by decide +kernel
theorem d_law_8 : decode code 8 = .ok (.new 10, 3) := by decide +kernel
theorem d_law_11 : decode code 11 = .ok (.dup, 1) := by decide +kernel
theorem d_law_12 : decode code 12 = .ok (.invokespecial 12, 3) := by decide +kernel
theorem d_law_15 : decode code 15 = .ok (.astore_n 2, 1) := by decide +kernel
theorem d_law_16 : decode code 16 = .ok (.iconst 0, 1) := by decide +kernel
theorem d_law_17 : decode code 17 = .ok (.istore_n 3, 1) := by decide +kernel
theorem d_law_18 : decode code 18 = .ok (.iload_n 3, 1) := by decide +kernel
theorem d_law_19 : decode code 19 = .ok (.aload_n 0, 1) := by decide +kernel
theorem d_law_20 : decode code 20 = .ok (.arraylength, 1) := by decide +kernel
theorem d_law_21 : decode code 21 = .ok (.iconst 3, 1) := by decide +kernel
theorem d_law_22 : decode code 22 = .ok (.isub, 1) := by decide +kernel
theorem d_law_23 : decode code 23 = .ok (.if_icmp .gt 305, 3) := by decide +kernel
theorem d_law_26 : decode code 26 = .ok (.aload_n 0, 1) := by decide +kernel
theorem d_law_27 : decode code 27 = .ok (.iload_n 3, 1) := by decide +kernel
theorem d_law_28 : decode code 28 = .ok (.iaload, 1) := by decide +kernel
theorem d_law_29 : decode code 29 = .ok (.bipush 15, 2) := by decide +kernel
theorem d_law_31 : decode code 31 = .ok (.iand, 1) := by decide +kernel
theorem d_law_32 : decode code 32 = .ok (.tableswitch 290 0 9 #[56, 69, 102, 126, 150, 183, 206, 240, 264, 277], 56) := by decide +kernel
theorem d_law_88 : decode code 88 = .ok (.aload_n 1, 1) := by decide +kernel
theorem d_law_89 : decode code 89 = .ok (.invokevirtual 13, 3) := by decide +kernel
theorem d_law_92 : decode code 92 = .ok (.aload_n 2, 1) := by decide +kernel
theorem d_law_93 : decode code 93 = .ok (.invokevirtual 17, 3) := by decide +kernel
theorem d_law_96 : decode code 96 = .ok (.if_icmp .eq 226, 3) := by decide +kernel
theorem d_law_99 : decode code 99 = .ok (.iconst 0, 1) := by decide +kernel
theorem d_law_100 : decode code 100 = .ok (.ireturn, 1) := by decide +kernel
theorem d_law_101 : decode code 101 = .ok (.aload_n 1, 1) := by decide +kernel
theorem d_law_102 : decode code 102 = .ok (.aload_n 0, 1) := by decide +kernel
theorem d_law_103 : decode code 103 = .ok (.iload_n 3, 1) := by decide +kernel
theorem d_law_104 : decode code 104 = .ok (.iconst 1, 1) := by decide +kernel
theorem d_law_105 : decode code 105 = .ok (.iadd, 1) := by decide +kernel
theorem d_law_106 : decode code 106 = .ok (.iaload, 1) := by decide +kernel
theorem d_law_107 : decode code 107 = .ok (.aload_n 0, 1) := by decide +kernel
theorem d_law_108 : decode code 108 = .ok (.iload_n 3, 1) := by decide +kernel
theorem d_law_109 : decode code 109 = .ok (.iconst 2, 1) := by decide +kernel
theorem d_law_110 : decode code 110 = .ok (.iadd, 1) := by decide +kernel
theorem d_law_111 : decode code 111 = .ok (.iaload, 1) := by decide +kernel
theorem d_law_112 : decode code 112 = .ok (.invokevirtual 18, 3) := by decide +kernel
theorem d_law_115 : decode code 115 = .ok (.aload_n 2, 1) := by decide +kernel
theorem d_law_116 : decode code 116 = .ok (.aload_n 0, 1) := by decide +kernel
theorem d_law_117 : decode code 117 = .ok (.iload_n 3, 1) := by decide +kernel
theorem d_law_118 : decode code 118 = .ok (.iconst 1, 1) := by decide +kernel
theorem d_law_119 : decode code 119 = .ok (.iadd, 1) := by decide +kernel
theorem d_law_120 : decode code 120 = .ok (.iaload, 1) := by decide +kernel
theorem d_law_121 : decode code 121 = .ok (.aload_n 0, 1) := by decide +kernel
theorem d_law_122 : decode code 122 = .ok (.iload_n 3, 1) := by decide +kernel
theorem d_law_123 : decode code 123 = .ok (.iconst 2, 1) := by decide +kernel
theorem d_law_124 : decode code 124 = .ok (.iadd, 1) := by decide +kernel
theorem d_law_125 : decode code 125 = .ok (.iaload, 1) := by decide +kernel
theorem d_law_126 : decode code 126 = .ok (.invokevirtual 22, 3) := by decide +kernel
theorem d_law_129 : decode code 129 = .ok (.if_icmp .eq 193, 3) := by decide +kernel
theorem d_law_132 : decode code 132 = .ok (.iconst 0, 1) := by decide +kernel
theorem d_law_133 : decode code 133 = .ok (.ireturn, 1) := by decide +kernel
theorem d_law_134 : decode code 134 = .ok (.aload_n 1, 1) := by decide +kernel
theorem d_law_135 : decode code 135 = .ok (.aload_n 0, 1) := by decide +kernel
theorem d_law_136 : decode code 136 = .ok (.iload_n 3, 1) := by decide +kernel
theorem d_law_137 : decode code 137 = .ok (.iconst 1, 1) := by decide +kernel
theorem d_law_138 : decode code 138 = .ok (.iadd, 1) := by decide +kernel
theorem d_law_139 : decode code 139 = .ok (.iaload, 1) := by decide +kernel
theorem d_law_140 : decode code 140 = .ok (.invokevirtual 23, 3) := by decide +kernel
theorem d_law_143 : decode code 143 = .ok (.aload_n 2, 1) := by decide +kernel
theorem d_law_144 : decode code 144 = .ok (.aload_n 0, 1) := by decide +kernel
theorem d_law_145 : decode code 145 = .ok (.iload_n 3, 1) := by decide +kernel
theorem d_law_146 : decode code 146 = .ok (.iconst 1, 1) := by decide +kernel
theorem d_law_147 : decode code 147 = .ok (.iadd, 1) := by decide +kernel
theorem d_law_148 : decode code 148 = .ok (.iaload, 1) := by decide +kernel
theorem d_law_149 : decode code 149 = .ok (.invokevirtual 27, 3) := by decide +kernel
theorem d_law_152 : decode code 152 = .ok (.lcmp, 1) := by decide +kernel
theorem d_law_153 : decode code 153 = .ok (.ifCond .eq 169, 3) := by decide +kernel
theorem d_law_156 : decode code 156 = .ok (.iconst 0, 1) := by decide +kernel
theorem d_law_157 : decode code 157 = .ok (.ireturn, 1) := by decide +kernel
theorem d_law_158 : decode code 158 = .ok (.aload_n 1, 1) := by decide +kernel
theorem d_law_159 : decode code 159 = .ok (.aload_n 0, 1) := by decide +kernel
theorem d_law_160 : decode code 160 = .ok (.iload_n 3, 1) := by decide +kernel
theorem d_law_161 : decode code 161 = .ok (.iconst 1, 1) := by decide +kernel
theorem d_law_162 : decode code 162 = .ok (.iadd, 1) := by decide +kernel
theorem d_law_163 : decode code 163 = .ok (.iaload, 1) := by decide +kernel
theorem d_law_164 : decode code 164 = .ok (.invokevirtual 28, 3) := by decide +kernel
theorem d_law_167 : decode code 167 = .ok (.aload_n 2, 1) := by decide +kernel
theorem d_law_168 : decode code 168 = .ok (.aload_n 0, 1) := by decide +kernel
theorem d_law_169 : decode code 169 = .ok (.iload_n 3, 1) := by decide +kernel
theorem d_law_170 : decode code 170 = .ok (.iconst 1, 1) := by decide +kernel
theorem d_law_171 : decode code 171 = .ok (.iadd, 1) := by decide +kernel
theorem d_law_172 : decode code 172 = .ok (.iaload, 1) := by decide +kernel
theorem d_law_173 : decode code 173 = .ok (.invokevirtual 31, 3) := by decide +kernel
theorem d_law_176 : decode code 176 = .ok (.lcmp, 1) := by decide +kernel
theorem d_law_177 : decode code 177 = .ok (.ifCond .eq 145, 3) := by decide +kernel
theorem d_law_180 : decode code 180 = .ok (.iconst 0, 1) := by decide +kernel
theorem d_law_181 : decode code 181 = .ok (.ireturn, 1) := by decide +kernel
theorem d_law_182 : decode code 182 = .ok (.aload_n 1, 1) := by decide +kernel
theorem d_law_183 : decode code 183 = .ok (.aload_n 0, 1) := by decide +kernel
theorem d_law_184 : decode code 184 = .ok (.iload_n 3, 1) := by decide +kernel
theorem d_law_185 : decode code 185 = .ok (.iconst 1, 1) := by decide +kernel
theorem d_law_186 : decode code 186 = .ok (.iadd, 1) := by decide +kernel
theorem d_law_187 : decode code 187 = .ok (.iaload, 1) := by decide +kernel
theorem d_law_188 : decode code 188 = .ok (.aload_n 0, 1) := by decide +kernel
theorem d_law_189 : decode code 189 = .ok (.iload_n 3, 1) := by decide +kernel
end
section
theorem d_law_190 : decode code 190 = .ok (.iconst 2, 1) := by decide +kernel
theorem d_law_191 : decode code 191 = .ok (.iadd, 1) := by decide +kernel
theorem d_law_192 : decode code 192 = .ok (.iaload, 1) := by decide +kernel
theorem d_law_193 : decode code 193 = .ok (.invokevirtual 32, 3) := by decide +kernel
theorem d_law_196 : decode code 196 = .ok (.aload_n 2, 1) := by decide +kernel
theorem d_law_197 : decode code 197 = .ok (.aload_n 0, 1) := by decide +kernel
theorem d_law_198 : decode code 198 = .ok (.iload_n 3, 1) := by decide +kernel
theorem d_law_199 : decode code 199 = .ok (.iconst 1, 1) := by decide +kernel
theorem d_law_200 : decode code 200 = .ok (.iadd, 1) := by decide +kernel
theorem d_law_201 : decode code 201 = .ok (.iaload, 1) := by decide +kernel
theorem d_law_202 : decode code 202 = .ok (.aload_n 0, 1) := by decide +kernel
theorem d_law_203 : decode code 203 = .ok (.iload_n 3, 1) := by decide +kernel
theorem d_law_204 : decode code 204 = .ok (.iconst 2, 1) := by decide +kernel
theorem d_law_205 : decode code 205 = .ok (.iadd, 1) := by decide +kernel
theorem d_law_206 : decode code 206 = .ok (.iaload, 1) := by decide +kernel
theorem d_law_207 : decode code 207 = .ok (.invokevirtual 35, 3) := by decide +kernel
theorem d_law_210 : decode code 210 = .ok (.if_icmp .eq 112, 3) := by decide +kernel
theorem d_law_213 : decode code 213 = .ok (.iconst 0, 1) := by decide +kernel
theorem d_law_214 : decode code 214 = .ok (.ireturn, 1) := by decide +kernel
theorem d_law_215 : decode code 215 = .ok (.aload_n 1, 1) := by decide +kernel
theorem d_law_216 : decode code 216 = .ok (.aload_n 0, 1) := by decide +kernel
theorem d_law_217 : decode code 217 = .ok (.iload_n 3, 1) := by decide +kernel
theorem d_law_218 : decode code 218 = .ok (.iconst 1, 1) := by decide +kernel
theorem d_law_219 : decode code 219 = .ok (.iadd, 1) := by decide +kernel
theorem d_law_220 : decode code 220 = .ok (.iaload, 1) := by decide +kernel
theorem d_law_221 : decode code 221 = .ok (.invokevirtual 36, 3) := by decide +kernel
theorem d_law_224 : decode code 224 = .ok (.aload_n 2, 1) := by decide +kernel
theorem d_law_225 : decode code 225 = .ok (.aload_n 0, 1) := by decide +kernel
theorem d_law_226 : decode code 226 = .ok (.iload_n 3, 1) := by decide +kernel
theorem d_law_227 : decode code 227 = .ok (.iconst 1, 1) := by decide +kernel
theorem d_law_228 : decode code 228 = .ok (.iadd, 1) := by decide +kernel
theorem d_law_229 : decode code 229 = .ok (.iaload, 1) := by decide +kernel
theorem d_law_230 : decode code 230 = .ok (.invokevirtual 40, 3) := by decide +kernel
theorem d_law_233 : decode code 233 = .ok (.if_icmp .eq 89, 3) := by decide +kernel
theorem d_law_236 : decode code 236 = .ok (.iconst 0, 1) := by decide +kernel
theorem d_law_237 : decode code 237 = .ok (.ireturn, 1) := by decide +kernel
theorem d_law_238 : decode code 238 = .ok (.aload_n 1, 1) := by decide +kernel
theorem d_law_239 : decode code 239 = .ok (.aload_n 0, 1) := by decide +kernel
theorem d_law_240 : decode code 240 = .ok (.iload_n 3, 1) := by decide +kernel
theorem d_law_241 : decode code 241 = .ok (.iconst 1, 1) := by decide +kernel
theorem d_law_242 : decode code 242 = .ok (.iadd, 1) := by decide +kernel
theorem d_law_243 : decode code 243 = .ok (.iaload, 1) := by decide +kernel
theorem d_law_244 : decode code 244 = .ok (.aload_n 0, 1) := by decide +kernel
theorem d_law_245 : decode code 245 = .ok (.iload_n 3, 1) := by decide +kernel
theorem d_law_246 : decode code 246 = .ok (.iconst 2, 1) := by decide +kernel
theorem d_law_247 : decode code 247 = .ok (.iadd, 1) := by decide +kernel
theorem d_law_248 : decode code 248 = .ok (.iaload, 1) := by decide +kernel
theorem d_law_249 : decode code 249 = .ok (.invokevirtual 41, 3) := by decide +kernel
theorem d_law_252 : decode code 252 = .ok (.aload_n 2, 1) := by decide +kernel
theorem d_law_253 : decode code 253 = .ok (.aload_n 0, 1) := by decide +kernel
theorem d_law_254 : decode code 254 = .ok (.iload_n 3, 1) := by decide +kernel
theorem d_law_255 : decode code 255 = .ok (.iconst 1, 1) := by decide +kernel
theorem d_law_256 : decode code 256 = .ok (.iadd, 1) := by decide +kernel
theorem d_law_257 : decode code 257 = .ok (.iaload, 1) := by decide +kernel
theorem d_law_258 : decode code 258 = .ok (.aload_n 0, 1) := by decide +kernel
theorem d_law_259 : decode code 259 = .ok (.iload_n 3, 1) := by decide +kernel
theorem d_law_260 : decode code 260 = .ok (.iconst 2, 1) := by decide +kernel
theorem d_law_261 : decode code 261 = .ok (.iadd, 1) := by decide +kernel
theorem d_law_262 : decode code 262 = .ok (.iaload, 1) := by decide +kernel
theorem d_law_263 : decode code 263 = .ok (.invokevirtual 45, 3) := by decide +kernel
theorem d_law_266 : decode code 266 = .ok (.lcmp, 1) := by decide +kernel
theorem d_law_267 : decode code 267 = .ok (.ifCond .eq 55, 3) := by decide +kernel
theorem d_law_270 : decode code 270 = .ok (.iconst 0, 1) := by decide +kernel
theorem d_law_271 : decode code 271 = .ok (.ireturn, 1) := by decide +kernel
theorem d_law_272 : decode code 272 = .ok (.aload_n 1, 1) := by decide +kernel
theorem d_law_273 : decode code 273 = .ok (.aload_n 0, 1) := by decide +kernel
theorem d_law_274 : decode code 274 = .ok (.iload_n 3, 1) := by decide +kernel
theorem d_law_275 : decode code 275 = .ok (.iconst 1, 1) := by decide +kernel
theorem d_law_276 : decode code 276 = .ok (.iadd, 1) := by decide +kernel
theorem d_law_277 : decode code 277 = .ok (.iaload, 1) := by decide +kernel
theorem d_law_278 : decode code 278 = .ok (.invokevirtual 46, 3) := by decide +kernel
theorem d_law_281 : decode code 281 = .ok (.aload_n 2, 1) := by decide +kernel
theorem d_law_282 : decode code 282 = .ok (.aload_n 0, 1) := by decide +kernel
theorem d_law_283 : decode code 283 = .ok (.iload_n 3, 1) := by decide +kernel
theorem d_law_284 : decode code 284 = .ok (.iconst 1, 1) := by decide +kernel
theorem d_law_285 : decode code 285 = .ok (.iadd, 1) := by decide +kernel
theorem d_law_286 : decode code 286 = .ok (.iaload, 1) := by decide +kernel
theorem d_law_287 : decode code 287 = .ok (.invokevirtual 49, 3) := by decide +kernel
theorem d_law_290 : decode code 290 = .ok (.lcmp, 1) := by decide +kernel
theorem d_law_291 : decode code 291 = .ok (.ifCond .eq 31, 3) := by decide +kernel
theorem d_law_294 : decode code 294 = .ok (.iconst 0, 1) := by decide +kernel
theorem d_law_295 : decode code 295 = .ok (.ireturn, 1) := by decide +kernel
theorem d_law_296 : decode code 296 = .ok (.aload_n 1, 1) := by decide +kernel
theorem d_law_297 : decode code 297 = .ok (.invokevirtual 50, 3) := by decide +kernel
theorem d_law_300 : decode code 300 = .ok (.aload_n 2, 1) := by decide +kernel
theorem d_law_301 : decode code 301 = .ok (.invokevirtual 53, 3) := by decide +kernel
theorem d_law_304 : decode code 304 = .ok (.if_icmp .eq 18, 3) := by decide +kernel
theorem d_law_307 : decode code 307 = .ok (.iconst 0, 1) := by decide +kernel
theorem d_law_308 : decode code 308 = .ok (.ireturn, 1) := by decide +kernel
theorem d_law_309 : decode code 309 = .ok (.aload_n 1, 1) := by decide +kernel
theorem d_law_310 : decode code 310 = .ok (.invokevirtual 54, 3) := by decide +kernel
theorem d_law_313 : decode code 313 = .ok (.aload_n 2, 1) := by decide +kernel
theorem d_law_314 : decode code 314 = .ok (.invokevirtual 58, 3) := by decide +kernel
theorem d_law_317 : decode code 317 = .ok (.if_icmp .eq 5, 3) := by decide +kernel
theorem d_law_320 : decode code 320 = .ok (.iconst 0, 1) := by decide +kernel
theorem d_law_321 : decode code 321 = .ok (.ireturn, 1) := by decide +kernel
theorem d_law_322 : decode code 322 = .ok (.iinc 3 3, 3) := by decide +kernel
theorem d_law_325 : decode code 325 = .ok (.goto (-307), 3) := by decide +kernel
theorem d_law_328 : decode code 328 = .ok (.iconst 1, 1) := by decide +kernel
theorem d_law_329 : decode code 329 = .ok (.ireturn, 1) := by decide +kernel
end
section
/-! THE PURE MODEL: each Java method as a function on (arrays, int fields), branch for branch as its bytecode; none: an index out of its row, or no fuel -/
abbrev sk_T : Type := (Nat → Nat → Int32) × (Nat → Int32)
def sk_len (k : Nat) : Nat := match k with
  | 5 => 8
  | 6 => 8
  | _ => 200
def sk_rd (u : sk_T) (k : Nat) (i : Int32) : Option Int32 := if i < 0 ∨ sk_len k ≤ i.toNatClampNeg then none else some (u.1 k i.toNatClampNeg)
def sk_wr (u : sk_T) (k : Nat) (i v : Int32) : Option sk_T := if i < 0 ∨ sk_len k ≤ i.toNatClampNeg then none else some (va_up u.1 k (upd (u.1 k) i.toNatClampNeg v), u.2)
def sk_sF (u : sk_T) (k : Nat) (v : Int32) : sk_T := (u.1, upd u.2 k v)
def sk_FU : Nat := 256
def sk_MAX : Int32 := 2147483647
def sk_MIN : Int64 := -9223372036854775808
def sk_isHeap (u : sk_T) (h : Int32) : Int32 := if h < 0 then 0 else if u.2 2 ≤ h then 0 else 1
def sk_tick (u : sk_T) : sk_T := sk_sF u 3 (u.2 3 + 1)
def sk_get (u : sk_T) (k : Nat) (i : Int32) : Option (Int32 × sk_T) := (sk_rd (sk_tick u) k i).bind fun x => some (x, sk_tick u)
def sk_set (u : sk_T) (k : Nat) (i v : Int32) : Option sk_T := sk_wr (sk_tick u) k i v
def sk_begin (u : sk_T) (n : Int32) : sk_T := sk_sF (sk_sF u 3 0) 4 n
-- Integer.numberOfLeadingZeros
def sk_ushr (x y : Int32) : Int32 := (x.toUInt32 >>> (y.toUInt32 &&& Int32.toUInt32 31)).toInt32
def sk_nlz5 (i n : Int32) : Int32 := n - sk_ushr i 1
def sk_nlz4 (i n : Int32) : Int32 := if i < 4 then sk_nlz5 i n else sk_nlz5 (sk_ushr i 2) (n + (-2))
def sk_nlz3 (i n : Int32) : Int32 := if i < 16 then sk_nlz4 i n else sk_nlz4 (sk_ushr i 4) (n + (-4))
def sk_nlz2 (i n : Int32) : Int32 := if i < 256 then sk_nlz3 i n else sk_nlz3 (sk_ushr i 8) (n + (-8))
def sk_nlz1 (i n : Int32) : Int32 := if i < 65536 then sk_nlz2 i n else sk_nlz2 (sk_ushr i 16) (n + (-16))
def sk_nlz (i : Int32) : Int32 := if 0 < i then sk_nlz1 i 31 else if i = 0 then 32 else 0
def sk_fewFor (n : Int32) : Int32 := 200 * (33 - sk_nlz (n + 1))
-- cells
def sk_make (u : sk_T) (key : Int32) : Option (Int32 × sk_T) :=
  (sk_get u 3 (u.2 0)).bind fun p1 =>
  (sk_set (sk_sF (sk_sF p1.2 0 p1.1) 1 ((sk_sF p1.2 0 p1.1).2 1 - 1)) 0 (u.2 0) key).bind fun u2 =>
  (sk_set u2 1 (u.2 0) 0).bind fun u3 =>
  (sk_set u3 2 (u.2 0) (-1)).bind fun u4 =>
  (sk_set u4 4 (u.2 0) (-1)).bind fun u5 => some (u.2 0, u5)
def sk_release (u : sk_T) (c : Int32) : Option sk_T :=
  (sk_set u 3 c (u.2 0)).bind fun u1 => some (sk_sF (sk_sF u1 0 c) 1 ((sk_sF u1 0 c).2 1 + 1))
-- trees
def sk_link2 (u : sk_T) (t b : Int32) : Option (Int32 × sk_T) :=
  (sk_get u 2 t).bind fun p1 =>
  (sk_set p1.2 3 b p1.1).bind fun u2 =>
  (sk_set u2 2 t b).bind fun u3 =>
  (sk_get u3 1 t).bind fun p4 =>
  (sk_set p4.2 1 t (p4.1 + 1)).bind fun u5 => some (t, u5)
def sk_link (u : sk_T) (a b : Int32) : Option (Int32 × sk_T) :=
  (sk_get u 0 b).bind fun p1 =>
  (sk_get p1.2 0 a).bind fun p2 =>
  if p2.1 ≤ p1.1 then sk_link2 p2.2 a b else sk_link2 p2.2 b a
def sk_skew2 (u : sk_T) (s t : Int32) : Option (Int32 × sk_T) :=
  (sk_get u 4 t).bind fun p1 =>
  (sk_set p1.2 3 s p1.1).bind fun u2 =>
  (sk_set u2 4 t s).bind fun u3 => some (t, u3)
def sk_skewLink (u : sk_T) (s a b : Int32) : Option (Int32 × sk_T) :=
  (sk_link u a b).bind fun p1 =>
  (sk_get p1.2 0 p1.1).bind fun p2 =>
  (sk_get p2.2 0 s).bind fun p3 =>
  if p2.1 ≤ p3.1 then sk_skew2 p3.2 s p1.1 else
  (sk_set p3.2 0 p1.1 p3.1).bind fun u4 =>
  (sk_set u4 0 s p2.1).bind fun u5 => sk_skew2 u5 s p1.1
def sk_ins3 (u : sk_T) (s f : Int32) : Option (Int32 × sk_T) :=
  (sk_set u 3 s f).bind fun u1 => some (s, u1)
def sk_ins2 (u : sk_T) (s f d : Int32) : Option (Int32 × sk_T) :=
  if d = -1 then sk_ins3 u s f else
  (sk_get u 1 f).bind fun p1 =>
  (sk_get p1.2 1 d).bind fun p2 =>
  if p1.1 = p2.1 then
    (sk_get p2.2 3 d).bind fun p3 =>
    (sk_skewLink p3.2 s f d).bind fun p4 =>
    (sk_set p4.2 3 p4.1 p3.1).bind fun u5 => some (p4.1, u5)
  else sk_ins3 p2.2 s f
def sk_insert (u : sk_T) (s f : Int32) : Option (Int32 × sk_T) :=
  if f = -1 then sk_ins2 u s f (-1) else
  (sk_get u 3 f).bind fun p1 => sk_ins2 p1.2 s f p1.1
def sk_put2 (u : sk_T) (t r : Int32) : Option (Int32 × sk_T) :=
  (sk_set u 3 t r).bind fun u1 => some (t, u1)
def sk_putL : Nat → sk_T → Int32 → Int32 → Option (Int32 × sk_T)
  | 0, _, _, _ => none
  | n + 1, u, t, r =>
    if r = -1 then sk_put2 u t r else
    (sk_get u 1 r).bind fun p1 =>
    (sk_get p1.2 1 t).bind fun p2 =>
    if p1.1 = p2.1 then
      (sk_get p2.2 3 r).bind fun p3 =>
      (sk_link p3.2 t r).bind fun p4 => sk_putL n p4.2 p4.1 p3.1
    else sk_put2 p2.2 t r
def sk_put (u : sk_T) (t f : Int32) : Option (Int32 × sk_T) := sk_putL sk_FU u t f
def sk_norm (u : sk_T) (f : Int32) : Option (Int32 × sk_T) :=
  if f = -1 then some (-1, u) else
  (sk_get u 3 f).bind fun p1 =>
  (sk_put p1.2 f p1.1).bind fun p2 => some (p2.1, p2.2)
def sk_mer3 : Nat → sk_T → Int32 → Int32 → Option (Int32 × sk_T)
  | 0, _, _, _ => none
  | n + 1, u, r, a =>
    if a = -1 then some (r, u) else
    (sk_get u 3 a).bind fun p1 =>
    (sk_put p1.2 a r).bind fun p2 => sk_mer3 n p2.2 p2.1 p1.1
def sk_mer2 (u : sk_T) (x y a : Int32) : Option (Int32 × sk_T) :=
  if x = -1 then sk_mer3 sk_FU u y a else sk_mer3 sk_FU u x a
def sk_merL : Nat → sk_T → Int32 → Int32 → Int32 → Option (Int32 × sk_T)
  | 0, _, _, _, _ => none
  | n + 1, u, x, y, a =>
    if x = -1 then sk_mer2 u x y a else
    if y = -1 then sk_mer2 u x y a else
    (sk_get u 1 x).bind fun p1 =>
    (sk_get p1.2 1 y).bind fun p2 =>
    if p2.1 < p1.1 then
      (sk_get p2.2 3 y).bind fun p3 =>
      (sk_set p3.2 3 y a).bind fun u4 => sk_merL n u4 x p3.1 y
    else
      (sk_get p2.2 3 x).bind fun p3 =>
      (sk_set p3.2 3 x a).bind fun u4 => sk_merL n u4 p3.1 y x
def sk_merge (u : sk_T) (a b : Int32) : Option (Int32 × sk_T) := sk_merL sk_FU u a b (-1)
-- heaps
def sk_heap2 (u : sk_T) : Option (Int32 × sk_T) :=
  if u.2 2 = 8 then some (-1, u) else
  (sk_wr u 5 (u.2 2) (-1)).bind fun u1 =>
  (sk_wr u1 6 (u1.2 2) 0).bind fun u2 => some (u2.2 2, sk_sF u2 2 (u2.2 2 + 1))
def sk_heap (u : sk_T) : Option (Int32 × sk_T) := sk_heap2 (sk_begin u sk_MAX)
def sk_add2 (u : sk_T) (h key : Int32) : Option (Int32 × sk_T) :=
  if sk_isHeap u h = 0 then some (-1, u) else
  if u.2 1 = 0 then some (-2, u) else
  (sk_make u key).bind fun p1 =>
  (sk_get p1.2 5 h).bind fun p2 =>
  (sk_insert p2.2 p1.1 p2.1).bind fun p3 =>
  (sk_set p3.2 5 h p3.1).bind fun u4 =>
  (sk_get u4 6 h).bind fun p5 =>
  (sk_set p5.2 6 h (p5.1 + 1)).bind fun u6 => some (p5.1 + 1, u6)
def sk_add (u : sk_T) (h key : Int32) : Option (Int32 × sk_T) := sk_add2 (sk_begin u 100) h key
def sk_ltL : Nat → sk_T → Int32 → Int32 → Option (Int32 × sk_T)
  | 0, _, _, _ => none
  | n + 1, u, b, t =>
    if t = -1 then some (b, u) else
    (sk_get u 0 t).bind fun p1 =>
    (sk_get p1.2 0 b).bind fun p2 =>
    if p2.1 ≤ p1.1 then (sk_get p2.2 3 t).bind fun p3 => sk_ltL n p3.2 b p3.1
    else (sk_get p2.2 3 t).bind fun p3 => sk_ltL n p3.2 t p3.1
def sk_leastTree (u : sk_T) (h : Int32) : Option (Int32 × sk_T) :=
  (sk_get u 5 h).bind fun p1 => sk_ltL sk_FU p1.2 p1.1 p1.1
def sk_least2 (u : sk_T) (h : Int32) : Option (Int64 × sk_T) :=
  if sk_isHeap u h = 0 then some (sk_MIN, u) else
  (sk_rd u 6 h).bind fun n =>
  if n ≤ 0 then some (sk_MIN, u) else
  (sk_leastTree u h).bind fun p1 =>
  (sk_get p1.2 0 p1.1).bind fun p2 => some (p2.1.toInt64, p2.2)
def sk_least (u : sk_T) (h : Int32) : Option (Int64 × sk_T) :=
  if sk_isHeap u h = 0 then sk_least2 (sk_begin u sk_MAX) h else
  (sk_rd u 6 h).bind fun n => sk_least2 (sk_begin u (sk_fewFor n)) h
def sk_remL : Nat → sk_T → Int32 → Int32 → Int32 → Option sk_T
  | 0, _, _, _, _ => none
  | n + 1, u, tr, a, t =>
    (sk_get u 3 t).bind fun p1 =>
    if p1.1 = tr then (sk_set p1.2 3 t a).bind fun u2 => some u2
    else (sk_get p1.2 3 t).bind fun p2 => sk_remL n p2.2 tr a p2.1
def sk_remove (u : sk_T) (h tr : Int32) : Option sk_T :=
  (sk_get u 3 tr).bind fun p1 =>
  (sk_get p1.2 5 h).bind fun p2 =>
  if p2.1 = tr then (sk_set p2.2 5 h p1.1).bind fun u3 => some u3
  else sk_remL sk_FU p2.2 tr p1.1 p2.1
def sk_turL : Nat → sk_T → Int32 → Int32 → Option (Int32 × sk_T)
  | 0, _, _, _ => none
  | n + 1, u, m, t =>
    if t = -1 then some (m, u) else
    (sk_get u 3 t).bind fun p1 =>
    (sk_set p1.2 3 t m).bind fun u2 => sk_turL n u2 t p1.1
def sk_turned (u : sk_T) (f : Int32) : Option (Int32 × sk_T) := sk_turL sk_FU u (-1) f
def sk_take4 (u : sk_T) (h t k f : Int32) : Option (Int64 × sk_T) :=
  (sk_set u 5 h f).bind fun u1 =>
  (sk_get u1 6 h).bind fun p2 =>
  (sk_set p2.2 6 h (p2.1 - 1)).bind fun u3 =>
  (sk_release u3 t).bind fun u4 => some (k.toInt64, u4)
def sk_take3 : Nat → sk_T → Int32 → Int32 → Int32 → Int32 → Int32 → Option (Int64 × sk_T)
  | 0, _, _, _, _, _, _ => none
  | n + 1, u, h, t, k, f, s =>
    if s = -1 then sk_take4 u h t k f else
    (sk_get u 3 s).bind fun p1 =>
    (sk_insert p1.2 s f).bind fun p2 => sk_take3 n p2.2 h t k p2.1 p1.1
def sk_take2 (u : sk_T) (h : Int32) : Option (Int64 × sk_T) :=
  if sk_isHeap u h = 0 then some (sk_MIN, u) else
  (sk_rd u 6 h).bind fun n =>
  if n = 0 then some (sk_MIN, u) else
  (sk_leastTree u h).bind fun p1 =>
  (sk_get p1.2 0 p1.1).bind fun p2 =>
  (sk_remove p2.2 h p1.1).bind fun u3 =>
  (sk_get u3 5 h).bind fun p4 =>
  (sk_norm p4.2 p4.1).bind fun p5 =>
  (sk_get p5.2 2 p1.1).bind fun p6 =>
  (sk_turned p6.2 p6.1).bind fun p7 =>
  (sk_norm p7.2 p7.1).bind fun p8 =>
  (sk_merge p8.2 p5.1 p8.1).bind fun p9 =>
  (sk_get p9.2 4 p1.1).bind fun p10 => sk_take3 sk_FU p10.2 h p1.1 p2.1 p9.1 p10.1
def sk_take (u : sk_T) (h : Int32) : Option (Int64 × sk_T) :=
  if sk_isHeap u h = 0 then sk_take2 (sk_begin u sk_MAX) h else
  (sk_rd u 6 h).bind fun n => sk_take2 (sk_begin u (sk_fewFor n)) h
def sk_meld3 (u : sk_T) : Option (Int32 × sk_T) := some (-1, sk_begin u sk_MAX)
def sk_meld2 (u : sk_T) (a b : Int32) : Option (Int32 × sk_T) :=
  (sk_get u 5 a).bind fun p1 =>
  (sk_norm p1.2 p1.1).bind fun p2 =>
  (sk_get p2.2 5 b).bind fun p3 =>
  (sk_norm p3.2 p3.1).bind fun p4 =>
  (sk_merge p4.2 p2.1 p4.1).bind fun p5 =>
  (sk_set p5.2 5 a p5.1).bind fun u6 =>
  (sk_set u6 5 b (-1)).bind fun u7 =>
  (sk_get u7 6 a).bind fun p8 =>
  (sk_get p8.2 6 b).bind fun p9 =>
  (sk_set p9.2 6 a (p8.1 + p9.1)).bind fun u10 =>
  (sk_set u10 6 b 0).bind fun u11 => some (p8.1 + p9.1, u11)
def sk_meld (u : sk_T) (a b : Int32) : Option (Int32 × sk_T) :=
  if sk_isHeap u a = 0 then sk_meld3 u else
  if sk_isHeap u b = 0 then sk_meld3 u else
  if a = b then sk_meld3 u else
  (sk_rd u 6 a).bind fun n1 =>
  (sk_rd u 6 b).bind fun n2 => sk_meld2 (sk_begin u (sk_fewFor (n1 + n2))) a b
def sk_size2 (u : sk_T) (h : Int32) : Option (Int32 × sk_T) :=
  if sk_isHeap u h = 0 then some (-1, u) else
  (sk_rd u 6 h).bind fun n => some (n, u)
def sk_size (u : sk_T) (h : Int32) : Option (Int32 × sk_T) := sk_size2 (sk_begin u sk_MAX) h
-- going through
def sk_awL : Nat → sk_T → Int32 → Option sk_T
  | 0, _, _ => none
  | n + 1, u, t =>
    if t = -1 then some u else
    (sk_wr (sk_sF u 5 (u.2 5 + 1)) 8 (u.2 5) t).bind fun u1 =>
    (sk_rd u1 3 t).bind fun x => sk_awL n u1 x
def sk_await (u : sk_T) (f : Int32) : Option sk_T := sk_awL sk_FU u f
def sk_wk3 (u : sk_T) (c k : Int32) : Option sk_T :=
  (sk_rd u 0 c).bind fun b =>
  (sk_wr u 7 k b).bind fun u1 => some u1
def sk_wk2 : Nat → sk_T → Int32 → Int32 → Option sk_T
  | 0, _, _, _ => none
  | n + 1, u, c, k =>
    if k ≤ 0 then sk_wk3 u c k else
    (sk_rd u 7 (k - 1)).bind fun a =>
    (sk_rd u 0 c).bind fun b =>
    if a ≤ b then sk_wk3 u c k else
    (sk_rd u 7 (k - 1)).bind fun a2 =>
    (sk_wr u 7 k a2).bind fun u1 => sk_wk2 n u1 c (k + (-1))
def sk_wkL : Nat → sk_T → Option sk_T
  | 0, _ => none
  | n + 1, u =>
    if u.2 5 ≤ 0 then some u else
    (sk_rd (sk_sF u 5 (u.2 5 - 1)) 8 (u.2 5 - 1)).bind fun c =>
    (sk_wk2 sk_FU (sk_sF (sk_sF u 5 (u.2 5 - 1)) 6 ((sk_sF u 5 (u.2 5 - 1)).2 6 + 1)) c ((sk_sF u 5 (u.2 5 - 1)).2 6)).bind fun u1 =>
    (sk_rd u1 2 c).bind fun x =>
    (sk_await u1 x).bind fun u2 =>
    (sk_rd u2 4 c).bind fun y =>
    (sk_await u2 y).bind fun u3 => sk_wkL n u3
def sk_walk (u : sk_T) (h : Int32) : Option sk_T :=
  (sk_rd (sk_sF (sk_sF u 6 0) 5 0) 5 h).bind fun x =>
  (sk_await (sk_sF (sk_sF u 6 0) 5 0) x).bind fun u1 => sk_wkL sk_FU u1
def sk_key2 (u : sk_T) (h k : Int32) : Option (Int64 × sk_T) :=
  if sk_isHeap u h = 0 then some (sk_MIN, u) else
  if k < 0 then some (sk_MIN, u) else
  (sk_rd u 6 h).bind fun n =>
  if k < n then
    (sk_walk u h).bind fun u1 =>
    (sk_rd u1 7 k).bind fun x => some (x.toInt64, u1)
  else some (sk_MIN, u)
def sk_key (u : sk_T) (h k : Int32) : Option (Int64 × sk_T) := sk_key2 (sk_begin u sk_MAX) h k
def sk_sumL : Nat → sk_T → Int64 → Int32 → Option (Int64 × sk_T)
  | 0, _, _, _ => none
  | n + 1, u, a, k =>
    if u.2 6 ≤ k then some (a, u) else
    (sk_rd u 7 k).bind fun x => sk_sumL n u (a + x.toInt64) (k + 1)
def sk_sum2 (u : sk_T) (h : Int32) : Option (Int64 × sk_T) :=
  if sk_isHeap u h = 0 then sk_sumL sk_FU u 0 0 else
  (sk_walk u h).bind fun u1 => sk_sumL sk_FU u1 0 0
def sk_sum (u : sk_T) (h : Int32) : Option (Int64 × sk_T) := sk_sum2 (sk_sF (sk_begin u sk_MAX) 6 0) h
def sk_free (u : sk_T) : Option (Int32 × sk_T) := some ((sk_begin u sk_MAX).2 1, sk_begin u sk_MAX)
def sk_few (u : sk_T) : Int32 := if u.2 4 < u.2 3 then 0 else 1
/-! the reference: arrays 0 owners, 1 keys, 2 told; fields 0 heaps, 1 used -/
def md_rd (v : sk_T) (k : Nat) (i : Int32) : Option Int32 := if i < 0 ∨ 200 ≤ i.toNatClampNeg then none else some (v.1 k i.toNatClampNeg)
def md_wr (v : sk_T) (k : Nat) (i x : Int32) : Option sk_T := if i < 0 ∨ 200 ≤ i.toNatClampNeg then none else some (va_up v.1 k (upd (v.1 k) i.toNatClampNeg x), v.2)
def md_isHeap (v : sk_T) (h : Int32) : Int32 := if h < 0 then 0 else if v.2 0 ≤ h then 0 else 1
def md_heap (v : sk_T) : Option (Int32 × sk_T) :=
  if v.2 0 = 8 then some (-1, v) else some ((sk_sF v 0 (v.2 0 + 1)).2 0 - 1, sk_sF v 0 (v.2 0 + 1))
def md_soL : Nat → sk_T → Int32 → Int32 → Int32 → Option Int32
  | 0, _, _, _, _ => none
  | n + 1, v, h, a, k =>
    if v.2 1 ≤ k then some a else
    (md_rd v 0 k).bind fun o =>
    if o = h then md_soL n v h (a + 1) (k + 1) else md_soL n v h (a + 0) (k + 1)
def md_sizeOf (v : sk_T) (h : Int32) : Option Int32 := md_soL sk_FU v h 0 0
def md_add (v : sk_T) (h key : Int32) : Option (Int32 × sk_T) :=
  if md_isHeap v h = 0 then some (-1, v) else
  if v.2 1 = 200 then some (-2, v) else
  (md_wr v 0 (v.2 1) h).bind fun v1 =>
  (md_wr v1 1 (v1.2 1) key).bind fun v2 =>
  (md_sizeOf (sk_sF v2 1 (v2.2 1 + 1)) h).bind fun r => some (r, sk_sF v2 1 (v2.2 1 + 1))
def md_poL : Nat → sk_T → Int32 → Int32 → Int32 → Option Int32
  | 0, _, _, _, _ => none
  | n + 1, v, h, b, k =>
    if v.2 1 ≤ k then some b else
    (md_rd v 0 k).bind fun o =>
    if o = h then
      (md_rd v 2 k).bind fun t =>
      if t = 0 then
        if b < 0 then md_poL n v h k (k + 1) else
        (md_rd v 1 k).bind fun x =>
        (md_rd v 1 b).bind fun y =>
        if y ≤ x then md_poL n v h b (k + 1) else md_poL n v h k (k + 1)
      else md_poL n v h b (k + 1)
    else md_poL n v h b (k + 1)
def md_placeOf (v : sk_T) (h : Int32) : Option Int32 := md_poL sk_FU v h (-1) 0
def md_unL : Nat → sk_T → Int32 → Option sk_T
  | 0, _, _ => none
  | n + 1, v, k =>
    if 200 ≤ k then some v else
    (md_wr v 2 k 0).bind fun v1 => md_unL n v1 (k + 1)
def md_untell (v : sk_T) : Option sk_T := md_unL sk_FU v 0
def md_least2 (v : sk_T) (p : Int32) : Option (Int64 × sk_T) :=
  if 0 ≤ p then (md_rd v 1 p).bind fun x => some (x.toInt64, v) else some (sk_MIN, v)
def md_least (v : sk_T) (h : Int32) : Option (Int64 × sk_T) :=
  (md_untell v).bind fun v1 =>
  if md_isHeap v1 h = 0 then md_least2 v1 (-1) else
  (md_placeOf v1 h).bind fun p => md_least2 v1 p
def md_take2 (v : sk_T) (p : Int32) : Option (Int64 × sk_T) :=
  if 0 ≤ p then
    (md_rd v 1 p).bind fun k =>
    (md_rd (sk_sF v 1 (v.2 1 - 1)) 0 ((sk_sF v 1 (v.2 1 - 1)).2 1)).bind fun o =>
    (md_wr (sk_sF v 1 (v.2 1 - 1)) 0 p o).bind fun v2 =>
    (md_rd v2 1 (v2.2 1)).bind fun x =>
    (md_wr v2 1 p x).bind fun v3 => some (k.toInt64, v3)
  else some (sk_MIN, v)
def md_take (v : sk_T) (h : Int32) : Option (Int64 × sk_T) :=
  (md_untell v).bind fun v1 =>
  if md_isHeap v1 h = 0 then md_take2 v1 (-1) else
  (md_placeOf v1 h).bind fun p => md_take2 v1 p
def md_meL : Nat → sk_T → Int32 → Int32 → Int32 → Option (Int32 × sk_T)
  | 0, _, _, _, _ => none
  | n + 1, v, a, b, k =>
    if v.2 1 ≤ k then (md_sizeOf v a).bind fun r => some (r, v) else
    (md_rd v 0 k).bind fun o =>
    if o = b then (md_wr v 0 k a).bind fun v1 => md_meL n v1 a b (k + 1)
    else
      (md_rd v 0 k).bind fun o2 =>
      (md_wr v 0 k o2).bind fun v1 => md_meL n v1 a b (k + 1)
def md_meld (v : sk_T) (a b : Int32) : Option (Int32 × sk_T) :=
  if md_isHeap v a = 0 then some (-1, v) else
  if md_isHeap v b = 0 then some (-1, v) else
  if a = b then some (-1, v) else md_meL sk_FU v a b 0
def md_size (v : sk_T) (h : Int32) : Option (Int32 × sk_T) :=
  if md_isHeap v h = 0 then some (-1, v) else
  (md_sizeOf v h).bind fun r => some (r, v)
def md_kyL : Nat → sk_T → Int32 → Int32 → Int32 → Option (Int64 × sk_T)
  | 0, _, _, _, _ => none
  | n + 1, v, h, k, i =>
    if k ≤ i then
      (md_placeOf v h).bind fun p =>
      (md_rd v 1 p).bind fun x => some (x.toInt64, v)
    else
      (md_placeOf v h).bind fun p =>
      (md_wr v 2 p 1).bind fun v1 => md_kyL n v1 h k (i + 1)
def md_key (v : sk_T) (h k : Int32) : Option (Int64 × sk_T) :=
  if md_isHeap v h = 0 then some (sk_MIN, v) else
  if k < 0 then some (sk_MIN, v) else
  (md_sizeOf v h).bind fun n =>
  if k < n then (md_untell v).bind fun v1 => md_kyL sk_FU v1 h k 0
  else some (sk_MIN, v)
def md_smL : Nat → sk_T → Int32 → Int64 → Int32 → Option (Int64 × sk_T)
  | 0, _, _, _, _ => none
  | n + 1, v, h, a, k =>
    if v.2 1 ≤ k then some (a, v) else
    if md_isHeap v h = 0 then md_smL n v h (a + 0) (k + 1) else
    (md_rd v 0 k).bind fun o =>
    if o = h then (md_rd v 1 k).bind fun x => md_smL n v h (a + x.toInt64) (k + 1)
    else md_smL n v h (a + 0) (k + 1)
def md_sum (v : sk_T) (h : Int32) : Option (Int64 × sk_T) := md_smL sk_FU v h 0 0
def md_free (v : sk_T) : Option (Int32 × sk_T) := some (200 - v.2 1, v)
def md_few (_ : sk_T) : Int32 := 1
end
section
/-! THE WORLD OF SkewMelds: the object at h, its nine rows at q 0 .. q 8; rows of the walk over it -/
theorem ob {α β : Type} {x : Option α} {f : α → Option β} {b : β} (h : x.bind f = some b) : ∃ a, x = some a ∧ f a = some b := by
  cases x with
  | none => cases h
  | some a => exact ⟨a, rfl, h⟩
theorem ip {α : Type} {c : Prop} [Decidable c] {x y z : α} (hc : c) (h : (if c then x else y) = z) : x = z := by
  rw [if_pos hc] at h
  exact h
theorem im {α : Type} {c : Prop} [Decidable c] {x y z : α} (hc : ¬ c) (h : (if c then x else y) = z) : y = z := by
  rw [if_neg hc] at h
  exact h
def sk_fs (q : Nat → Nat) (F : Nat → Int32) : List Value := [.ref (q 0), .ref (q 1), .ref (q 2), .ref (q 3), .ref (q 4), .int (F 0), .int (F 1), .int (F 2), .ref (q 5), .ref (q 6), .int (F 3), .int (F 4), .ref (q 7), .ref (q 8), .int (F 5), .int (F 6)]
def sk_ws (h : Nat) (q : Nat → Nat) (cA : ClassId) (u : sk_T) : va_W := [(h, .inr (0, sk_fs q u.2)), (q 0, .inl (cA, 200, .inl (u.1 0))), (q 1, .inl (cA, 200, .inl (u.1 1))), (q 2, .inl (cA, 200, .inl (u.1 2))), (q 3, .inl (cA, 200, .inl (u.1 3))), (q 4, .inl (cA, 200, .inl (u.1 4))), (q 5, .inl (cA, 8, .inl (u.1 5))), (q 6, .inl (cA, 8, .inl (u.1 6))), (q 7, .inl (cA, 200, .inl (u.1 7))), (q 8, .inl (cA, 200, .inl (u.1 8)))]
def sk_H (D : va_G) (A : Nat → Prop) (H0 H : Heap) (locs : List Loc) (h : Nat) (q : Nat → Nat) (cA : ClassId) (u : sk_T) : Prop := va_P D classes (sk_ws h q cA u) H ∧ va_D A (sk_ws h q cA u) ∧ va_S A H0 H locs
def sk_X (p : Program) (m : MethodId) (c : Code) (cc : ByteArray) (nL : Nat) (s : State) (args : Array Value) (own : String) (D : va_G) (cA : ClassId) (A : Nat → Prop) : Prop := CallFix p m c cc nL s args lw_big own ∧ va_K D classes [(cA, .int)] s ∧ ∀ x, s.heap.size ≤ x → A x
def sk_Pre (D : va_G) (h : Nat) (q : Nat → Nat) (cA : ClassId) (u : sk_T) (sz : Nat) : State → Prop := fun U => U.heap.size = sz ∧ va_P D classes (sk_ws h q cA u) U.heap ∧ va_K D classes [(cA, .int)] U ∧ va_D (fun _ => True) (sk_ws h q cA u)
def sk_Pst (D : va_G) (h : Nat) (q : Nat → Nat) (cA : ClassId) (A : Nat → Prop) (u : sk_T) (t : State) : Prop := va_P D classes (sk_ws h q cA u) t.heap ∧ va_D A (sk_ws h q cA u)
abbrev sk_Qi (D : va_G) (h : Nat) (q : Nat → Nat) (cA : ClassId) (A : Nat → Prop) (r : Int32) (u : sk_T) : Array Value → State → Outcome → State → Prop := va_Qi (fun r1 u1 => r1 = r ∧ u1 = u) (sk_Pst D h q cA A) A
abbrev sk_Ql (D : va_G) (h : Nat) (q : Nat → Nat) (cA : ClassId) (A : Nat → Prop) (r : Int64) (u : sk_T) : Array Value → State → Outcome → State → Prop := va_Ql (fun r1 u1 => r1 = r ∧ u1 = u) (sk_Pst D h q cA A) A
abbrev sk_Qv (D : va_G) (h : Nat) (q : Nat → Nat) (cA : ClassId) (A : Nat → Prop) (u : sk_T) : Array Value → State → Outcome → State → Prop := va_Qv (fun u1 => u1 = u) (sk_Pst D h q cA A) A
abbrev sk_Mi (l : Launch) (y : MethodName) (ws : List Cond) (rm : Room) (D : va_G) (h : Nat) (q : Nat → Nat) (cA : ClassId) (av : List Value) (u : sk_T) (r : Int32) (u' : sk_T) : Prop := ∀ sz : Nat, Met l y ws rm (va_Pc av (sk_Pre D h q cA u sz)) (sk_Qi D h q cA (va_A (sk_ws h q cA u) sz) r u') 0 0 (va_A (sk_ws h q cA u) sz)
abbrev sk_Ml (l : Launch) (y : MethodName) (ws : List Cond) (rm : Room) (D : va_G) (h : Nat) (q : Nat → Nat) (cA : ClassId) (av : List Value) (u : sk_T) (r : Int64) (u' : sk_T) : Prop := ∀ sz : Nat, Met l y ws rm (va_Pc av (sk_Pre D h q cA u sz)) (sk_Ql D h q cA (va_A (sk_ws h q cA u) sz) r u') 0 0 (va_A (sk_ws h q cA u) sz)
abbrev sk_Mv (l : Launch) (y : MethodName) (ws : List Cond) (rm : Room) (D : va_G) (h : Nat) (q : Nat → Nat) (cA : ClassId) (av : List Value) (u : sk_T) (u' : sk_T) : Prop := ∀ sz : Nat, Met l y ws rm (va_Pc av (sk_Pre D h q cA u sz)) (sk_Qv D h q cA (va_A (sk_ws h q cA u) sz) u') 0 0 (va_A (sk_ws h q cA u) sz)
theorem sk_blind {D : va_G} {h : Nat} {q : Nat → Nat} {cA : ClassId} {u : sk_T} {sz : Nat} {av : List Value} : FrameBlind (va_Pc av (sk_Pre D h q cA u sz)) := by
  intro a U g mk hq
  obtain ⟨q0, q1, qP, qK, qD⟩ := hq
  exact ⟨q0, q1, qP, va_K.moved (u := U) (U := U.calling g mk a) (Vm.Alike.refl U.vm) qK, qD⟩
theorem sk_at {h : Nat} {q : Nat → Nat} {cA : ClassId} {u : sk_T} {k : Nat} (hk : k < 9) : (sk_ws h q cA u)[k + 1]? = some (q k, .inl (cA, sk_len k, .inl (u.1 k))) :=
  match k, hk with
  | 0, _ => rfl
  | 1, _ => rfl
  | 2, _ => rfl
  | 3, _ => rfl
  | 4, _ => rfl
  | 5, _ => rfl
  | 6, _ => rfl
  | 7, _ => rfl
  | 8, _ => rfl
theorem sk_upA {h : Nat} {q : Nat → Nat} {cA : ClassId} {u : sk_T} {k : Nat} (hk : k < 9) (g : Nat → Int32) : (sk_ws h q cA u).set (k + 1) (q k, .inl (cA, sk_len k, .inl g)) = sk_ws h q cA (va_up u.1 k g, u.2) :=
  match k, hk with
  | 0, _ => rfl
  | 1, _ => rfl
  | 2, _ => rfl
  | 3, _ => rfl
  | 4, _ => rfl
  | 5, _ => rfl
  | 6, _ => rfl
  | 7, _ => rfl
  | 8, _ => rfl
section SKR
variable {p : Program} {l : Launch} {e : Env} {R : Room} {s : State} {m : MethodId} {args : Array Value} {below : List Frame} {meth : Method} {c : Code} {H : Heap} {locs : List Loc} {cells slots : Nat} {Q : State → Prop}
variable {cc : ByteArray} {nL pc : Nat} {ls : Array Slot} {rest st : List Value} {D : va_G} {A : Nat → Prop} {h : Nat} {q : Nat → Nat} {cA : ClassId} {u u' : sk_T} {own : String}
theorem sk_gf (X : sk_X p m c cc nL s args R_SM D cA A) (hH : sk_H D A s.heap H locs h q cA u) (f idx : Nat) (hf : f < 16) (hlink : Cond.fieldLink R_SM idx (F_SM f).1 (F_SM f).2.1 (F_SM f).2.2.1 ∈ lw_big) {v : Value} (hv : (sk_fs q u.2)[f]? = some v) (hdg : decode cc pc = .ok (.getfield idx, 3))
    (kk : W p l e R s m args below meth c H locs cells slots Q (F0 m (pc + 3) ls (v :: rest))) : W p l e R s m args below meth c H locs cells slots Q (F0 m pc ls (.ref h :: rest)) :=
  va_get (D := D) (ci := 0) (C := R_SM) (T := F_SM) (N := 16) (ws := sk_ws h q cA u) (fs := sk_fs q u.2) X.1.1 X.1.2.1 X.1.2.2.2.2 i_SM X.1.2.2.2.1 X.2.1 hH.1 0 rfl rfl f hf (X.1.2.2.2.2 _ hlink) (fun _ h9 => h9) hv hdg kk
theorem sk_pf (X : sk_X p m c cc nL s args R_SM D cA A) (hH : sk_H D A s.heap H locs h q cA u) (f k idx : Nat) (hf : f < 16) (hlink : Cond.fieldLink R_SM idx (F_SM f).1 (F_SM f).2.1 (F_SM f).2.2.1 ∈ lw_big) (hfin : (F_SM f).2.2.2 = false) (hd : parseFieldDescriptor (F_SM f).2.2.1 = some .int) {v : Int32} (hset : (sk_fs q u.2).set f (.int v) = sk_fs q (upd u.2 k v)) (hdg : decode cc pc = .ok (.putfield idx, 3))
    (kk : ∀ (H1 : Heap) (locs1 : List Loc), sk_H D A s.heap H1 locs1 h q cA (sk_sF u k v) → W p l e R s m args below meth c H1 locs1 cells slots Q (F0 m (pc + 3) ls rest)) : W p l e R s m args below meth c H locs cells slots Q (F0 m pc ls (.int v :: .ref h :: rest)) := by
  have e0 : (sk_ws h q cA u).set 0 (h, .inr (0, (sk_fs q u.2).set f (.int v))) = sk_ws h q cA (sk_sF u k v) := by
    rw [hset]
    rfl
  refine va_put (D := D) (ci := 0) (v := .int v) (ty := .int) (C := R_SM) (T := F_SM) (N := 16) (ws := sk_ws h q cA u) (fs := sk_fs q u.2) X.1.1 X.1.2.1 X.1.2.2.2.2 i_SM t_SM t_SM_ok n_SM X.1.2.2.2.1 X.2.1 hH.1 hH.2.1 hH.2.2 0 rfl rfl f hf (X.1.2.2.2.2 _ hlink) (fun _ h9 => h9) hfin hd rfl rfl hf hdg (fun H1 locs1 hP hD hS => ?_)
  rw [e0] at hP hD
  exact kk H1 locs1 ⟨hP, hD, hS⟩
theorem sk_ld (X : sk_X p m c cc nL s args own D cA A) (hH : sk_H D A s.heap H locs h q cA u) (k : Nat) (hk : k < 9) {i x : Int32} (h1 : sk_rd u k i = some x) (hdg : decode cc pc = .ok (.iaload, 1))
    (kk : W p l e R s m args below meth c H locs cells slots Q (F0 m (pc + 1) ls (.int x :: rest))) : W p l e R s m args below meth c H locs cells slots Q (F0 m pc ls (.int i :: .ref (q k) :: rest)) := by
  unfold sk_rd at h1
  by_cases hi : i < 0 ∨ sk_len k ≤ i.toNatClampNeg
  · rw [if_pos hi] at h1
    cases h1
  · rw [if_neg hi] at h1
    cases h1
    exact va_iald X.1.1 X.1.2.1 X.2.1 hH.1 (k + 1) 0 (sk_at hk) rfl hi hdg kk
theorem sk_st (X : sk_X p m c cc nL s args own D cA A) (hH : sk_H D A s.heap H locs h q cA u) (k : Nat) (hk : k < 9) {i x : Int32} (h1 : sk_wr u k i x = some u') (hdg : decode cc pc = .ok (.iastore, 1))
    (kk : ∀ (H1 : Heap) (locs1 : List Loc), sk_H D A s.heap H1 locs1 h q cA u' → W p l e R s m args below meth c H1 locs1 cells slots Q (F0 m (pc + 1) ls rest)) : W p l e R s m args below meth c H locs cells slots Q (F0 m pc ls (.int x :: .int i :: .ref (q k) :: rest)) := by
  unfold sk_wr at h1
  by_cases hi : i < 0 ∨ sk_len k ≤ i.toNatClampNeg
  · rw [if_pos hi] at h1
    cases h1
  · rw [if_neg hi] at h1
    cases h1
    refine va_iast X.1.1 X.1.2.1 X.2.1 hH.1 hH.2.1 hH.2.2 (k + 1) 0 (sk_at hk) rfl hi hdg (fun H1 locs1 hP hD hS => ?_)
    rw [sk_upA hk] at hP hD
    exact kk H1 locs1 ⟨hP, hD, hS⟩
theorem sk_fr (X : sk_X p m c cc nL s args own D cA A) (hH : sk_H D A s.heap H locs h q cA u) : ∀ x, va_A (sk_ws h q cA u) H.size x → A x := by
  intro x hx
  rcases hx with ⟨k, e, hk⟩ | hx
  · exact hH.2.1.2 k (x, e) hk
  · exact X.2.2 x (Nat.le_trans hH.2.2.1 hx)
section SKC
variable {y : MethodName} {ws : List Cond} {rm : Room} {As : List Value} {idx maxL n : Nat} {bytes : ByteArray} {ret : Option FieldType}
theorem sk_calli (X : sk_X p m c cc nL s args R_SM D cA A) (hH : sk_H D A s.heap H locs h q cA u) {r : Int32} (hM : sk_Mi l y ws rm D h q cA (.ref h :: As) u r u') (cw : CallW R s args R_SM R_SM idx y bytes maxL ret ws rm 0 0 n) (hn : As.length = n) (hsz : ls.size = nL) (hst : st = As.reverse ++ .ref h :: rest) (hcat : (rest.map fun v => v.category).sum ≤ 8) (hdg : decode cc pc = .ok (.invokevirtual idx, 3)) (hcs : cells ≤ R.cells ∧ slots ≤ R.slots)
    (kk : ∀ (H1 : Heap) (locs1 : List Loc), sk_H D A s.heap H1 locs1 h q cA u' → W p l e R s m args below meth c H1 locs1 cells slots Q (F0 m (pc + 3) ls (.int r :: rest))) : W p l e R s m args below meth c H locs cells slots Q (F0 m pc ls st) := by
  have hF := sk_fr X hH
  subst hst
  refine va_calli (va_runV (As := As) (rest := rest) X.1 (hM H.size) cw ⟨sk_blind, va_recv X.2.1 hH.1 (ci := 0) (q0 := 0) rfl rfl, fun U hU hW => ⟨rfl, by rw [hU], by rw [hU]; exact hH.1, va_K.moved hW.alike X.2.1, hH.2.1.weaken (fun _ _ _ _ => trivial)⟩⟩ rfl hn hsz rfl (lv_room hcat) hdg hcs) hH.2.2 (fun x _ hx => hF x hx) hF (fun r1 u1 t H1 locs1 ht hvm hw hB hz1 hk1 hS1 => ?_)
  obtain ⟨rfl, rfl⟩ := hw
  exact kk H1 locs1 ⟨by rw [← ht]; exact hB.1, hB.2.weaken (fun k x _ hx => hF x.1 hx), hS1⟩
theorem sk_calll (X : sk_X p m c cc nL s args R_SM D cA A) (hH : sk_H D A s.heap H locs h q cA u) {r : Int64} (hM : sk_Ml l y ws rm D h q cA (.ref h :: As) u r u') (cw : CallW R s args R_SM R_SM idx y bytes maxL ret ws rm 0 0 n) (hn : As.length = n) (hsz : ls.size = nL) (hst : st = As.reverse ++ .ref h :: rest) (hcat : (rest.map fun v => v.category).sum ≤ 8) (hdg : decode cc pc = .ok (.invokevirtual idx, 3)) (hcs : cells ≤ R.cells ∧ slots ≤ R.slots)
    (kk : ∀ (H1 : Heap) (locs1 : List Loc), sk_H D A s.heap H1 locs1 h q cA u' → W p l e R s m args below meth c H1 locs1 cells slots Q (F0 m (pc + 3) ls (.long r :: rest))) : W p l e R s m args below meth c H locs cells slots Q (F0 m pc ls st) := by
  have hF := sk_fr X hH
  subst hst
  refine va_calll (va_runV (As := As) (rest := rest) X.1 (hM H.size) cw ⟨sk_blind, va_recv X.2.1 hH.1 (ci := 0) (q0 := 0) rfl rfl, fun U hU hW => ⟨rfl, by rw [hU], by rw [hU]; exact hH.1, va_K.moved hW.alike X.2.1, hH.2.1.weaken (fun _ _ _ _ => trivial)⟩⟩ rfl hn hsz rfl (lv_room hcat) hdg hcs) hH.2.2 (fun x _ hx => hF x hx) hF (fun r1 u1 t H1 locs1 ht hvm hw hB hz1 hk1 hS1 => ?_)
  obtain ⟨rfl, rfl⟩ := hw
  exact kk H1 locs1 ⟨by rw [← ht]; exact hB.1, hB.2.weaken (fun k x _ hx => hF x.1 hx), hS1⟩
theorem sk_callv (X : sk_X p m c cc nL s args R_SM D cA A) (hH : sk_H D A s.heap H locs h q cA u) (hM : sk_Mv l y ws rm D h q cA (.ref h :: As) u u') (cw : CallW R s args R_SM R_SM idx y bytes maxL ret ws rm 0 0 n) (hn : As.length = n) (hsz : ls.size = nL) (hst : st = As.reverse ++ .ref h :: rest) (hcat : (rest.map fun v => v.category).sum ≤ 8) (hdg : decode cc pc = .ok (.invokevirtual idx, 3)) (hcs : cells ≤ R.cells ∧ slots ≤ R.slots)
    (kk : ∀ (H1 : Heap) (locs1 : List Loc), sk_H D A s.heap H1 locs1 h q cA u' → W p l e R s m args below meth c H1 locs1 cells slots Q (F0 m (pc + 3) ls rest)) : W p l e R s m args below meth c H locs cells slots Q (F0 m pc ls st) := by
  have hF := sk_fr X hH
  subst hst
  refine va_callv (va_runV (As := As) (rest := rest) X.1 (hM H.size) cw ⟨sk_blind, va_recv X.2.1 hH.1 (ci := 0) (q0 := 0) rfl rfl, fun U hU hW => ⟨rfl, by rw [hU], by rw [hU]; exact hH.1, va_K.moved hW.alike X.2.1, hH.2.1.weaken (fun _ _ _ _ => trivial)⟩⟩ rfl hn hsz rfl (lv_room hcat) hdg hcs) hH.2.2 (fun x _ hx => hF x hx) hF (fun u1 t H1 locs1 ht hvm hw hB hz1 hk1 hS1 => ?_)
  obtain rfl := hw
  exact kk H1 locs1 ⟨by rw [← ht]; exact hB.1, hB.2.weaken (fun k x _ hx => hF x.1 hx), hS1⟩
theorem sk_calls (X : sk_X p m c cc nL s args own D cA A) (hH : sk_H D A s.heap H locs h q cA u) {r : Int32} (hM : sk_Mi l y ws rm D h q cA As u r u') (cw : CallB R s args own idx y bytes maxL ret ws rm 0 0 n ∧ (Cond.static y).before args s = true) (hn : As.length = n) (hsz : ls.size = nL) (hst : st = As.reverse ++ rest) (hcat : (rest.map fun v => v.category).sum ≤ 8) (hdg : decode cc pc = .ok (.invokestatic idx, 3)) (hcs : cells ≤ R.cells ∧ slots ≤ R.slots)
    (kk : ∀ (H1 : Heap) (locs1 : List Loc), sk_H D A s.heap H1 locs1 h q cA u' → W p l e R s m args below meth c H1 locs1 cells slots Q (F0 m (pc + 3) ls (.int r :: rest))) : W p l e R s m args below meth c H locs cells slots Q (F0 m pc ls st) := by
  have hF := sk_fr X hH
  subst hst
  refine va_calli (va_runS (As := As) (rest := rest) X.1 (hM H.size) cw ⟨sk_blind, fun U hU hW => ⟨rfl, by rw [hU], by rw [hU]; exact hH.1, va_K.moved hW.alike X.2.1, hH.2.1.weaken (fun _ _ _ _ => trivial)⟩⟩ rfl hn hsz rfl (lv_room hcat) hdg hcs) hH.2.2 (fun x _ hx => hF x hx) hF (fun r1 u1 t H1 locs1 ht hvm hw hB hz1 hk1 hS1 => ?_)
  obtain ⟨rfl, rfl⟩ := hw
  exact kk H1 locs1 ⟨by rw [← ht]; exact hB.1, hB.2.weaken (fun k x _ hx => hF x.1 hx), hS1⟩
end SKC
theorem sk_iret (X : sk_X p m c cc nL s args own D cA A) (hr : meth.sig.returnType = some .int) (hlk : meth.locks = false) (hH : sk_H D A s.heap H locs h q cA u) {v : Int32} (hdg : decode cc pc = .ok (.ireturn, 1)) : W p l e R s m args below meth c H locs 0 0 (MQ below (sk_Qi D h q cA A v u) args s 0 0 A) (F0 m pc ls [.int v]) :=
  W.iret (v := v) X.1.1 X.1.2.1 hr (fun t ht hW => ⟨⟨v, u, rfl, ⟨rfl, rfl⟩, by rw [ht]; exact hH.1, hH.2.1⟩, hH.2.2.F ht⟩) hH.2.2.2.2 hdg hlk
theorem sk_zret (X : sk_X p m c cc nL s args own D cA A) (hr : meth.sig.returnType = some .boolean) (hlk : meth.locks = false) (hH : sk_H D A s.heap H locs h q cA u) {v : Int32} (hv : narrow .boolean (.int v) = .int v) (hdg : decode cc pc = .ok (.ireturn, 1)) : W p l e R s m args below meth c H locs 0 0 (MQ below (sk_Qi D h q cA A v u) args s 0 0 A) (F0 m pc ls [.int v]) :=
  W.zret (v := v) X.1.1 X.1.2.1 hr hv (fun t ht hW => ⟨⟨v, u, rfl, ⟨rfl, rfl⟩, by rw [ht]; exact hH.1, hH.2.1⟩, hH.2.2.F ht⟩) hH.2.2.2.2 hdg hlk
theorem sk_lret (X : sk_X p m c cc nL s args own D cA A) (hr : meth.sig.returnType = some .long) (hlk : meth.locks = false) (hH : sk_H D A s.heap H locs h q cA u) {v : Int64} (hdg : decode cc pc = .ok (.lreturn, 1)) : W p l e R s m args below meth c H locs 0 0 (MQ below (sk_Ql D h q cA A v u) args s 0 0 A) (F0 m pc ls [.long v]) :=
  W.lret (v := v) X.1.1 X.1.2.1 hr (fun t ht hW => ⟨⟨v, u, rfl, ⟨rfl, rfl⟩, by rw [ht]; exact hH.1, hH.2.1⟩, hH.2.2.F ht⟩) hH.2.2.2.2 hdg hlk
theorem sk_vret (X : sk_X p m c cc nL s args own D cA A) (hr : meth.sig.returnType = none) (hlk : meth.locks = false) (hH : sk_H D A s.heap H locs h q cA u) (hdg : decode cc pc = .ok (.return_, 1)) : W p l e R s m args below meth c H locs 0 0 (MQ below (sk_Qv D h q cA A u) args s 0 0 A) (F0 m pc ls []) :=
  W.vret X.1.1 X.1.2.1 hr (fun t ht hW => ⟨⟨u, rfl, rfl, by rw [ht]; exact hH.1, hH.2.1⟩, hH.2.2.F ht⟩) hH.2.2.2.2 hdg hlk
end SKR
theorem sk_entry {l : Launch} {y : MethodName} {cc : ByteArray} {maxL : Nat} {ret : Option FieldType} {rm : Room} {D : va_G} {h : Nat} {q : Nat → Nat} {cA : ClassId} {u : sk_T} {av : List Value} {own : String} (Qc : (Nat → Prop) → Array Value → State → Outcome → State → Prop) (hy : plainName y.cls = true) (ho : y.cls = own) (hlen : (lg_sl av).length ≤ maxL)
    (body : ∀ (p : Program) (e : Env) (s : State) (m : MethodId) (below : List Frame) (meth : Method) (c : Code) (A : Nat → Prop) (ls : Array Slot), sk_X p m c cc maxL s av.toArray own D cA A → meth.sig.returnType = ret → meth.locks = false → sk_H D A s.heap s.heap [] h q cA u → lv_has ls maxL (lv_args 0 av) → W p l e rm s m av.toArray below meth c s.heap [] 0 0 (MQ below (Qc A) av.toArray s 0 0 A) (F0 m 0 ls [])) :
    ∀ sz : Nat, Met l y (.code y cc maxL ret :: lw_big) rm (va_Pc av (sk_Pre D h q cA u sz)) (Qc (va_A (sk_ws h q cA u) sz)) 0 0 (va_A (sk_ws h q cA u) sz) := by
  intro sz
  refine Met.ofW (cc := cc) (maxL := maxL) (ret := ret) hy rfl ?_
  intro p e s m args below meth c s₁ B hml hv
  obtain ⟨rfl, hsz, hP, hK, hD0⟩ := hv
  subst hsz
  subst ho
  have hts := atoms_spec (ws := .code y cc maxL ret :: lw_big) B.pre
  have hl := lv_entry av (n := maxL) hlen
  rw [lg_entry_eq]
  exact body p e s m below meth c _ _ ⟨⟨B.exec, B.bytes, hml, findClass_of_methodNamed B.named, fun w hw => hts w (List.mem_cons_of_mem _ hw)⟩, hK, fun x hx => Or.inr hx⟩ B.returns B.notSynchronized ⟨hP, hD0.self, va_S.rf⟩ hl
end
section
/-! printed by gen.py: walks of IN_numberOfLeadingZeros, SM_fewFor, SM_isHeap, SM_get, SM_set, SM_begin, SM_make, SM_release, SM_link, SM_skewLink, SM_insert -/
-- IN_numberOfLeadingZeros
def rm_IN_numberOfLeadingZeros : Room := { frames := 0, cells := 0, slots := 0, locals := 0 }
section V_IN_numberOfLeadingZeros
variable {p : Program} {l : Launch} {e : Env} {s : State} {m : MethodId} {args : Array Value} {below : List Frame} {meth : Method} {c : Code} {D : va_G} {A : Nat → Prop} {o : Nat} {q : Nat → Nat} {cA : ClassId} {Q : State → Prop}
set_option maxHeartbeats 4000000 in
set_option maxRecDepth 100000 in
theorem v_IN_numberOfLeadingZeros_73 (X : sk_X p m c b_IN_numberOfLeadingZeros 2 s args R_IN D cA A) (hr : meth.sig.returnType = (some .int)) (hlk : meth.locks = false) {u : sk_T} {i : Int32} {n : Int32} {z : Int32} (hf : sk_nlz5 i n = z) {H : Heap} {locs : List Loc} {ls : Array Slot} (hH : sk_H D A s.heap H locs o q cA u) (hl : lv_has ls 2 [(0, .int i), (1, .int n)]) : W p l e rm_IN_numberOfLeadingZeros s m args below meth c H locs 0 0 (MQ below (sk_Qi D o q cA A z u) args s 0 0 A) (F0 m 73 ls []) := by
  unfold sk_nlz5 at hf
  refine lv_iload_n X.1.1 X.1.2.1 d_IN_numberOfLeadingZeros_73 rfl (lv_at hl 1 rfl) ?_
  refine lv_iload_n X.1.1 X.1.2.1 d_IN_numberOfLeadingZeros_74 rfl (lv_at hl 0 rfl) ?_
  refine lv_iconst (v := 1) X.1.1 X.1.2.1 d_IN_numberOfLeadingZeros_75 (by decide) ?_
  refine lv_iushr (v := (sk_ushr i 1)) X.1.1 X.1.2.1 d_IN_numberOfLeadingZeros_76 rfl ?_
  refine lv_isub X.1.1 X.1.2.1 d_IN_numberOfLeadingZeros_77 ?_
  obtain rfl := hf
  exact sk_iret X hr hlk hH d_IN_numberOfLeadingZeros_78
set_option maxHeartbeats 4000000 in
set_option maxRecDepth 100000 in
theorem v_IN_numberOfLeadingZeros_61 (X : sk_X p m c b_IN_numberOfLeadingZeros 2 s args R_IN D cA A) (hr : meth.sig.returnType = (some .int)) (hlk : meth.locks = false) {u : sk_T} {i : Int32} {n : Int32} {z : Int32} (hf : sk_nlz4 i n = z) {H : Heap} {locs : List Loc} {ls : Array Slot} (hH : sk_H D A s.heap H locs o q cA u) (hl : lv_has ls 2 [(0, .int i), (1, .int n)]) : W p l e rm_IN_numberOfLeadingZeros s m args below meth c H locs 0 0 (MQ below (sk_Qi D o q cA A z u) args s 0 0 A) (F0 m 61 ls []) := by
  unfold sk_nlz4 at hf
  refine lv_iload_n X.1.1 X.1.2.1 d_IN_numberOfLeadingZeros_61 rfl (lv_at hl 0 rfl) ?_
  refine lv_iconst (v := 4) X.1.1 X.1.2.1 d_IN_numberOfLeadingZeros_62 (by decide) ?_
  refine lv_icmp_lt (tgt := 73) X.1.1 X.1.2.1 d_IN_numberOfLeadingZeros_63 (by decide) (fun c1 => ?_) (fun c1 => ?_)
  · replace hf := ip c1 hf
    exact v_IN_numberOfLeadingZeros_73 X hr hlk hf hH (lv_sub hl [0, 1] rfl)
  · replace hf := im c1 hf
    refine lv_iinc (v := (n + (-2))) (lv' := [(1, .int (n + (-2))), (0, .int i)]) X.1.1 X.1.2.1 d_IN_numberOfLeadingZeros_66 hl (k := 1) rfl (congrArg (fun w => n + w) (by decide)) (by decide) rfl (fun ls hl => ?_)
    refine lv_iload_n X.1.1 X.1.2.1 d_IN_numberOfLeadingZeros_69 rfl (lv_at hl 1 rfl) ?_
    refine lv_iconst (v := 2) X.1.1 X.1.2.1 d_IN_numberOfLeadingZeros_70 (by decide) ?_
    refine lv_iushr (v := (sk_ushr i 2)) X.1.1 X.1.2.1 d_IN_numberOfLeadingZeros_71 rfl ?_
    refine lv_istore_n (lv' := [(0, .int (sk_ushr i 2)), (1, .int (n + (-2)))]) X.1.1 X.1.2.1 d_IN_numberOfLeadingZeros_72 rfl hl (by decide) rfl (fun ls hl => ?_)
    exact v_IN_numberOfLeadingZeros_73 X hr hlk hf hH (lv_sub hl [0, 1] rfl)
set_option maxHeartbeats 4000000 in
set_option maxRecDepth 100000 in
theorem v_IN_numberOfLeadingZeros_48 (X : sk_X p m c b_IN_numberOfLeadingZeros 2 s args R_IN D cA A) (hr : meth.sig.returnType = (some .int)) (hlk : meth.locks = false) {u : sk_T} {i : Int32} {n : Int32} {z : Int32} (hf : sk_nlz3 i n = z) {H : Heap} {locs : List Loc} {ls : Array Slot} (hH : sk_H D A s.heap H locs o q cA u) (hl : lv_has ls 2 [(0, .int i), (1, .int n)]) : W p l e rm_IN_numberOfLeadingZeros s m args below meth c H locs 0 0 (MQ below (sk_Qi D o q cA A z u) args s 0 0 A) (F0 m 48 ls []) := by
  unfold sk_nlz3 at hf
  refine lv_iload_n X.1.1 X.1.2.1 d_IN_numberOfLeadingZeros_48 rfl (lv_at hl 0 rfl) ?_
  refine lv_bipush (v := 16) X.1.1 X.1.2.1 d_IN_numberOfLeadingZeros_49 (by decide) ?_
  refine lv_icmp_lt (tgt := 61) X.1.1 X.1.2.1 d_IN_numberOfLeadingZeros_51 (by decide) (fun c1 => ?_) (fun c1 => ?_)
  · replace hf := ip c1 hf
    exact v_IN_numberOfLeadingZeros_61 X hr hlk hf hH (lv_sub hl [0, 1] rfl)
  · replace hf := im c1 hf
    refine lv_iinc (v := (n + (-4))) (lv' := [(1, .int (n + (-4))), (0, .int i)]) X.1.1 X.1.2.1 d_IN_numberOfLeadingZeros_54 hl (k := 1) rfl (congrArg (fun w => n + w) (by decide)) (by decide) rfl (fun ls hl => ?_)
    refine lv_iload_n X.1.1 X.1.2.1 d_IN_numberOfLeadingZeros_57 rfl (lv_at hl 1 rfl) ?_
    refine lv_iconst (v := 4) X.1.1 X.1.2.1 d_IN_numberOfLeadingZeros_58 (by decide) ?_
    refine lv_iushr (v := (sk_ushr i 4)) X.1.1 X.1.2.1 d_IN_numberOfLeadingZeros_59 rfl ?_
    refine lv_istore_n (lv' := [(0, .int (sk_ushr i 4)), (1, .int (n + (-4)))]) X.1.1 X.1.2.1 d_IN_numberOfLeadingZeros_60 rfl hl (by decide) rfl (fun ls hl => ?_)
    exact v_IN_numberOfLeadingZeros_61 X hr hlk hf hH (lv_sub hl [0, 1] rfl)
set_option maxHeartbeats 4000000 in
set_option maxRecDepth 100000 in
theorem v_IN_numberOfLeadingZeros_33 (X : sk_X p m c b_IN_numberOfLeadingZeros 2 s args R_IN D cA A) (hr : meth.sig.returnType = (some .int)) (hlk : meth.locks = false) {u : sk_T} {i : Int32} {n : Int32} {z : Int32} (hf : sk_nlz2 i n = z) {H : Heap} {locs : List Loc} {ls : Array Slot} (hH : sk_H D A s.heap H locs o q cA u) (hl : lv_has ls 2 [(0, .int i), (1, .int n)]) : W p l e rm_IN_numberOfLeadingZeros s m args below meth c H locs 0 0 (MQ below (sk_Qi D o q cA A z u) args s 0 0 A) (F0 m 33 ls []) := by
  unfold sk_nlz2 at hf
  refine lv_iload_n X.1.1 X.1.2.1 d_IN_numberOfLeadingZeros_33 rfl (lv_at hl 0 rfl) ?_
  refine lv_sipush (v := 256) X.1.1 X.1.2.1 d_IN_numberOfLeadingZeros_34 (by decide) ?_
  refine lv_icmp_lt (tgt := 48) X.1.1 X.1.2.1 d_IN_numberOfLeadingZeros_37 (by decide) (fun c1 => ?_) (fun c1 => ?_)
  · replace hf := ip c1 hf
    exact v_IN_numberOfLeadingZeros_48 X hr hlk hf hH (lv_sub hl [0, 1] rfl)
  · replace hf := im c1 hf
    refine lv_iinc (v := (n + (-8))) (lv' := [(1, .int (n + (-8))), (0, .int i)]) X.1.1 X.1.2.1 d_IN_numberOfLeadingZeros_40 hl (k := 1) rfl (congrArg (fun w => n + w) (by decide)) (by decide) rfl (fun ls hl => ?_)
    refine lv_iload_n X.1.1 X.1.2.1 d_IN_numberOfLeadingZeros_43 rfl (lv_at hl 1 rfl) ?_
    refine lv_bipush (v := 8) X.1.1 X.1.2.1 d_IN_numberOfLeadingZeros_44 (by decide) ?_
    refine lv_iushr (v := (sk_ushr i 8)) X.1.1 X.1.2.1 d_IN_numberOfLeadingZeros_46 rfl ?_
    refine lv_istore_n (lv' := [(0, .int (sk_ushr i 8)), (1, .int (n + (-8)))]) X.1.1 X.1.2.1 d_IN_numberOfLeadingZeros_47 rfl hl (by decide) rfl (fun ls hl => ?_)
    exact v_IN_numberOfLeadingZeros_48 X hr hlk hf hH (lv_sub hl [0, 1] rfl)
set_option maxHeartbeats 4000000 in
set_option maxRecDepth 100000 in
theorem v_IN_numberOfLeadingZeros_18 (X : sk_X p m c b_IN_numberOfLeadingZeros 2 s args R_IN D cA A) (hr : meth.sig.returnType = (some .int)) (hlk : meth.locks = false) {u : sk_T} {i : Int32} {n : Int32} {z : Int32} (hf : sk_nlz1 i n = z) {H : Heap} {locs : List Loc} {ls : Array Slot} (hH : sk_H D A s.heap H locs o q cA u) (hl : lv_has ls 2 [(0, .int i), (1, .int n)]) : W p l e rm_IN_numberOfLeadingZeros s m args below meth c H locs 0 0 (MQ below (sk_Qi D o q cA A z u) args s 0 0 A) (F0 m 18 ls []) := by
  unfold sk_nlz1 at hf
  refine lv_iload_n X.1.1 X.1.2.1 d_IN_numberOfLeadingZeros_18 rfl (lv_at hl 0 rfl) ?_
  refine lv_ldcw (v := 65536) X.1.1 X.1.2.1 X.1.2.2.2.1 (X.1.2.2.2.2 _ mk_IN_264) d_IN_numberOfLeadingZeros_19 ?_
  refine lv_icmp_lt (tgt := 33) X.1.1 X.1.2.1 d_IN_numberOfLeadingZeros_22 (by decide) (fun c1 => ?_) (fun c1 => ?_)
  · replace hf := ip c1 hf
    exact v_IN_numberOfLeadingZeros_33 X hr hlk hf hH (lv_sub hl [0, 1] rfl)
  · replace hf := im c1 hf
    refine lv_iinc (v := (n + (-16))) (lv' := [(1, .int (n + (-16))), (0, .int i)]) X.1.1 X.1.2.1 d_IN_numberOfLeadingZeros_25 hl (k := 1) rfl (congrArg (fun w => n + w) (by decide)) (by decide) rfl (fun ls hl => ?_)
    refine lv_iload_n X.1.1 X.1.2.1 d_IN_numberOfLeadingZeros_28 rfl (lv_at hl 1 rfl) ?_
    refine lv_bipush (v := 16) X.1.1 X.1.2.1 d_IN_numberOfLeadingZeros_29 (by decide) ?_
    refine lv_iushr (v := (sk_ushr i 16)) X.1.1 X.1.2.1 d_IN_numberOfLeadingZeros_31 rfl ?_
    refine lv_istore_n (lv' := [(0, .int (sk_ushr i 16)), (1, .int (n + (-16)))]) X.1.1 X.1.2.1 d_IN_numberOfLeadingZeros_32 rfl hl (by decide) rfl (fun ls hl => ?_)
    exact v_IN_numberOfLeadingZeros_33 X hr hlk hf hH (lv_sub hl [0, 1] rfl)
set_option maxHeartbeats 4000000 in
set_option maxRecDepth 100000 in
theorem v_IN_numberOfLeadingZeros_0 (X : sk_X p m c b_IN_numberOfLeadingZeros 2 s args R_IN D cA A) (hr : meth.sig.returnType = (some .int)) (hlk : meth.locks = false) {u : sk_T} {i : Int32} {z : Int32} (hf : sk_nlz i = z) {H : Heap} {locs : List Loc} {ls : Array Slot} (hH : sk_H D A s.heap H locs o q cA u) (hl : lv_has ls 2 [(0, .int i)]) : W p l e rm_IN_numberOfLeadingZeros s m args below meth c H locs 0 0 (MQ below (sk_Qi D o q cA A z u) args s 0 0 A) (F0 m 0 ls []) := by
  unfold sk_nlz at hf
  refine lv_iload_n X.1.1 X.1.2.1 d_IN_numberOfLeadingZeros_0 rfl (lv_at hl 0 rfl) ?_
  refine lv_if_gt (tgt := 15) X.1.1 X.1.2.1 d_IN_numberOfLeadingZeros_1 (by decide) (fun c1 => ?_) (fun c1 => ?_)
  · replace hf := ip c1 hf
    refine lv_bipush (v := 31) X.1.1 X.1.2.1 d_IN_numberOfLeadingZeros_15 (by decide) ?_
    refine lv_istore_n (lv' := [(1, .int 31), (0, .int i)]) X.1.1 X.1.2.1 d_IN_numberOfLeadingZeros_17 rfl hl (by decide) rfl (fun ls hl => ?_)
    exact v_IN_numberOfLeadingZeros_18 X hr hlk hf hH (lv_sub hl [1, 0] rfl)
  · replace hf := im c1 hf
    refine lv_iload_n X.1.1 X.1.2.1 d_IN_numberOfLeadingZeros_4 rfl (lv_at hl 0 rfl) ?_
    refine lv_if_ne (tgt := 13) X.1.1 X.1.2.1 d_IN_numberOfLeadingZeros_5 (by decide) (fun c2 => ?_) (fun c2 => ?_)
    · replace hf := im c2 hf
      refine lv_iconst (v := 0) X.1.1 X.1.2.1 d_IN_numberOfLeadingZeros_13 (by decide) ?_
      obtain rfl := hf
      exact sk_iret X hr hlk hH d_IN_numberOfLeadingZeros_14
    · replace hf := ip c2 hf
      refine lv_bipush (v := 32) X.1.1 X.1.2.1 d_IN_numberOfLeadingZeros_8 (by decide) ?_
      refine lv_goto (tgt := 14) X.1.1 X.1.2.1 d_IN_numberOfLeadingZeros_10 (by decide) ?_
      obtain rfl := hf
      exact sk_iret X hr hlk hH d_IN_numberOfLeadingZeros_14
end V_IN_numberOfLeadingZeros
theorem c_IN_numberOfLeadingZeros {l : Launch} {D : va_G} {o : Nat} {q : Nat → Nat} {cA : ClassId} {u : sk_T} {i : Int32} : sk_Mi l y_IN_numberOfLeadingZeros w_IN_numberOfLeadingZeros rm_IN_numberOfLeadingZeros D o q cA [.int i] u (sk_nlz i) u :=
  sk_entry (own := R_IN) (fun A => sk_Qi D o q cA A (sk_nlz i) u) (by decide) rfl (Nat.le_of_ble_eq_true rfl) (fun p e s m below meth c A ls X hr hlk hH hl => v_IN_numberOfLeadingZeros_0 X hr hlk rfl hH hl)
theorem k_IN_numberOfLeadingZeros {R : Room} {s : State} {args : Array Value} (ht : ∀ w ∈ lw_big, w.before args s = true) (hR : rm_IN_numberOfLeadingZeros.frames + 1 ≤ R.frames ∧ 8 + (2 + 11) + rm_IN_numberOfLeadingZeros.locals ≤ R.locals) : CallB R s args R_SM 50 y_IN_numberOfLeadingZeros b_IN_numberOfLeadingZeros 2 (some .int) w_IN_numberOfLeadingZeros rm_IN_numberOfLeadingZeros 0 0 1 ∧ (Cond.static y_IN_numberOfLeadingZeros).before args s = true := va_cwS 1 ht g_SM_IN_numberOfLeadingZeros e_IN_numberOfLeadingZeros rfl rfl (by decide +kernel) hR
-- SM_fewFor
def rm_SM_fewFor : Room := { frames := 1, cells := 0, slots := 0, locals := 21 }
section V_SM_fewFor
variable {p : Program} {l : Launch} {e : Env} {s : State} {m : MethodId} {args : Array Value} {below : List Frame} {meth : Method} {c : Code} {D : va_G} {A : Nat → Prop} {o : Nat} {q : Nat → Nat} {cA : ClassId} {Q : State → Prop}
set_option maxHeartbeats 4000000 in
set_option maxRecDepth 100000 in
theorem v_SM_fewFor_0 (X : sk_X p m c b_SM_fewFor 1 s args R_SM D cA A) (hr : meth.sig.returnType = (some .int)) (hlk : meth.locks = false) {u : sk_T} {n : Int32} {z : Int32} (hf : sk_fewFor n = z) {H : Heap} {locs : List Loc} {ls : Array Slot} (hH : sk_H D A s.heap H locs o q cA u) (hl : lv_has ls 1 [(0, .int n)]) : W p l e rm_SM_fewFor s m args below meth c H locs 0 0 (MQ below (sk_Qi D o q cA A z u) args s 0 0 A) (F0 m 0 ls []) := by
  unfold sk_fewFor at hf
  refine lv_sipush (v := 200) X.1.1 X.1.2.1 d_SM_fewFor_0 (by decide) ?_
  refine lv_bipush (v := 33) X.1.1 X.1.2.1 d_SM_fewFor_3 (by decide) ?_
  refine lv_iload_n X.1.1 X.1.2.1 d_SM_fewFor_5 rfl (lv_at hl 0 rfl) ?_
  refine lv_iconst (v := 1) X.1.1 X.1.2.1 d_SM_fewFor_6 (by decide) ?_
  refine lv_iadd X.1.1 X.1.2.1 d_SM_fewFor_7 ?_
  refine sk_calls X hH (As := [.int (n + 1)]) (rest := [.int 33, .int 200]) (c_IN_numberOfLeadingZeros) (k_IN_numberOfLeadingZeros X.1.2.2.2.2 ⟨(Nat.le_of_ble_eq_true rfl), (Nat.le_of_ble_eq_true rfl)⟩) rfl hl.1 rfl (Nat.le_of_ble_eq_true rfl) d_SM_fewFor_8 ⟨Nat.zero_le _, Nat.zero_le _⟩ (fun H locs hH => ?_)
  refine lv_isub X.1.1 X.1.2.1 d_SM_fewFor_11 ?_
  refine lv_imul X.1.1 X.1.2.1 d_SM_fewFor_12 ?_
  obtain rfl := hf
  exact sk_iret X hr hlk hH d_SM_fewFor_13
end V_SM_fewFor
theorem c_SM_fewFor {l : Launch} {D : va_G} {o : Nat} {q : Nat → Nat} {cA : ClassId} {u : sk_T} {n : Int32} : sk_Mi l y_SM_fewFor w_SM_fewFor rm_SM_fewFor D o q cA [.int n] u (sk_fewFor n) u :=
  sk_entry (own := R_SM) (fun A => sk_Qi D o q cA A (sk_fewFor n) u) (by decide) rfl (Nat.le_of_ble_eq_true rfl) (fun p e s m below meth c A ls X hr hlk hH hl => v_SM_fewFor_0 X hr hlk rfl hH hl)
theorem k_SM_fewFor {R : Room} {s : State} {args : Array Value} (ht : ∀ w ∈ lw_big, w.before args s = true) (hR : rm_SM_fewFor.frames + 1 ≤ R.frames ∧ 8 + (1 + 11) + rm_SM_fewFor.locals ≤ R.locals) : CallB R s args R_SM 93 y_SM_fewFor b_SM_fewFor 1 (some .int) w_SM_fewFor rm_SM_fewFor 0 0 1 ∧ (Cond.static y_SM_fewFor).before args s = true := va_cwS 1 ht g_SM_SM_fewFor e_SM_fewFor rfl rfl (by decide +kernel) hR
-- SM_isHeap
def rm_SM_isHeap : Room := { frames := 0, cells := 0, slots := 0, locals := 0 }
section V_SM_isHeap
variable {p : Program} {l : Launch} {e : Env} {s : State} {m : MethodId} {args : Array Value} {below : List Frame} {meth : Method} {c : Code} {D : va_G} {A : Nat → Prop} {o : Nat} {q : Nat → Nat} {cA : ClassId} {Q : State → Prop}
set_option maxHeartbeats 4000000 in
set_option maxRecDepth 100000 in
theorem v_SM_isHeap_0 (X : sk_X p m c b_SM_isHeap 2 s args R_SM D cA A) (hr : meth.sig.returnType = (some .boolean)) (hlk : meth.locks = false) {u : sk_T} {x : Int32} {z : Int32} (hf : sk_isHeap u x = z) {H : Heap} {locs : List Loc} {ls : Array Slot} (hH : sk_H D A s.heap H locs o q cA u) (hl : lv_has ls 2 [(0, .ref o), (1, .int x)]) : W p l e rm_SM_isHeap s m args below meth c H locs 0 0 (MQ below (sk_Qi D o q cA A z u) args s 0 0 A) (F0 m 0 ls []) := by
  unfold sk_isHeap at hf
  refine lv_iload_n X.1.1 X.1.2.1 d_SM_isHeap_0 rfl (lv_at hl 1 rfl) ?_
  refine lv_if_lt (tgt := 16) X.1.1 X.1.2.1 d_SM_isHeap_1 (by decide) (fun c1 => ?_) (fun c1 => ?_)
  · replace hf := ip c1 hf
    refine lv_iconst (v := 0) X.1.1 X.1.2.1 d_SM_isHeap_16 (by decide) ?_
    obtain rfl := hf
    exact sk_zret X hr hlk hH rfl d_SM_isHeap_17
  · replace hf := im c1 hf
    refine lv_iload_n X.1.1 X.1.2.1 d_SM_isHeap_4 rfl (lv_at hl 1 rfl) ?_
    refine lv_aload_n X.1.1 X.1.2.1 d_SM_isHeap_5 rfl (lv_at hl 0 rfl) ?_
    refine sk_gf X hH 7 41 (by decide) mf_SM_41 (v := .int (u.2 2)) rfl d_SM_isHeap_6 ?_
    refine lv_icmp_ge (tgt := 16) X.1.1 X.1.2.1 d_SM_isHeap_9 (by decide) (fun c2 => ?_) (fun c2 => ?_)
    · replace hf := ip c2 hf
      refine lv_iconst (v := 0) X.1.1 X.1.2.1 d_SM_isHeap_16 (by decide) ?_
      obtain rfl := hf
      exact sk_zret X hr hlk hH rfl d_SM_isHeap_17
    · replace hf := im c2 hf
      refine lv_iconst (v := 1) X.1.1 X.1.2.1 d_SM_isHeap_12 (by decide) ?_
      refine lv_goto (tgt := 17) X.1.1 X.1.2.1 d_SM_isHeap_13 (by decide) ?_
      obtain rfl := hf
      exact sk_zret X hr hlk hH rfl d_SM_isHeap_17
end V_SM_isHeap
theorem c_SM_isHeap {l : Launch} {D : va_G} {o : Nat} {q : Nat → Nat} {cA : ClassId} {u : sk_T} {x : Int32} : sk_Mi l y_SM_isHeap w_SM_isHeap rm_SM_isHeap D o q cA [.ref o, .int x] u (sk_isHeap u x) u :=
  sk_entry (own := R_SM) (fun A => sk_Qi D o q cA A (sk_isHeap u x) u) (by decide) rfl (Nat.le_of_ble_eq_true rfl) (fun p e s m below meth c A ls X hr hlk hH hl => v_SM_isHeap_0 X hr hlk rfl hH hl)
theorem k_SM_isHeap {R : Room} {s : State} {args : Array Value} (ht : ∀ w ∈ lw_big, w.before args s = true) (hR : rm_SM_isHeap.frames + 1 ≤ R.frames ∧ 8 + (2 + 11) + rm_SM_isHeap.locals ≤ R.locals) : CallW R s args R_SM R_SM 83 y_SM_isHeap b_SM_isHeap 2 (some .boolean) w_SM_isHeap rm_SM_isHeap 0 0 1 := cwV 1 ht g_SM_SM_isHeap e_SM_isHeap rfl rfl (by decide +kernel) hR
-- SM_get
def rm_SM_get : Room := { frames := 0, cells := 0, slots := 0, locals := 0 }
section V_SM_get
variable {p : Program} {l : Launch} {e : Env} {s : State} {m : MethodId} {args : Array Value} {below : List Frame} {meth : Method} {c : Code} {D : va_G} {A : Nat → Prop} {o : Nat} {q : Nat → Nat} {cA : ClassId} {Q : State → Prop}
set_option maxHeartbeats 4000000 in
set_option maxRecDepth 100000 in
theorem v_SM_get_0 (X : sk_X p m c b_SM_get 3 s args R_SM D cA A) (hr : meth.sig.returnType = (some .int)) (hlk : meth.locks = false) {u : sk_T} {i : Int32} {k : Nat} (hk : k < 9) {z : Int32 × sk_T} (hf : sk_get u k i = some z) {H : Heap} {locs : List Loc} {ls : Array Slot} (hH : sk_H D A s.heap H locs o q cA u) (hl : lv_has ls 3 [(0, .ref o), (1, .ref (q k)), (2, .int i)]) : W p l e rm_SM_get s m args below meth c H locs 0 0 (MQ below (sk_Qi D o q cA A z.1 z.2) args s 0 0 A) (F0 m 0 ls []) := by
  unfold sk_get at hf
  refine lv_aload_n X.1.1 X.1.2.1 d_SM_get_0 rfl (lv_at hl 0 rfl) ?_
  refine lv_dup X.1.1 X.1.2.1 d_SM_get_1 rfl ?_
  refine sk_gf X hH 10 44 (by decide) mf_SM_44 (v := .int (u.2 3)) rfl d_SM_get_2 ?_
  refine lv_iconst (v := 1) X.1.1 X.1.2.1 d_SM_get_5 (by decide) ?_
  refine lv_iadd X.1.1 X.1.2.1 d_SM_get_6 ?_
  refine sk_pf X hH 10 3 44 (by decide) mf_SM_44 rfl (by decide +kernel) rfl d_SM_get_7 (fun H locs hH => ?_)
  refine lv_aload_n X.1.1 X.1.2.1 d_SM_get_10 rfl (lv_at hl 1 rfl) ?_
  refine lv_iload_n X.1.1 X.1.2.1 d_SM_get_11 rfl (lv_at hl 2 rfl) ?_
  obtain ⟨x1, h2, hf⟩ := ob hf
  refine sk_ld X hH k hk h2 d_SM_get_12 ?_
  obtain rfl := Option.some.inj hf
  exact sk_iret X hr hlk hH d_SM_get_13
end V_SM_get
theorem c_SM_get {l : Launch} {D : va_G} {o : Nat} {q : Nat → Nat} {cA : ClassId} {u : sk_T} {i : Int32} (k : Nat) (hk : k < 9) {z : Int32 × sk_T} (hf : sk_get u k i = some z) : sk_Mi l y_SM_get w_SM_get rm_SM_get D o q cA [.ref o, .ref (q k), .int i] u z.1 z.2 :=
  sk_entry (own := R_SM) (fun A => sk_Qi D o q cA A z.1 z.2) (by decide) rfl (Nat.le_of_ble_eq_true rfl) (fun p e s m below meth c A ls X hr hlk hH hl => v_SM_get_0 X hr hlk hk hf hH hl)
theorem k_SM_get {R : Room} {s : State} {args : Array Value} (ht : ∀ w ∈ lw_big, w.before args s = true) (hR : rm_SM_get.frames + 1 ≤ R.frames ∧ 8 + (3 + 11) + rm_SM_get.locals ≤ R.locals) : CallW R s args R_SM R_SM 59 y_SM_get b_SM_get 3 (some .int) w_SM_get rm_SM_get 0 0 2 := cwV 2 ht g_SM_SM_get e_SM_get rfl rfl (by decide +kernel) hR
-- SM_set
def rm_SM_set : Room := { frames := 0, cells := 0, slots := 0, locals := 0 }
section V_SM_set
variable {p : Program} {l : Launch} {e : Env} {s : State} {m : MethodId} {args : Array Value} {below : List Frame} {meth : Method} {c : Code} {D : va_G} {A : Nat → Prop} {o : Nat} {q : Nat → Nat} {cA : ClassId} {Q : State → Prop}
set_option maxHeartbeats 4000000 in
set_option maxRecDepth 100000 in
theorem v_SM_set_0 (X : sk_X p m c b_SM_set 4 s args R_SM D cA A) (hr : meth.sig.returnType = none) (hlk : meth.locks = false) {u : sk_T} {i : Int32} {x : Int32} {k : Nat} (hk : k < 9) {z : sk_T} (hf : sk_set u k i x = some z) {H : Heap} {locs : List Loc} {ls : Array Slot} (hH : sk_H D A s.heap H locs o q cA u) (hl : lv_has ls 4 [(0, .ref o), (1, .ref (q k)), (2, .int i), (3, .int x)]) : W p l e rm_SM_set s m args below meth c H locs 0 0 (MQ below (sk_Qv D o q cA A z) args s 0 0 A) (F0 m 0 ls []) := by
  unfold sk_set at hf
  refine lv_aload_n X.1.1 X.1.2.1 d_SM_set_0 rfl (lv_at hl 0 rfl) ?_
  refine lv_dup X.1.1 X.1.2.1 d_SM_set_1 rfl ?_
  refine sk_gf X hH 10 44 (by decide) mf_SM_44 (v := .int (u.2 3)) rfl d_SM_set_2 ?_
  refine lv_iconst (v := 1) X.1.1 X.1.2.1 d_SM_set_5 (by decide) ?_
  refine lv_iadd X.1.1 X.1.2.1 d_SM_set_6 ?_
  refine sk_pf X hH 10 3 44 (by decide) mf_SM_44 rfl (by decide +kernel) rfl d_SM_set_7 (fun H locs hH => ?_)
  refine lv_aload_n X.1.1 X.1.2.1 d_SM_set_10 rfl (lv_at hl 1 rfl) ?_
  refine lv_iload_n X.1.1 X.1.2.1 d_SM_set_11 rfl (lv_at hl 2 rfl) ?_
  refine lv_iload_n X.1.1 X.1.2.1 d_SM_set_12 rfl (lv_at hl 3 rfl) ?_
  refine sk_st X hH k hk hf d_SM_set_13 (fun H locs hH => ?_)
  exact sk_vret X hr hlk hH d_SM_set_14
end V_SM_set
theorem c_SM_set {l : Launch} {D : va_G} {o : Nat} {q : Nat → Nat} {cA : ClassId} {u : sk_T} {i : Int32} {x : Int32} (k : Nat) (hk : k < 9) {z : sk_T} (hf : sk_set u k i x = some z) : sk_Mv l y_SM_set w_SM_set rm_SM_set D o q cA [.ref o, .ref (q k), .int i, .int x] u z :=
  sk_entry (own := R_SM) (fun A => sk_Qv D o q cA A z) (by decide) rfl (Nat.le_of_ble_eq_true rfl) (fun p e s m below meth c A ls X hr hlk hH hl => v_SM_set_0 X hr hlk hk hf hH hl)
theorem k_SM_set {R : Room} {s : State} {args : Array Value} (ht : ∀ w ∈ lw_big, w.before args s = true) (hR : rm_SM_set.frames + 1 ≤ R.frames ∧ 8 + (4 + 11) + rm_SM_set.locals ≤ R.locals) : CallW R s args R_SM R_SM 63 y_SM_set b_SM_set 4 none w_SM_set rm_SM_set 0 0 3 := cwV 3 ht g_SM_SM_set e_SM_set rfl rfl (by decide +kernel) hR
-- SM_begin
def rm_SM_begin : Room := { frames := 0, cells := 0, slots := 0, locals := 0 }
section V_SM_begin
variable {p : Program} {l : Launch} {e : Env} {s : State} {m : MethodId} {args : Array Value} {below : List Frame} {meth : Method} {c : Code} {D : va_G} {A : Nat → Prop} {o : Nat} {q : Nat → Nat} {cA : ClassId} {Q : State → Prop}
set_option maxHeartbeats 4000000 in
set_option maxRecDepth 100000 in
theorem v_SM_begin_0 (X : sk_X p m c b_SM_begin 2 s args R_SM D cA A) (hr : meth.sig.returnType = none) (hlk : meth.locks = false) {u : sk_T} {n : Int32} {z : sk_T} (hf : sk_begin u n = z) {H : Heap} {locs : List Loc} {ls : Array Slot} (hH : sk_H D A s.heap H locs o q cA u) (hl : lv_has ls 2 [(0, .ref o), (1, .int n)]) : W p l e rm_SM_begin s m args below meth c H locs 0 0 (MQ below (sk_Qv D o q cA A z) args s 0 0 A) (F0 m 0 ls []) := by
  unfold sk_begin at hf
  refine lv_aload_n X.1.1 X.1.2.1 d_SM_begin_0 rfl (lv_at hl 0 rfl) ?_
  refine lv_iconst (v := 0) X.1.1 X.1.2.1 d_SM_begin_1 (by decide) ?_
  refine sk_pf X hH 10 3 44 (by decide) mf_SM_44 rfl (by decide +kernel) rfl d_SM_begin_2 (fun H locs hH => ?_)
  refine lv_aload_n X.1.1 X.1.2.1 d_SM_begin_5 rfl (lv_at hl 0 rfl) ?_
  refine lv_iload_n X.1.1 X.1.2.1 d_SM_begin_6 rfl (lv_at hl 1 rfl) ?_
  refine sk_pf X hH 11 4 47 (by decide) mf_SM_47 rfl (by decide +kernel) rfl d_SM_begin_7 (fun H locs hH => ?_)
  obtain rfl := hf
  exact sk_vret X hr hlk hH d_SM_begin_10
end V_SM_begin
theorem c_SM_begin {l : Launch} {D : va_G} {o : Nat} {q : Nat → Nat} {cA : ClassId} {u : sk_T} {n : Int32} : sk_Mv l y_SM_begin w_SM_begin rm_SM_begin D o q cA [.ref o, .int n] u (sk_begin u n) :=
  sk_entry (own := R_SM) (fun A => sk_Qv D o q cA A (sk_begin u n)) (by decide) rfl (Nat.le_of_ble_eq_true rfl) (fun p e s m below meth c A ls X hr hlk hH hl => v_SM_begin_0 X hr hlk rfl hH hl)
theorem k_SM_begin {R : Room} {s : State} {args : Array Value} (ht : ∀ w ∈ lw_big, w.before args s = true) (hR : rm_SM_begin.frames + 1 ≤ R.frames ∧ 8 + (2 + 11) + rm_SM_begin.locals ≤ R.locals) : CallW R s args R_SM R_SM 79 y_SM_begin b_SM_begin 2 none w_SM_begin rm_SM_begin 0 0 1 := cwV 1 ht g_SM_SM_begin e_SM_begin rfl rfl (by decide +kernel) hR
-- SM_make
def rm_SM_make : Room := { frames := 1, cells := 0, slots := 0, locals := 23 }
section V_SM_make
variable {p : Program} {l : Launch} {e : Env} {s : State} {m : MethodId} {args : Array Value} {below : List Frame} {meth : Method} {c : Code} {D : va_G} {A : Nat → Prop} {o : Nat} {q : Nat → Nat} {cA : ClassId} {Q : State → Prop}
set_option maxHeartbeats 4000000 in
set_option maxRecDepth 100000 in
theorem v_SM_make_0 (X : sk_X p m c b_SM_make 3 s args R_SM D cA A) (hr : meth.sig.returnType = (some .int)) (hlk : meth.locks = false) {u : sk_T} {x : Int32} {z : Int32 × sk_T} (hf : sk_make u x = some z) {H : Heap} {locs : List Loc} {ls : Array Slot} (hH : sk_H D A s.heap H locs o q cA u) (hl : lv_has ls 3 [(0, .ref o), (1, .int x)]) : W p l e rm_SM_make s m args below meth c H locs 0 0 (MQ below (sk_Qi D o q cA A z.1 z.2) args s 0 0 A) (F0 m 0 ls []) := by
  unfold sk_make at hf
  refine lv_aload_n X.1.1 X.1.2.1 d_SM_make_0 rfl (lv_at hl 0 rfl) ?_
  refine sk_gf X hH 5 56 (by decide) mf_SM_56 (v := .int (u.2 0)) rfl d_SM_make_1 ?_
  refine lv_istore_n (lv' := [(2, .int (u.2 0)), (0, .ref o), (1, .int x)]) X.1.1 X.1.2.1 d_SM_make_4 rfl hl (by decide) rfl (fun ls hl => ?_)
  refine lv_aload_n X.1.1 X.1.2.1 d_SM_make_5 rfl (lv_at hl 1 rfl) ?_
  refine lv_aload_n X.1.1 X.1.2.1 d_SM_make_6 rfl (lv_at hl 1 rfl) ?_
  refine lv_aload_n X.1.1 X.1.2.1 d_SM_make_7 rfl (lv_at hl 1 rfl) ?_
  refine sk_gf X hH 3 19 (by decide) mf_SM_19 (v := .ref (q 3)) rfl d_SM_make_8 ?_
  refine lv_iload_n X.1.1 X.1.2.1 d_SM_make_11 rfl (lv_at hl 0 rfl) ?_
  obtain ⟨p1, h2, hf⟩ := ob hf
  refine sk_calli X hH (As := [.ref (q 3), .int (u.2 0)]) (rest := [.ref o]) (c_SM_get 3 (by decide) h2) (k_SM_get X.1.2.2.2.2 ⟨(Nat.le_of_ble_eq_true rfl), (Nat.le_of_ble_eq_true rfl)⟩) rfl hl.1 rfl (Nat.le_of_ble_eq_true rfl) d_SM_make_12 ⟨Nat.zero_le _, Nat.zero_le _⟩ (fun H locs hH => ?_)
  refine sk_pf X hH 5 0 56 (by decide) mf_SM_56 rfl (by decide +kernel) rfl d_SM_make_15 (fun H locs hH => ?_)
  refine lv_aload_n X.1.1 X.1.2.1 d_SM_make_18 rfl (lv_at hl 1 rfl) ?_
  refine lv_dup X.1.1 X.1.2.1 d_SM_make_19 rfl ?_
  refine sk_gf X hH 6 25 (by decide) mf_SM_25 (v := .int ((sk_sF p1.2 0 p1.1).2 1)) rfl d_SM_make_20 ?_
  refine lv_iconst (v := 1) X.1.1 X.1.2.1 d_SM_make_23 (by decide) ?_
  refine lv_isub X.1.1 X.1.2.1 d_SM_make_24 ?_
  refine sk_pf X hH 6 1 25 (by decide) mf_SM_25 rfl (by decide +kernel) rfl d_SM_make_25 (fun H locs hH => ?_)
  refine lv_aload_n X.1.1 X.1.2.1 d_SM_make_28 rfl (lv_at hl 1 rfl) ?_
  refine lv_aload_n X.1.1 X.1.2.1 d_SM_make_29 rfl (lv_at hl 1 rfl) ?_
  refine sk_gf X hH 0 7 (by decide) mf_SM_7 (v := .ref (q 0)) rfl d_SM_make_30 ?_
  refine lv_iload_n X.1.1 X.1.2.1 d_SM_make_33 rfl (lv_at hl 0 rfl) ?_
  refine lv_iload_n X.1.1 X.1.2.1 d_SM_make_34 rfl (lv_at hl 2 rfl) ?_
  obtain ⟨u3, h4, hf⟩ := ob hf
  refine sk_callv X hH (As := [.ref (q 0), .int (u.2 0), .int x]) (rest := []) (c_SM_set 0 (by decide) h4) (k_SM_set X.1.2.2.2.2 ⟨(Nat.le_of_ble_eq_true rfl), (Nat.le_of_ble_eq_true rfl)⟩) rfl hl.1 rfl (Nat.le_of_ble_eq_true rfl) d_SM_make_35 ⟨Nat.zero_le _, Nat.zero_le _⟩ (fun H locs hH => ?_)
  refine lv_aload_n X.1.1 X.1.2.1 d_SM_make_38 rfl (lv_at hl 1 rfl) ?_
  refine lv_aload_n X.1.1 X.1.2.1 d_SM_make_39 rfl (lv_at hl 1 rfl) ?_
  refine sk_gf X hH 1 13 (by decide) mf_SM_13 (v := .ref (q 1)) rfl d_SM_make_40 ?_
  refine lv_iload_n X.1.1 X.1.2.1 d_SM_make_43 rfl (lv_at hl 0 rfl) ?_
  refine lv_iconst (v := 0) X.1.1 X.1.2.1 d_SM_make_44 (by decide) ?_
  obtain ⟨u5, h6, hf⟩ := ob hf
  refine sk_callv X hH (As := [.ref (q 1), .int (u.2 0), .int 0]) (rest := []) (c_SM_set 1 (by decide) h6) (k_SM_set X.1.2.2.2.2 ⟨(Nat.le_of_ble_eq_true rfl), (Nat.le_of_ble_eq_true rfl)⟩) rfl hl.1 rfl (Nat.le_of_ble_eq_true rfl) d_SM_make_45 ⟨Nat.zero_le _, Nat.zero_le _⟩ (fun H locs hH => ?_)
  refine lv_aload_n X.1.1 X.1.2.1 d_SM_make_48 rfl (lv_at hl 1 rfl) ?_
  refine lv_aload_n X.1.1 X.1.2.1 d_SM_make_49 rfl (lv_at hl 1 rfl) ?_
  refine sk_gf X hH 2 16 (by decide) mf_SM_16 (v := .ref (q 2)) rfl d_SM_make_50 ?_
  refine lv_iload_n X.1.1 X.1.2.1 d_SM_make_53 rfl (lv_at hl 0 rfl) ?_
  refine lv_iconst (v := (-1)) X.1.1 X.1.2.1 d_SM_make_54 (by decide) ?_
  obtain ⟨u7, h8, hf⟩ := ob hf
  refine sk_callv X hH (As := [.ref (q 2), .int (u.2 0), .int (-1)]) (rest := []) (c_SM_set 2 (by decide) h8) (k_SM_set X.1.2.2.2.2 ⟨(Nat.le_of_ble_eq_true rfl), (Nat.le_of_ble_eq_true rfl)⟩) rfl hl.1 rfl (Nat.le_of_ble_eq_true rfl) d_SM_make_55 ⟨Nat.zero_le _, Nat.zero_le _⟩ (fun H locs hH => ?_)
  refine lv_aload_n X.1.1 X.1.2.1 d_SM_make_58 rfl (lv_at hl 1 rfl) ?_
  refine lv_aload_n X.1.1 X.1.2.1 d_SM_make_59 rfl (lv_at hl 1 rfl) ?_
  refine sk_gf X hH 4 22 (by decide) mf_SM_22 (v := .ref (q 4)) rfl d_SM_make_60 ?_
  refine lv_iload_n X.1.1 X.1.2.1 d_SM_make_63 rfl (lv_at hl 0 rfl) ?_
  refine lv_iconst (v := (-1)) X.1.1 X.1.2.1 d_SM_make_64 (by decide) ?_
  obtain ⟨u9, h10, hf⟩ := ob hf
  refine sk_callv X hH (As := [.ref (q 4), .int (u.2 0), .int (-1)]) (rest := []) (c_SM_set 4 (by decide) h10) (k_SM_set X.1.2.2.2.2 ⟨(Nat.le_of_ble_eq_true rfl), (Nat.le_of_ble_eq_true rfl)⟩) rfl hl.1 rfl (Nat.le_of_ble_eq_true rfl) d_SM_make_65 ⟨Nat.zero_le _, Nat.zero_le _⟩ (fun H locs hH => ?_)
  refine lv_iload_n X.1.1 X.1.2.1 d_SM_make_68 rfl (lv_at hl 0 rfl) ?_
  obtain rfl := Option.some.inj hf
  exact sk_iret X hr hlk hH d_SM_make_69
end V_SM_make
theorem c_SM_make {l : Launch} {D : va_G} {o : Nat} {q : Nat → Nat} {cA : ClassId} {u : sk_T} {x : Int32} {z : Int32 × sk_T} (hf : sk_make u x = some z) : sk_Mi l y_SM_make w_SM_make rm_SM_make D o q cA [.ref o, .int x] u z.1 z.2 :=
  sk_entry (own := R_SM) (fun A => sk_Qi D o q cA A z.1 z.2) (by decide) rfl (Nat.le_of_ble_eq_true rfl) (fun p e s m below meth c A ls X hr hlk hH hl => v_SM_make_0 X hr hlk hf hH hl)
theorem k_SM_make {R : Room} {s : State} {args : Array Value} (ht : ∀ w ∈ lw_big, w.before args s = true) (hR : rm_SM_make.frames + 1 ≤ R.frames ∧ 8 + (3 + 11) + rm_SM_make.locals ≤ R.locals) : CallW R s args R_SM R_SM 87 y_SM_make b_SM_make 3 (some .int) w_SM_make rm_SM_make 0 0 1 := cwV 1 ht g_SM_SM_make e_SM_make rfl rfl (by decide +kernel) hR
-- SM_release
def rm_SM_release : Room := { frames := 1, cells := 0, slots := 0, locals := 23 }
section V_SM_release
variable {p : Program} {l : Launch} {e : Env} {s : State} {m : MethodId} {args : Array Value} {below : List Frame} {meth : Method} {c : Code} {D : va_G} {A : Nat → Prop} {o : Nat} {q : Nat → Nat} {cA : ClassId} {Q : State → Prop}
set_option maxHeartbeats 4000000 in
set_option maxRecDepth 100000 in
theorem v_SM_release_0 (X : sk_X p m c b_SM_release 2 s args R_SM D cA A) (hr : meth.sig.returnType = none) (hlk : meth.locks = false) {u : sk_T} {x : Int32} {z : sk_T} (hf : sk_release u x = some z) {H : Heap} {locs : List Loc} {ls : Array Slot} (hH : sk_H D A s.heap H locs o q cA u) (hl : lv_has ls 2 [(0, .ref o), (1, .int x)]) : W p l e rm_SM_release s m args below meth c H locs 0 0 (MQ below (sk_Qv D o q cA A z) args s 0 0 A) (F0 m 0 ls []) := by
  unfold sk_release at hf
  refine lv_aload_n X.1.1 X.1.2.1 d_SM_release_0 rfl (lv_at hl 0 rfl) ?_
  refine lv_aload_n X.1.1 X.1.2.1 d_SM_release_1 rfl (lv_at hl 0 rfl) ?_
  refine sk_gf X hH 3 19 (by decide) mf_SM_19 (v := .ref (q 3)) rfl d_SM_release_2 ?_
  refine lv_iload_n X.1.1 X.1.2.1 d_SM_release_5 rfl (lv_at hl 1 rfl) ?_
  refine lv_aload_n X.1.1 X.1.2.1 d_SM_release_6 rfl (lv_at hl 0 rfl) ?_
  refine sk_gf X hH 5 56 (by decide) mf_SM_56 (v := .int (u.2 0)) rfl d_SM_release_7 ?_
  obtain ⟨u1, h2, hf⟩ := ob hf
  refine sk_callv X hH (As := [.ref (q 3), .int x, .int (u.2 0)]) (rest := []) (c_SM_set 3 (by decide) h2) (k_SM_set X.1.2.2.2.2 ⟨(Nat.le_of_ble_eq_true rfl), (Nat.le_of_ble_eq_true rfl)⟩) rfl hl.1 rfl (Nat.le_of_ble_eq_true rfl) d_SM_release_10 ⟨Nat.zero_le _, Nat.zero_le _⟩ (fun H locs hH => ?_)
  refine lv_aload_n X.1.1 X.1.2.1 d_SM_release_13 rfl (lv_at hl 0 rfl) ?_
  refine lv_iload_n X.1.1 X.1.2.1 d_SM_release_14 rfl (lv_at hl 1 rfl) ?_
  refine sk_pf X hH 5 0 56 (by decide) mf_SM_56 rfl (by decide +kernel) rfl d_SM_release_15 (fun H locs hH => ?_)
  refine lv_aload_n X.1.1 X.1.2.1 d_SM_release_18 rfl (lv_at hl 0 rfl) ?_
  refine lv_dup X.1.1 X.1.2.1 d_SM_release_19 rfl ?_
  refine sk_gf X hH 6 25 (by decide) mf_SM_25 (v := .int ((sk_sF u1 0 x).2 1)) rfl d_SM_release_20 ?_
  refine lv_iconst (v := 1) X.1.1 X.1.2.1 d_SM_release_23 (by decide) ?_
  refine lv_iadd X.1.1 X.1.2.1 d_SM_release_24 ?_
  refine sk_pf X hH 6 1 25 (by decide) mf_SM_25 rfl (by decide +kernel) rfl d_SM_release_25 (fun H locs hH => ?_)
  obtain rfl := Option.some.inj hf
  exact sk_vret X hr hlk hH d_SM_release_28
end V_SM_release
theorem c_SM_release {l : Launch} {D : va_G} {o : Nat} {q : Nat → Nat} {cA : ClassId} {u : sk_T} {x : Int32} {z : sk_T} (hf : sk_release u x = some z) : sk_Mv l y_SM_release w_SM_release rm_SM_release D o q cA [.ref o, .int x] u z :=
  sk_entry (own := R_SM) (fun A => sk_Qv D o q cA A z) (by decide) rfl (Nat.le_of_ble_eq_true rfl) (fun p e s m below meth c A ls X hr hlk hH hl => v_SM_release_0 X hr hlk hf hH hl)
theorem k_SM_release {R : Room} {s : State} {args : Array Value} (ht : ∀ w ∈ lw_big, w.before args s = true) (hR : rm_SM_release.frames + 1 ≤ R.frames ∧ 8 + (2 + 11) + rm_SM_release.locals ≤ R.locals) : CallW R s args R_SM R_SM 116 y_SM_release b_SM_release 2 none w_SM_release rm_SM_release 0 0 1 := cwV 1 ht g_SM_SM_release e_SM_release rfl rfl (by decide +kernel) hR
-- SM_link
def rm_SM_link : Room := { frames := 1, cells := 0, slots := 0, locals := 23 }
section V_SM_link
variable {p : Program} {l : Launch} {e : Env} {s : State} {m : MethodId} {args : Array Value} {below : List Frame} {meth : Method} {c : Code} {D : va_G} {A : Nat → Prop} {o : Nat} {q : Nat → Nat} {cA : ClassId} {Q : State → Prop}
set_option maxHeartbeats 4000000 in
set_option maxRecDepth 100000 in
theorem v_SM_link_49 (X : sk_X p m c b_SM_link 6 s args R_SM D cA A) (hr : meth.sig.returnType = (some .int)) (hlk : meth.locks = false) {u : sk_T} {t : Int32} {b : Int32} {z : Int32 × sk_T} (hf : sk_link2 u t b = some z) {H : Heap} {locs : List Loc} {ls : Array Slot} (hH : sk_H D A s.heap H locs o q cA u) (hl : lv_has ls 6 [(0, .ref o), (4, .int t), (5, .int b)]) : W p l e rm_SM_link s m args below meth c H locs 0 0 (MQ below (sk_Qi D o q cA A z.1 z.2) args s 0 0 A) (F0 m 49 ls []) := by
  unfold sk_link2 at hf
  refine lv_aload_n X.1.1 X.1.2.1 d_SM_link_49 rfl (lv_at hl 0 rfl) ?_
  refine lv_aload_n X.1.1 X.1.2.1 d_SM_link_50 rfl (lv_at hl 0 rfl) ?_
  refine sk_gf X hH 3 19 (by decide) mf_SM_19 (v := .ref (q 3)) rfl d_SM_link_51 ?_
  refine lv_iload X.1.1 X.1.2.1 d_SM_link_54 (lv_at hl 2 rfl) ?_
  refine lv_aload_n X.1.1 X.1.2.1 d_SM_link_56 rfl (lv_at hl 0 rfl) ?_
  refine lv_aload_n X.1.1 X.1.2.1 d_SM_link_57 rfl (lv_at hl 0 rfl) ?_
  refine sk_gf X hH 2 16 (by decide) mf_SM_16 (v := .ref (q 2)) rfl d_SM_link_58 ?_
  refine lv_iload X.1.1 X.1.2.1 d_SM_link_61 (lv_at hl 1 rfl) ?_
  obtain ⟨p1, h2, hf⟩ := ob hf
  refine sk_calli X hH (As := [.ref (q 2), .int t]) (rest := [.int b, .ref (q 3), .ref o]) (c_SM_get 2 (by decide) h2) (k_SM_get X.1.2.2.2.2 ⟨(Nat.le_of_ble_eq_true rfl), (Nat.le_of_ble_eq_true rfl)⟩) rfl hl.1 rfl (Nat.le_of_ble_eq_true rfl) d_SM_link_63 ⟨Nat.zero_le _, Nat.zero_le _⟩ (fun H locs hH => ?_)
  obtain ⟨u3, h4, hf⟩ := ob hf
  refine sk_callv X hH (As := [.ref (q 3), .int b, .int p1.1]) (rest := []) (c_SM_set 3 (by decide) h4) (k_SM_set X.1.2.2.2.2 ⟨(Nat.le_of_ble_eq_true rfl), (Nat.le_of_ble_eq_true rfl)⟩) rfl hl.1 rfl (Nat.le_of_ble_eq_true rfl) d_SM_link_66 ⟨Nat.zero_le _, Nat.zero_le _⟩ (fun H locs hH => ?_)
  refine lv_aload_n X.1.1 X.1.2.1 d_SM_link_69 rfl (lv_at hl 0 rfl) ?_
  refine lv_aload_n X.1.1 X.1.2.1 d_SM_link_70 rfl (lv_at hl 0 rfl) ?_
  refine sk_gf X hH 2 16 (by decide) mf_SM_16 (v := .ref (q 2)) rfl d_SM_link_71 ?_
  refine lv_iload X.1.1 X.1.2.1 d_SM_link_74 (lv_at hl 1 rfl) ?_
  refine lv_iload X.1.1 X.1.2.1 d_SM_link_76 (lv_at hl 2 rfl) ?_
  obtain ⟨u5, h6, hf⟩ := ob hf
  refine sk_callv X hH (As := [.ref (q 2), .int t, .int b]) (rest := []) (c_SM_set 2 (by decide) h6) (k_SM_set X.1.2.2.2.2 ⟨(Nat.le_of_ble_eq_true rfl), (Nat.le_of_ble_eq_true rfl)⟩) rfl hl.1 rfl (Nat.le_of_ble_eq_true rfl) d_SM_link_78 ⟨Nat.zero_le _, Nat.zero_le _⟩ (fun H locs hH => ?_)
  refine lv_aload_n X.1.1 X.1.2.1 d_SM_link_81 rfl (lv_at hl 0 rfl) ?_
  refine lv_aload_n X.1.1 X.1.2.1 d_SM_link_82 rfl (lv_at hl 0 rfl) ?_
  refine sk_gf X hH 1 13 (by decide) mf_SM_13 (v := .ref (q 1)) rfl d_SM_link_83 ?_
  refine lv_iload X.1.1 X.1.2.1 d_SM_link_86 (lv_at hl 1 rfl) ?_
  refine lv_aload_n X.1.1 X.1.2.1 d_SM_link_88 rfl (lv_at hl 0 rfl) ?_
  refine lv_aload_n X.1.1 X.1.2.1 d_SM_link_89 rfl (lv_at hl 0 rfl) ?_
  refine sk_gf X hH 1 13 (by decide) mf_SM_13 (v := .ref (q 1)) rfl d_SM_link_90 ?_
  refine lv_iload X.1.1 X.1.2.1 d_SM_link_93 (lv_at hl 1 rfl) ?_
  obtain ⟨p7, h8, hf⟩ := ob hf
  refine sk_calli X hH (As := [.ref (q 1), .int t]) (rest := [.int t, .ref (q 1), .ref o]) (c_SM_get 1 (by decide) h8) (k_SM_get X.1.2.2.2.2 ⟨(Nat.le_of_ble_eq_true rfl), (Nat.le_of_ble_eq_true rfl)⟩) rfl hl.1 rfl (Nat.le_of_ble_eq_true rfl) d_SM_link_95 ⟨Nat.zero_le _, Nat.zero_le _⟩ (fun H locs hH => ?_)
  refine lv_iconst (v := 1) X.1.1 X.1.2.1 d_SM_link_98 (by decide) ?_
  refine lv_iadd X.1.1 X.1.2.1 d_SM_link_99 ?_
  obtain ⟨u9, h10, hf⟩ := ob hf
  refine sk_callv X hH (As := [.ref (q 1), .int t, .int (p7.1 + 1)]) (rest := []) (c_SM_set 1 (by decide) h10) (k_SM_set X.1.2.2.2.2 ⟨(Nat.le_of_ble_eq_true rfl), (Nat.le_of_ble_eq_true rfl)⟩) rfl hl.1 rfl (Nat.le_of_ble_eq_true rfl) d_SM_link_100 ⟨Nat.zero_le _, Nat.zero_le _⟩ (fun H locs hH => ?_)
  refine lv_iload X.1.1 X.1.2.1 d_SM_link_103 (lv_at hl 1 rfl) ?_
  obtain rfl := Option.some.inj hf
  exact sk_iret X hr hlk hH d_SM_link_105
set_option maxHeartbeats 4000000 in
set_option maxRecDepth 100000 in
theorem v_SM_link_0 (X : sk_X p m c b_SM_link 6 s args R_SM D cA A) (hr : meth.sig.returnType = (some .int)) (hlk : meth.locks = false) {u : sk_T} {a : Int32} {b : Int32} {z : Int32 × sk_T} (hf : sk_link u a b = some z) {H : Heap} {locs : List Loc} {ls : Array Slot} (hH : sk_H D A s.heap H locs o q cA u) (hl : lv_has ls 6 [(0, .ref o), (1, .int a), (2, .int b)]) : W p l e rm_SM_link s m args below meth c H locs 0 0 (MQ below (sk_Qi D o q cA A z.1 z.2) args s 0 0 A) (F0 m 0 ls []) := by
  unfold sk_link at hf
  refine lv_aload_n X.1.1 X.1.2.1 d_SM_link_0 rfl (lv_at hl 0 rfl) ?_
  refine lv_aload_n X.1.1 X.1.2.1 d_SM_link_1 rfl (lv_at hl 0 rfl) ?_
  refine sk_gf X hH 0 7 (by decide) mf_SM_7 (v := .ref (q 0)) rfl d_SM_link_2 ?_
  refine lv_iload_n X.1.1 X.1.2.1 d_SM_link_5 rfl (lv_at hl 2 rfl) ?_
  obtain ⟨p1, h2, hf⟩ := ob hf
  refine sk_calli X hH (As := [.ref (q 0), .int b]) (rest := []) (c_SM_get 0 (by decide) h2) (k_SM_get X.1.2.2.2.2 ⟨(Nat.le_of_ble_eq_true rfl), (Nat.le_of_ble_eq_true rfl)⟩) rfl hl.1 rfl (Nat.le_of_ble_eq_true rfl) d_SM_link_6 ⟨Nat.zero_le _, Nat.zero_le _⟩ (fun H locs hH => ?_)
  refine lv_aload_n X.1.1 X.1.2.1 d_SM_link_9 rfl (lv_at hl 0 rfl) ?_
  refine lv_aload_n X.1.1 X.1.2.1 d_SM_link_10 rfl (lv_at hl 0 rfl) ?_
  refine sk_gf X hH 0 7 (by decide) mf_SM_7 (v := .ref (q 0)) rfl d_SM_link_11 ?_
  refine lv_iload_n X.1.1 X.1.2.1 d_SM_link_14 rfl (lv_at hl 1 rfl) ?_
  obtain ⟨p3, h4, hf⟩ := ob hf
  refine sk_calli X hH (As := [.ref (q 0), .int a]) (rest := [.int p1.1]) (c_SM_get 0 (by decide) h4) (k_SM_get X.1.2.2.2.2 ⟨(Nat.le_of_ble_eq_true rfl), (Nat.le_of_ble_eq_true rfl)⟩) rfl hl.1 rfl (Nat.le_of_ble_eq_true rfl) d_SM_link_15 ⟨Nat.zero_le _, Nat.zero_le _⟩ (fun H locs hH => ?_)
  refine lv_icmp_ge (tgt := 25) X.1.1 X.1.2.1 d_SM_link_18 (by decide) (fun c5 => ?_) (fun c5 => ?_)
  · replace hf := ip c5 hf
    refine lv_iconst (v := 0) X.1.1 X.1.2.1 d_SM_link_25 (by decide) ?_
    refine lv_istore_n (lv' := [(3, .int 0), (0, .ref o), (1, .int a), (2, .int b)]) X.1.1 X.1.2.1 d_SM_link_26 rfl hl (by decide) rfl (fun ls hl => ?_)
    refine lv_iload_n X.1.1 X.1.2.1 d_SM_link_27 rfl (lv_at hl 0 rfl) ?_
    refine lv_if_eq (tgt := 35) X.1.1 X.1.2.1 d_SM_link_28 (by decide) (fun _ => ?_) (fun c6 => absurd c6 (by decide))
    refine lv_iload_n X.1.1 X.1.2.1 d_SM_link_35 rfl (lv_at hl 2 rfl) ?_
    refine lv_istore (lv' := [(4, .int a), (3, .int 0), (0, .ref o), (1, .int a), (2, .int b)]) X.1.1 X.1.2.1 d_SM_link_36 hl (by decide) rfl (fun ls hl => ?_)
    refine lv_iload_n X.1.1 X.1.2.1 d_SM_link_38 rfl (lv_at hl 1 rfl) ?_
    refine lv_if_eq (tgt := 46) X.1.1 X.1.2.1 d_SM_link_39 (by decide) (fun _ => ?_) (fun c7 => absurd c7 (by decide))
    refine lv_iload_n X.1.1 X.1.2.1 d_SM_link_46 rfl (lv_at hl 4 rfl) ?_
    refine lv_istore (lv' := [(5, .int b), (4, .int a), (3, .int 0), (0, .ref o), (1, .int a), (2, .int b)]) X.1.1 X.1.2.1 d_SM_link_47 hl (by decide) rfl (fun ls hl => ?_)
    exact v_SM_link_49 X hr hlk hf hH (lv_sub hl [3, 1, 0] rfl)
  · replace hf := im c5 hf
    refine lv_iconst (v := 1) X.1.1 X.1.2.1 d_SM_link_21 (by decide) ?_
    refine lv_goto (tgt := 26) X.1.1 X.1.2.1 d_SM_link_22 (by decide) ?_
    refine lv_istore_n (lv' := [(3, .int 1), (0, .ref o), (1, .int a), (2, .int b)]) X.1.1 X.1.2.1 d_SM_link_26 rfl hl (by decide) rfl (fun ls hl => ?_)
    refine lv_iload_n X.1.1 X.1.2.1 d_SM_link_27 rfl (lv_at hl 0 rfl) ?_
    refine lv_if_eq (tgt := 35) X.1.1 X.1.2.1 d_SM_link_28 (by decide) (fun c8 => absurd c8 (by decide)) (fun _ => ?_)
    refine lv_iload_n X.1.1 X.1.2.1 d_SM_link_31 rfl (lv_at hl 3 rfl) ?_
    refine lv_goto (tgt := 36) X.1.1 X.1.2.1 d_SM_link_32 (by decide) ?_
    refine lv_istore (lv' := [(4, .int b), (3, .int 1), (0, .ref o), (1, .int a), (2, .int b)]) X.1.1 X.1.2.1 d_SM_link_36 hl (by decide) rfl (fun ls hl => ?_)
    refine lv_iload_n X.1.1 X.1.2.1 d_SM_link_38 rfl (lv_at hl 1 rfl) ?_
    refine lv_if_eq (tgt := 46) X.1.1 X.1.2.1 d_SM_link_39 (by decide) (fun c9 => absurd c9 (by decide)) (fun _ => ?_)
    refine lv_iload_n X.1.1 X.1.2.1 d_SM_link_42 rfl (lv_at hl 3 rfl) ?_
    refine lv_goto (tgt := 47) X.1.1 X.1.2.1 d_SM_link_43 (by decide) ?_
    refine lv_istore (lv' := [(5, .int a), (4, .int b), (3, .int 1), (0, .ref o), (1, .int a), (2, .int b)]) X.1.1 X.1.2.1 d_SM_link_47 hl (by decide) rfl (fun ls hl => ?_)
    exact v_SM_link_49 X hr hlk hf hH (lv_sub hl [3, 1, 0] rfl)
end V_SM_link
theorem c_SM_link {l : Launch} {D : va_G} {o : Nat} {q : Nat → Nat} {cA : ClassId} {u : sk_T} {a : Int32} {b : Int32} {z : Int32 × sk_T} (hf : sk_link u a b = some z) : sk_Mi l y_SM_link w_SM_link rm_SM_link D o q cA [.ref o, .int a, .int b] u z.1 z.2 :=
  sk_entry (own := R_SM) (fun A => sk_Qi D o q cA A z.1 z.2) (by decide) rfl (Nat.le_of_ble_eq_true rfl) (fun p e s m below meth c A ls X hr hlk hH hl => v_SM_link_0 X hr hlk hf hH hl)
theorem k_SM_link {R : Room} {s : State} {args : Array Value} (ht : ∀ w ∈ lw_big, w.before args s = true) (hR : rm_SM_link.frames + 1 ≤ R.frames ∧ 8 + (6 + 11) + rm_SM_link.locals ≤ R.locals) : CallW R s args R_SM R_SM 67 y_SM_link b_SM_link 6 (some .int) w_SM_link rm_SM_link 0 0 2 := cwV 2 ht g_SM_SM_link e_SM_link rfl rfl (by decide +kernel) hR
-- SM_skewLink
def rm_SM_skewLink : Room := { frames := 2, cells := 0, slots := 0, locals := 48 }
section V_SM_skewLink
variable {p : Program} {l : Launch} {e : Env} {s : State} {m : MethodId} {args : Array Value} {below : List Frame} {meth : Method} {c : Code} {D : va_G} {A : Nat → Prop} {o : Nat} {q : Nat → Nat} {cA : ClassId} {Q : State → Prop}
set_option maxHeartbeats 4000000 in
set_option maxRecDepth 100000 in
theorem v_SM_skewLink_61 (X : sk_X p m c b_SM_skewLink 7 s args R_SM D cA A) (hr : meth.sig.returnType = (some .int)) (hlk : meth.locks = false) {u : sk_T} {y : Int32} {t : Int32} {z : Int32 × sk_T} (hf : sk_skew2 u y t = some z) {H : Heap} {locs : List Loc} {ls : Array Slot} (hH : sk_H D A s.heap H locs o q cA u) (hl : lv_has ls 7 [(0, .ref o), (1, .int y), (4, .int t)]) : W p l e rm_SM_skewLink s m args below meth c H locs 0 0 (MQ below (sk_Qi D o q cA A z.1 z.2) args s 0 0 A) (F0 m 61 ls []) := by
  unfold sk_skew2 at hf
  refine lv_aload_n X.1.1 X.1.2.1 d_SM_skewLink_61 rfl (lv_at hl 0 rfl) ?_
  refine lv_aload_n X.1.1 X.1.2.1 d_SM_skewLink_62 rfl (lv_at hl 0 rfl) ?_
  refine sk_gf X hH 3 19 (by decide) mf_SM_19 (v := .ref (q 3)) rfl d_SM_skewLink_63 ?_
  refine lv_iload_n X.1.1 X.1.2.1 d_SM_skewLink_66 rfl (lv_at hl 1 rfl) ?_
  refine lv_aload_n X.1.1 X.1.2.1 d_SM_skewLink_67 rfl (lv_at hl 0 rfl) ?_
  refine lv_aload_n X.1.1 X.1.2.1 d_SM_skewLink_68 rfl (lv_at hl 0 rfl) ?_
  refine sk_gf X hH 4 22 (by decide) mf_SM_22 (v := .ref (q 4)) rfl d_SM_skewLink_69 ?_
  refine lv_iload X.1.1 X.1.2.1 d_SM_skewLink_72 (lv_at hl 2 rfl) ?_
  obtain ⟨p1, h2, hf⟩ := ob hf
  refine sk_calli X hH (As := [.ref (q 4), .int t]) (rest := [.int y, .ref (q 3), .ref o]) (c_SM_get 4 (by decide) h2) (k_SM_get X.1.2.2.2.2 ⟨(Nat.le_of_ble_eq_true rfl), (Nat.le_of_ble_eq_true rfl)⟩) rfl hl.1 rfl (Nat.le_of_ble_eq_true rfl) d_SM_skewLink_74 ⟨Nat.zero_le _, Nat.zero_le _⟩ (fun H locs hH => ?_)
  obtain ⟨u3, h4, hf⟩ := ob hf
  refine sk_callv X hH (As := [.ref (q 3), .int y, .int p1.1]) (rest := []) (c_SM_set 3 (by decide) h4) (k_SM_set X.1.2.2.2.2 ⟨(Nat.le_of_ble_eq_true rfl), (Nat.le_of_ble_eq_true rfl)⟩) rfl hl.1 rfl (Nat.le_of_ble_eq_true rfl) d_SM_skewLink_77 ⟨Nat.zero_le _, Nat.zero_le _⟩ (fun H locs hH => ?_)
  refine lv_aload_n X.1.1 X.1.2.1 d_SM_skewLink_80 rfl (lv_at hl 0 rfl) ?_
  refine lv_aload_n X.1.1 X.1.2.1 d_SM_skewLink_81 rfl (lv_at hl 0 rfl) ?_
  refine sk_gf X hH 4 22 (by decide) mf_SM_22 (v := .ref (q 4)) rfl d_SM_skewLink_82 ?_
  refine lv_iload X.1.1 X.1.2.1 d_SM_skewLink_85 (lv_at hl 2 rfl) ?_
  refine lv_iload_n X.1.1 X.1.2.1 d_SM_skewLink_87 rfl (lv_at hl 1 rfl) ?_
  obtain ⟨u5, h6, hf⟩ := ob hf
  refine sk_callv X hH (As := [.ref (q 4), .int t, .int y]) (rest := []) (c_SM_set 4 (by decide) h6) (k_SM_set X.1.2.2.2.2 ⟨(Nat.le_of_ble_eq_true rfl), (Nat.le_of_ble_eq_true rfl)⟩) rfl hl.1 rfl (Nat.le_of_ble_eq_true rfl) d_SM_skewLink_88 ⟨Nat.zero_le _, Nat.zero_le _⟩ (fun H locs hH => ?_)
  refine lv_iload X.1.1 X.1.2.1 d_SM_skewLink_91 (lv_at hl 2 rfl) ?_
  obtain rfl := Option.some.inj hf
  exact sk_iret X hr hlk hH d_SM_skewLink_93
set_option maxHeartbeats 4000000 in
set_option maxRecDepth 100000 in
theorem v_SM_skewLink_0 (X : sk_X p m c b_SM_skewLink 7 s args R_SM D cA A) (hr : meth.sig.returnType = (some .int)) (hlk : meth.locks = false) {u : sk_T} {y : Int32} {a : Int32} {b : Int32} {z : Int32 × sk_T} (hf : sk_skewLink u y a b = some z) {H : Heap} {locs : List Loc} {ls : Array Slot} (hH : sk_H D A s.heap H locs o q cA u) (hl : lv_has ls 7 [(0, .ref o), (1, .int y), (2, .int a), (3, .int b)]) : W p l e rm_SM_skewLink s m args below meth c H locs 0 0 (MQ below (sk_Qi D o q cA A z.1 z.2) args s 0 0 A) (F0 m 0 ls []) := by
  unfold sk_skewLink at hf
  refine lv_aload_n X.1.1 X.1.2.1 d_SM_skewLink_0 rfl (lv_at hl 0 rfl) ?_
  refine lv_iload_n X.1.1 X.1.2.1 d_SM_skewLink_1 rfl (lv_at hl 2 rfl) ?_
  refine lv_iload_n X.1.1 X.1.2.1 d_SM_skewLink_2 rfl (lv_at hl 3 rfl) ?_
  obtain ⟨p1, h2, hf⟩ := ob hf
  refine sk_calli X hH (As := [.int a, .int b]) (rest := []) (c_SM_link h2) (k_SM_link X.1.2.2.2.2 ⟨(Nat.le_of_ble_eq_true rfl), (Nat.le_of_ble_eq_true rfl)⟩) rfl hl.1 rfl (Nat.le_of_ble_eq_true rfl) d_SM_skewLink_3 ⟨Nat.zero_le _, Nat.zero_le _⟩ (fun H locs hH => ?_)
  refine lv_istore (lv' := [(4, .int p1.1), (0, .ref o), (1, .int y), (2, .int a), (3, .int b)]) X.1.1 X.1.2.1 d_SM_skewLink_6 hl (by decide) rfl (fun ls hl => ?_)
  refine lv_aload_n X.1.1 X.1.2.1 d_SM_skewLink_8 rfl (lv_at hl 1 rfl) ?_
  refine lv_aload_n X.1.1 X.1.2.1 d_SM_skewLink_9 rfl (lv_at hl 1 rfl) ?_
  refine sk_gf X hH 0 7 (by decide) mf_SM_7 (v := .ref (q 0)) rfl d_SM_skewLink_10 ?_
  refine lv_iload X.1.1 X.1.2.1 d_SM_skewLink_13 (lv_at hl 0 rfl) ?_
  obtain ⟨p3, h4, hf⟩ := ob hf
  refine sk_calli X hH (As := [.ref (q 0), .int p1.1]) (rest := []) (c_SM_get 0 (by decide) h4) (k_SM_get X.1.2.2.2.2 ⟨(Nat.le_of_ble_eq_true rfl), (Nat.le_of_ble_eq_true rfl)⟩) rfl hl.1 rfl (Nat.le_of_ble_eq_true rfl) d_SM_skewLink_15 ⟨Nat.zero_le _, Nat.zero_le _⟩ (fun H locs hH => ?_)
  refine lv_istore (lv' := [(5, .int p3.1), (4, .int p1.1), (0, .ref o), (1, .int y), (2, .int a), (3, .int b)]) X.1.1 X.1.2.1 d_SM_skewLink_18 hl (by decide) rfl (fun ls hl => ?_)
  refine lv_aload_n X.1.1 X.1.2.1 d_SM_skewLink_20 rfl (lv_at hl 2 rfl) ?_
  refine lv_aload_n X.1.1 X.1.2.1 d_SM_skewLink_21 rfl (lv_at hl 2 rfl) ?_
  refine sk_gf X hH 0 7 (by decide) mf_SM_7 (v := .ref (q 0)) rfl d_SM_skewLink_22 ?_
  refine lv_iload_n X.1.1 X.1.2.1 d_SM_skewLink_25 rfl (lv_at hl 3 rfl) ?_
  obtain ⟨p5, h6, hf⟩ := ob hf
  refine sk_calli X hH (As := [.ref (q 0), .int y]) (rest := []) (c_SM_get 0 (by decide) h6) (k_SM_get X.1.2.2.2.2 ⟨(Nat.le_of_ble_eq_true rfl), (Nat.le_of_ble_eq_true rfl)⟩) rfl hl.1 rfl (Nat.le_of_ble_eq_true rfl) d_SM_skewLink_26 ⟨Nat.zero_le _, Nat.zero_le _⟩ (fun H locs hH => ?_)
  refine lv_istore (lv' := [(6, .int p5.1), (5, .int p3.1), (4, .int p1.1), (0, .ref o), (1, .int y), (2, .int a), (3, .int b)]) X.1.1 X.1.2.1 d_SM_skewLink_29 hl (by decide) rfl (fun ls hl => ?_)
  refine lv_iload X.1.1 X.1.2.1 d_SM_skewLink_31 (lv_at hl 0 rfl) ?_
  refine lv_iload X.1.1 X.1.2.1 d_SM_skewLink_33 (lv_at hl 1 rfl) ?_
  refine lv_icmp_ge (tgt := 61) X.1.1 X.1.2.1 d_SM_skewLink_35 (by decide) (fun c7 => ?_) (fun c7 => ?_)
  · replace hf := ip c7 hf
    exact v_SM_skewLink_61 X hr hlk hf hH (lv_sub hl [3, 4, 2] rfl)
  · replace hf := im c7 hf
    refine lv_aload_n X.1.1 X.1.2.1 d_SM_skewLink_38 rfl (lv_at hl 3 rfl) ?_
    refine lv_aload_n X.1.1 X.1.2.1 d_SM_skewLink_39 rfl (lv_at hl 3 rfl) ?_
    refine sk_gf X hH 0 7 (by decide) mf_SM_7 (v := .ref (q 0)) rfl d_SM_skewLink_40 ?_
    refine lv_iload X.1.1 X.1.2.1 d_SM_skewLink_43 (lv_at hl 2 rfl) ?_
    refine lv_iload X.1.1 X.1.2.1 d_SM_skewLink_45 (lv_at hl 0 rfl) ?_
    obtain ⟨u8, h9, hf⟩ := ob hf
    refine sk_callv X hH (As := [.ref (q 0), .int p1.1, .int p5.1]) (rest := []) (c_SM_set 0 (by decide) h9) (k_SM_set X.1.2.2.2.2 ⟨(Nat.le_of_ble_eq_true rfl), (Nat.le_of_ble_eq_true rfl)⟩) rfl hl.1 rfl (Nat.le_of_ble_eq_true rfl) d_SM_skewLink_47 ⟨Nat.zero_le _, Nat.zero_le _⟩ (fun H locs hH => ?_)
    refine lv_aload_n X.1.1 X.1.2.1 d_SM_skewLink_50 rfl (lv_at hl 3 rfl) ?_
    refine lv_aload_n X.1.1 X.1.2.1 d_SM_skewLink_51 rfl (lv_at hl 3 rfl) ?_
    refine sk_gf X hH 0 7 (by decide) mf_SM_7 (v := .ref (q 0)) rfl d_SM_skewLink_52 ?_
    refine lv_iload_n X.1.1 X.1.2.1 d_SM_skewLink_55 rfl (lv_at hl 4 rfl) ?_
    refine lv_iload X.1.1 X.1.2.1 d_SM_skewLink_56 (lv_at hl 1 rfl) ?_
    obtain ⟨u10, h11, hf⟩ := ob hf
    refine sk_callv X hH (As := [.ref (q 0), .int y, .int p3.1]) (rest := []) (c_SM_set 0 (by decide) h11) (k_SM_set X.1.2.2.2.2 ⟨(Nat.le_of_ble_eq_true rfl), (Nat.le_of_ble_eq_true rfl)⟩) rfl hl.1 rfl (Nat.le_of_ble_eq_true rfl) d_SM_skewLink_58 ⟨Nat.zero_le _, Nat.zero_le _⟩ (fun H locs hH => ?_)
    exact v_SM_skewLink_61 X hr hlk hf hH (lv_sub hl [3, 4, 2] rfl)
end V_SM_skewLink
theorem c_SM_skewLink {l : Launch} {D : va_G} {o : Nat} {q : Nat → Nat} {cA : ClassId} {u : sk_T} {y : Int32} {a : Int32} {b : Int32} {z : Int32 × sk_T} (hf : sk_skewLink u y a b = some z) : sk_Mi l y_SM_skewLink w_SM_skewLink rm_SM_skewLink D o q cA [.ref o, .int y, .int a, .int b] u z.1 z.2 :=
  sk_entry (own := R_SM) (fun A => sk_Qi D o q cA A z.1 z.2) (by decide) rfl (Nat.le_of_ble_eq_true rfl) (fun p e s m below meth c A ls X hr hlk hH hl => v_SM_skewLink_0 X hr hlk hf hH hl)
theorem k_SM_skewLink {R : Room} {s : State} {args : Array Value} (ht : ∀ w ∈ lw_big, w.before args s = true) (hR : rm_SM_skewLink.frames + 1 ≤ R.frames ∧ 8 + (7 + 11) + rm_SM_skewLink.locals ≤ R.locals) : CallW R s args R_SM R_SM 71 y_SM_skewLink b_SM_skewLink 7 (some .int) w_SM_skewLink rm_SM_skewLink 0 0 3 := cwV 3 ht g_SM_SM_skewLink e_SM_skewLink rfl rfl (by decide +kernel) hR
-- SM_insert
def rm_SM_insert : Room := { frames := 3, cells := 0, slots := 0, locals := 74 }
section V_SM_insert
variable {p : Program} {l : Launch} {e : Env} {s : State} {m : MethodId} {args : Array Value} {below : List Frame} {meth : Method} {c : Code} {D : va_G} {A : Nat → Prop} {o : Nat} {q : Nat → Nat} {cA : ClassId} {Q : State → Prop}
set_option maxHeartbeats 4000000 in
set_option maxRecDepth 100000 in
theorem v_SM_insert_80 (X : sk_X p m c b_SM_insert 6 s args R_SM D cA A) (hr : meth.sig.returnType = (some .int)) (hlk : meth.locks = false) {u : sk_T} {y : Int32} {f : Int32} {z : Int32 × sk_T} (hf : sk_ins3 u y f = some z) {H : Heap} {locs : List Loc} {ls : Array Slot} (hH : sk_H D A s.heap H locs o q cA u) (hl : lv_has ls 6 [(0, .ref o), (1, .int y), (2, .int f)]) : W p l e rm_SM_insert s m args below meth c H locs 0 0 (MQ below (sk_Qi D o q cA A z.1 z.2) args s 0 0 A) (F0 m 80 ls []) := by
  unfold sk_ins3 at hf
  refine lv_aload_n X.1.1 X.1.2.1 d_SM_insert_80 rfl (lv_at hl 0 rfl) ?_
  refine lv_aload_n X.1.1 X.1.2.1 d_SM_insert_81 rfl (lv_at hl 0 rfl) ?_
  refine sk_gf X hH 3 19 (by decide) mf_SM_19 (v := .ref (q 3)) rfl d_SM_insert_82 ?_
  refine lv_iload_n X.1.1 X.1.2.1 d_SM_insert_85 rfl (lv_at hl 1 rfl) ?_
  refine lv_iload_n X.1.1 X.1.2.1 d_SM_insert_86 rfl (lv_at hl 2 rfl) ?_
  obtain ⟨u1, h2, hf⟩ := ob hf
  refine sk_callv X hH (As := [.ref (q 3), .int y, .int f]) (rest := []) (c_SM_set 3 (by decide) h2) (k_SM_set X.1.2.2.2.2 ⟨(Nat.le_of_ble_eq_true rfl), (Nat.le_of_ble_eq_true rfl)⟩) rfl hl.1 rfl (Nat.le_of_ble_eq_true rfl) d_SM_insert_87 ⟨Nat.zero_le _, Nat.zero_le _⟩ (fun H locs hH => ?_)
  refine lv_iload_n X.1.1 X.1.2.1 d_SM_insert_90 rfl (lv_at hl 1 rfl) ?_
  obtain rfl := Option.some.inj hf
  exact sk_iret X hr hlk hH d_SM_insert_91
set_option maxHeartbeats 4000000 in
set_option maxRecDepth 100000 in
theorem v_SM_insert_18 (X : sk_X p m c b_SM_insert 6 s args R_SM D cA A) (hr : meth.sig.returnType = (some .int)) (hlk : meth.locks = false) {u : sk_T} {y : Int32} {f : Int32} {d : Int32} {z : Int32 × sk_T} (hf : sk_ins2 u y f d = some z) {H : Heap} {locs : List Loc} {ls : Array Slot} (hH : sk_H D A s.heap H locs o q cA u) (hl : lv_has ls 6 [(0, .ref o), (1, .int y), (2, .int f)]) : W p l e rm_SM_insert s m args below meth c H locs 0 0 (MQ below (sk_Qi D o q cA A z.1 z.2) args s 0 0 A) (F0 m 18 ls [.int d]) := by
  unfold sk_ins2 at hf
  refine lv_istore_n (lv' := [(3, .int d), (0, .ref o), (1, .int y), (2, .int f)]) X.1.1 X.1.2.1 d_SM_insert_18 rfl hl (by decide) rfl (fun ls hl => ?_)
  refine lv_iload_n X.1.1 X.1.2.1 d_SM_insert_19 rfl (lv_at hl 0 rfl) ?_
  refine lv_iconst (v := (-1)) X.1.1 X.1.2.1 d_SM_insert_20 (by decide) ?_
  refine lv_icmp_eq (tgt := 80) X.1.1 X.1.2.1 d_SM_insert_21 (by decide) (fun c1 => ?_) (fun c1 => ?_)
  · replace hf := ip c1 hf
    exact v_SM_insert_80 X hr hlk hf hH (lv_sub hl [1, 2, 3] rfl)
  · replace hf := im c1 hf
    refine lv_aload_n X.1.1 X.1.2.1 d_SM_insert_24 rfl (lv_at hl 1 rfl) ?_
    refine lv_aload_n X.1.1 X.1.2.1 d_SM_insert_25 rfl (lv_at hl 1 rfl) ?_
    refine sk_gf X hH 1 13 (by decide) mf_SM_13 (v := .ref (q 1)) rfl d_SM_insert_26 ?_
    refine lv_iload_n X.1.1 X.1.2.1 d_SM_insert_29 rfl (lv_at hl 3 rfl) ?_
    obtain ⟨p2, h3, hf⟩ := ob hf
    refine sk_calli X hH (As := [.ref (q 1), .int f]) (rest := []) (c_SM_get 1 (by decide) h3) (k_SM_get X.1.2.2.2.2 ⟨(Nat.le_of_ble_eq_true rfl), (Nat.le_of_ble_eq_true rfl)⟩) rfl hl.1 rfl (Nat.le_of_ble_eq_true rfl) d_SM_insert_30 ⟨Nat.zero_le _, Nat.zero_le _⟩ (fun H locs hH => ?_)
    refine lv_aload_n X.1.1 X.1.2.1 d_SM_insert_33 rfl (lv_at hl 1 rfl) ?_
    refine lv_aload_n X.1.1 X.1.2.1 d_SM_insert_34 rfl (lv_at hl 1 rfl) ?_
    refine sk_gf X hH 1 13 (by decide) mf_SM_13 (v := .ref (q 1)) rfl d_SM_insert_35 ?_
    refine lv_iload_n X.1.1 X.1.2.1 d_SM_insert_38 rfl (lv_at hl 0 rfl) ?_
    obtain ⟨p4, h5, hf⟩ := ob hf
    refine sk_calli X hH (As := [.ref (q 1), .int d]) (rest := [.int p2.1]) (c_SM_get 1 (by decide) h5) (k_SM_get X.1.2.2.2.2 ⟨(Nat.le_of_ble_eq_true rfl), (Nat.le_of_ble_eq_true rfl)⟩) rfl hl.1 rfl (Nat.le_of_ble_eq_true rfl) d_SM_insert_39 ⟨Nat.zero_le _, Nat.zero_le _⟩ (fun H locs hH => ?_)
    refine lv_icmp_ne (tgt := 80) X.1.1 X.1.2.1 d_SM_insert_42 (by decide) (fun c6 => ?_) (fun c6 => ?_)
    · replace hf := im c6 hf
      exact v_SM_insert_80 X hr hlk hf hH (lv_sub hl [1, 2, 3] rfl)
    · replace hf := ip c6 hf
      refine lv_aload_n X.1.1 X.1.2.1 d_SM_insert_45 rfl (lv_at hl 1 rfl) ?_
      refine lv_aload_n X.1.1 X.1.2.1 d_SM_insert_46 rfl (lv_at hl 1 rfl) ?_
      refine sk_gf X hH 3 19 (by decide) mf_SM_19 (v := .ref (q 3)) rfl d_SM_insert_47 ?_
      refine lv_iload_n X.1.1 X.1.2.1 d_SM_insert_50 rfl (lv_at hl 0 rfl) ?_
      obtain ⟨p7, h8, hf⟩ := ob hf
      refine sk_calli X hH (As := [.ref (q 3), .int d]) (rest := []) (c_SM_get 3 (by decide) h8) (k_SM_get X.1.2.2.2.2 ⟨(Nat.le_of_ble_eq_true rfl), (Nat.le_of_ble_eq_true rfl)⟩) rfl hl.1 rfl (Nat.le_of_ble_eq_true rfl) d_SM_insert_51 ⟨Nat.zero_le _, Nat.zero_le _⟩ (fun H locs hH => ?_)
      refine lv_istore (lv' := [(4, .int p7.1), (3, .int d), (0, .ref o), (1, .int y), (2, .int f)]) X.1.1 X.1.2.1 d_SM_insert_54 hl (by decide) rfl (fun ls hl => ?_)
      refine lv_aload_n X.1.1 X.1.2.1 d_SM_insert_56 rfl (lv_at hl 2 rfl) ?_
      refine lv_iload_n X.1.1 X.1.2.1 d_SM_insert_57 rfl (lv_at hl 3 rfl) ?_
      refine lv_iload_n X.1.1 X.1.2.1 d_SM_insert_58 rfl (lv_at hl 4 rfl) ?_
      refine lv_iload_n X.1.1 X.1.2.1 d_SM_insert_59 rfl (lv_at hl 1 rfl) ?_
      obtain ⟨p9, h10, hf⟩ := ob hf
      refine sk_calli X hH (As := [.int y, .int f, .int d]) (rest := []) (c_SM_skewLink h10) (k_SM_skewLink X.1.2.2.2.2 ⟨(Nat.le_of_ble_eq_true rfl), (Nat.le_of_ble_eq_true rfl)⟩) rfl hl.1 rfl (Nat.le_of_ble_eq_true rfl) d_SM_insert_60 ⟨Nat.zero_le _, Nat.zero_le _⟩ (fun H locs hH => ?_)
      refine lv_istore (lv' := [(5, .int p9.1), (4, .int p7.1), (3, .int d), (0, .ref o), (1, .int y), (2, .int f)]) X.1.1 X.1.2.1 d_SM_insert_63 hl (by decide) rfl (fun ls hl => ?_)
      refine lv_aload_n X.1.1 X.1.2.1 d_SM_insert_65 rfl (lv_at hl 3 rfl) ?_
      refine lv_aload_n X.1.1 X.1.2.1 d_SM_insert_66 rfl (lv_at hl 3 rfl) ?_
      refine sk_gf X hH 3 19 (by decide) mf_SM_19 (v := .ref (q 3)) rfl d_SM_insert_67 ?_
      refine lv_iload X.1.1 X.1.2.1 d_SM_insert_70 (lv_at hl 0 rfl) ?_
      refine lv_iload X.1.1 X.1.2.1 d_SM_insert_72 (lv_at hl 1 rfl) ?_
      obtain ⟨u11, h12, hf⟩ := ob hf
      refine sk_callv X hH (As := [.ref (q 3), .int p9.1, .int p7.1]) (rest := []) (c_SM_set 3 (by decide) h12) (k_SM_set X.1.2.2.2.2 ⟨(Nat.le_of_ble_eq_true rfl), (Nat.le_of_ble_eq_true rfl)⟩) rfl hl.1 rfl (Nat.le_of_ble_eq_true rfl) d_SM_insert_74 ⟨Nat.zero_le _, Nat.zero_le _⟩ (fun H locs hH => ?_)
      refine lv_iload X.1.1 X.1.2.1 d_SM_insert_77 (lv_at hl 0 rfl) ?_
      obtain rfl := Option.some.inj hf
      exact sk_iret X hr hlk hH d_SM_insert_79
set_option maxHeartbeats 4000000 in
set_option maxRecDepth 100000 in
theorem v_SM_insert_0 (X : sk_X p m c b_SM_insert 6 s args R_SM D cA A) (hr : meth.sig.returnType = (some .int)) (hlk : meth.locks = false) {u : sk_T} {y : Int32} {f : Int32} {z : Int32 × sk_T} (hf : sk_insert u y f = some z) {H : Heap} {locs : List Loc} {ls : Array Slot} (hH : sk_H D A s.heap H locs o q cA u) (hl : lv_has ls 6 [(0, .ref o), (1, .int y), (2, .int f)]) : W p l e rm_SM_insert s m args below meth c H locs 0 0 (MQ below (sk_Qi D o q cA A z.1 z.2) args s 0 0 A) (F0 m 0 ls []) := by
  unfold sk_insert at hf
  refine lv_iload_n X.1.1 X.1.2.1 d_SM_insert_0 rfl (lv_at hl 2 rfl) ?_
  refine lv_iconst (v := (-1)) X.1.1 X.1.2.1 d_SM_insert_1 (by decide) ?_
  refine lv_icmp_ne (tgt := 9) X.1.1 X.1.2.1 d_SM_insert_2 (by decide) (fun c1 => ?_) (fun c1 => ?_)
  · replace hf := im c1 hf
    refine lv_aload_n X.1.1 X.1.2.1 d_SM_insert_9 rfl (lv_at hl 0 rfl) ?_
    refine lv_aload_n X.1.1 X.1.2.1 d_SM_insert_10 rfl (lv_at hl 0 rfl) ?_
    refine sk_gf X hH 3 19 (by decide) mf_SM_19 (v := .ref (q 3)) rfl d_SM_insert_11 ?_
    refine lv_iload_n X.1.1 X.1.2.1 d_SM_insert_14 rfl (lv_at hl 2 rfl) ?_
    obtain ⟨p2, h3, hf⟩ := ob hf
    refine sk_calli X hH (As := [.ref (q 3), .int f]) (rest := []) (c_SM_get 3 (by decide) h3) (k_SM_get X.1.2.2.2.2 ⟨(Nat.le_of_ble_eq_true rfl), (Nat.le_of_ble_eq_true rfl)⟩) rfl hl.1 rfl (Nat.le_of_ble_eq_true rfl) d_SM_insert_15 ⟨Nat.zero_le _, Nat.zero_le _⟩ (fun H locs hH => ?_)
    exact v_SM_insert_18 X hr hlk hf hH (lv_sub hl [0, 1, 2] rfl)
  · replace hf := ip c1 hf
    refine lv_iconst (v := (-1)) X.1.1 X.1.2.1 d_SM_insert_5 (by decide) ?_
    refine lv_goto (tgt := 18) X.1.1 X.1.2.1 d_SM_insert_6 (by decide) ?_
    exact v_SM_insert_18 X hr hlk hf hH (lv_sub hl [0, 1, 2] rfl)
end V_SM_insert
theorem c_SM_insert {l : Launch} {D : va_G} {o : Nat} {q : Nat → Nat} {cA : ClassId} {u : sk_T} {y : Int32} {f : Int32} {z : Int32 × sk_T} (hf : sk_insert u y f = some z) : sk_Mi l y_SM_insert w_SM_insert rm_SM_insert D o q cA [.ref o, .int y, .int f] u z.1 z.2 :=
  sk_entry (own := R_SM) (fun A => sk_Qi D o q cA A z.1 z.2) (by decide) rfl (Nat.le_of_ble_eq_true rfl) (fun p e s m below meth c A ls X hr hlk hH hl => v_SM_insert_0 X hr hlk hf hH hl)
theorem k_SM_insert {R : Room} {s : State} {args : Array Value} (ht : ∀ w ∈ lw_big, w.before args s = true) (hR : rm_SM_insert.frames + 1 ≤ R.frames ∧ 8 + (6 + 11) + rm_SM_insert.locals ≤ R.locals) : CallW R s args R_SM R_SM 90 y_SM_insert b_SM_insert 6 (some .int) w_SM_insert rm_SM_insert 0 0 2 := cwV 2 ht g_SM_SM_insert e_SM_insert rfl rfl (by decide +kernel) hR
end
section
/-! printed by gen.py: walks of SM_put, SM_norm, SM_merge, SM_heap, SM_add, SM_leastTree, SM_least, SM_remove, SM_turned -/
-- SM_put
def rm_SM_put : Room := { frames := 2, cells := 0, slots := 0, locals := 48 }
section V_SM_put
variable {p : Program} {l : Launch} {e : Env} {s : State} {m : MethodId} {args : Array Value} {below : List Frame} {meth : Method} {c : Code} {D : va_G} {A : Nat → Prop} {o : Nat} {q : Nat → Nat} {cA : ClassId} {Q : State → Prop}
set_option maxHeartbeats 4000000 in
set_option maxRecDepth 100000 in
theorem v_SM_put_60 (X : sk_X p m c b_SM_put 6 s args R_SM D cA A) (hr : meth.sig.returnType = (some .int)) (hlk : meth.locks = false) {u : sk_T} {t : Int32} {r : Int32} {z : Int32 × sk_T} (hf : sk_put2 u t r = some z) {H : Heap} {locs : List Loc} {ls : Array Slot} (hH : sk_H D A s.heap H locs o q cA u) (hl : lv_has ls 6 [(0, .ref o), (3, .int t), (4, .int r)]) : W p l e rm_SM_put s m args below meth c H locs 0 0 (MQ below (sk_Qi D o q cA A z.1 z.2) args s 0 0 A) (F0 m 60 ls []) := by
  unfold sk_put2 at hf
  refine lv_aload_n X.1.1 X.1.2.1 d_SM_put_60 rfl (lv_at hl 0 rfl) ?_
  refine lv_aload_n X.1.1 X.1.2.1 d_SM_put_61 rfl (lv_at hl 0 rfl) ?_
  refine sk_gf X hH 3 19 (by decide) mf_SM_19 (v := .ref (q 3)) rfl d_SM_put_62 ?_
  refine lv_iload_n X.1.1 X.1.2.1 d_SM_put_65 rfl (lv_at hl 1 rfl) ?_
  refine lv_iload X.1.1 X.1.2.1 d_SM_put_66 (lv_at hl 2 rfl) ?_
  obtain ⟨u1, h2, hf⟩ := ob hf
  refine sk_callv X hH (As := [.ref (q 3), .int t, .int r]) (rest := []) (c_SM_set 3 (by decide) h2) (k_SM_set X.1.2.2.2.2 ⟨(Nat.le_of_ble_eq_true rfl), (Nat.le_of_ble_eq_true rfl)⟩) rfl hl.1 rfl (Nat.le_of_ble_eq_true rfl) d_SM_put_68 ⟨Nat.zero_le _, Nat.zero_le _⟩ (fun H locs hH => ?_)
  refine lv_iload_n X.1.1 X.1.2.1 d_SM_put_71 rfl (lv_at hl 1 rfl) ?_
  obtain rfl := Option.some.inj hf
  exact sk_iret X hr hlk hH d_SM_put_72
set_option maxHeartbeats 4000000 in
set_option maxRecDepth 100000 in
theorem v_SM_put_5 (X : sk_X p m c b_SM_put 6 s args R_SM D cA A) (hr : meth.sig.returnType = (some .int)) (hlk : meth.locks = false) : ∀ (n : Nat) {u : sk_T} {t : Int32} {r : Int32} {z : Int32 × sk_T} (hf : sk_putL n u t r = some z) {H : Heap} {locs : List Loc} {ls : Array Slot} (hH : sk_H D A s.heap H locs o q cA u) (hl : lv_has ls 6 [(0, .ref o), (3, .int t), (4, .int r)]), W p l e rm_SM_put s m args below meth c H locs 0 0 (MQ below (sk_Qi D o q cA A z.1 z.2) args s 0 0 A) (F0 m 5 ls []) := by
  intro n
  induction n with
  | zero =>
    intro u t r z hf
    rw [sk_putL] at hf
    cases hf
  | succ n ih =>
    intro u t r z hf H locs ls hH hl
    rw [sk_putL] at hf
    refine lv_iload X.1.1 X.1.2.1 d_SM_put_5 (lv_at hl 2 rfl) ?_
    refine lv_iconst (v := (-1)) X.1.1 X.1.2.1 d_SM_put_7 (by decide) ?_
    refine lv_icmp_eq (tgt := 60) X.1.1 X.1.2.1 d_SM_put_8 (by decide) (fun c1 => ?_) (fun c1 => ?_)
    · replace hf := ip c1 hf
      exact v_SM_put_60 X hr hlk hf hH (lv_sub hl [0, 1, 2] rfl)
    · replace hf := im c1 hf
      refine lv_aload_n X.1.1 X.1.2.1 d_SM_put_11 rfl (lv_at hl 0 rfl) ?_
      refine lv_aload_n X.1.1 X.1.2.1 d_SM_put_12 rfl (lv_at hl 0 rfl) ?_
      refine sk_gf X hH 1 13 (by decide) mf_SM_13 (v := .ref (q 1)) rfl d_SM_put_13 ?_
      refine lv_iload X.1.1 X.1.2.1 d_SM_put_16 (lv_at hl 2 rfl) ?_
      obtain ⟨p2, h3, hf⟩ := ob hf
      refine sk_calli X hH (As := [.ref (q 1), .int r]) (rest := []) (c_SM_get 1 (by decide) h3) (k_SM_get X.1.2.2.2.2 ⟨(Nat.le_of_ble_eq_true rfl), (Nat.le_of_ble_eq_true rfl)⟩) rfl hl.1 rfl (Nat.le_of_ble_eq_true rfl) d_SM_put_18 ⟨Nat.zero_le _, Nat.zero_le _⟩ (fun H locs hH => ?_)
      refine lv_aload_n X.1.1 X.1.2.1 d_SM_put_21 rfl (lv_at hl 0 rfl) ?_
      refine lv_aload_n X.1.1 X.1.2.1 d_SM_put_22 rfl (lv_at hl 0 rfl) ?_
      refine sk_gf X hH 1 13 (by decide) mf_SM_13 (v := .ref (q 1)) rfl d_SM_put_23 ?_
      refine lv_iload_n X.1.1 X.1.2.1 d_SM_put_26 rfl (lv_at hl 1 rfl) ?_
      obtain ⟨p4, h5, hf⟩ := ob hf
      refine sk_calli X hH (As := [.ref (q 1), .int t]) (rest := [.int p2.1]) (c_SM_get 1 (by decide) h5) (k_SM_get X.1.2.2.2.2 ⟨(Nat.le_of_ble_eq_true rfl), (Nat.le_of_ble_eq_true rfl)⟩) rfl hl.1 rfl (Nat.le_of_ble_eq_true rfl) d_SM_put_27 ⟨Nat.zero_le _, Nat.zero_le _⟩ (fun H locs hH => ?_)
      refine lv_icmp_ne (tgt := 60) X.1.1 X.1.2.1 d_SM_put_30 (by decide) (fun c6 => ?_) (fun c6 => ?_)
      · replace hf := im c6 hf
        exact v_SM_put_60 X hr hlk hf hH (lv_sub hl [0, 1, 2] rfl)
      · replace hf := ip c6 hf
        refine lv_aload_n X.1.1 X.1.2.1 d_SM_put_33 rfl (lv_at hl 0 rfl) ?_
        refine lv_aload_n X.1.1 X.1.2.1 d_SM_put_34 rfl (lv_at hl 0 rfl) ?_
        refine sk_gf X hH 3 19 (by decide) mf_SM_19 (v := .ref (q 3)) rfl d_SM_put_35 ?_
        refine lv_iload X.1.1 X.1.2.1 d_SM_put_38 (lv_at hl 2 rfl) ?_
        obtain ⟨p7, h8, hf⟩ := ob hf
        refine sk_calli X hH (As := [.ref (q 3), .int r]) (rest := []) (c_SM_get 3 (by decide) h8) (k_SM_get X.1.2.2.2.2 ⟨(Nat.le_of_ble_eq_true rfl), (Nat.le_of_ble_eq_true rfl)⟩) rfl hl.1 rfl (Nat.le_of_ble_eq_true rfl) d_SM_put_40 ⟨Nat.zero_le _, Nat.zero_le _⟩ (fun H locs hH => ?_)
        refine lv_istore (lv' := [(5, .int p7.1), (0, .ref o), (3, .int t), (4, .int r)]) X.1.1 X.1.2.1 d_SM_put_43 hl (by decide) rfl (fun ls hl => ?_)
        refine lv_aload_n X.1.1 X.1.2.1 d_SM_put_45 rfl (lv_at hl 1 rfl) ?_
        refine lv_iload_n X.1.1 X.1.2.1 d_SM_put_46 rfl (lv_at hl 2 rfl) ?_
        refine lv_iload X.1.1 X.1.2.1 d_SM_put_47 (lv_at hl 3 rfl) ?_
        obtain ⟨p9, h10, hf⟩ := ob hf
        refine sk_calli X hH (As := [.int t, .int r]) (rest := []) (c_SM_link h10) (k_SM_link X.1.2.2.2.2 ⟨(Nat.le_of_ble_eq_true rfl), (Nat.le_of_ble_eq_true rfl)⟩) rfl hl.1 rfl (Nat.le_of_ble_eq_true rfl) d_SM_put_49 ⟨Nat.zero_le _, Nat.zero_le _⟩ (fun H locs hH => ?_)
        refine lv_istore_n (lv' := [(3, .int p9.1), (5, .int p7.1), (0, .ref o), (4, .int r)]) X.1.1 X.1.2.1 d_SM_put_52 rfl hl (by decide) rfl (fun ls hl => ?_)
        refine lv_iload X.1.1 X.1.2.1 d_SM_put_53 (lv_at hl 1 rfl) ?_
        refine lv_istore (lv' := [(4, .int p7.1), (3, .int p9.1), (5, .int p7.1), (0, .ref o)]) X.1.1 X.1.2.1 d_SM_put_55 hl (by decide) rfl (fun ls hl => ?_)
        refine lv_goto (tgt := 5) X.1.1 X.1.2.1 d_SM_put_57 (by decide) ?_
        exact ih hf hH (lv_sub hl [3, 1, 0] rfl)
set_option maxHeartbeats 4000000 in
set_option maxRecDepth 100000 in
theorem v_SM_put_0 (X : sk_X p m c b_SM_put 6 s args R_SM D cA A) (hr : meth.sig.returnType = (some .int)) (hlk : meth.locks = false) {u : sk_T} {t : Int32} {f : Int32} {z : Int32 × sk_T} (hf : sk_put u t f = some z) {H : Heap} {locs : List Loc} {ls : Array Slot} (hH : sk_H D A s.heap H locs o q cA u) (hl : lv_has ls 6 [(0, .ref o), (1, .int t), (2, .int f)]) : W p l e rm_SM_put s m args below meth c H locs 0 0 (MQ below (sk_Qi D o q cA A z.1 z.2) args s 0 0 A) (F0 m 0 ls []) := by
  unfold sk_put at hf
  refine lv_iload_n X.1.1 X.1.2.1 d_SM_put_0 rfl (lv_at hl 1 rfl) ?_
  refine lv_istore_n (lv' := [(3, .int t), (0, .ref o), (1, .int t), (2, .int f)]) X.1.1 X.1.2.1 d_SM_put_1 rfl hl (by decide) rfl (fun ls hl => ?_)
  refine lv_iload_n X.1.1 X.1.2.1 d_SM_put_2 rfl (lv_at hl 3 rfl) ?_
  refine lv_istore (lv' := [(4, .int f), (3, .int t), (0, .ref o), (1, .int t), (2, .int f)]) X.1.1 X.1.2.1 d_SM_put_3 hl (by decide) rfl (fun ls hl => ?_)
  exact v_SM_put_5 X hr hlk _ hf hH (lv_sub hl [2, 1, 0] rfl)
end V_SM_put
theorem c_SM_put {l : Launch} {D : va_G} {o : Nat} {q : Nat → Nat} {cA : ClassId} {u : sk_T} {t : Int32} {f : Int32} {z : Int32 × sk_T} (hf : sk_put u t f = some z) : sk_Mi l y_SM_put w_SM_put rm_SM_put D o q cA [.ref o, .int t, .int f] u z.1 z.2 :=
  sk_entry (own := R_SM) (fun A => sk_Qi D o q cA A z.1 z.2) (by decide) rfl (Nat.le_of_ble_eq_true rfl) (fun p e s m below meth c A ls X hr hlk hH hl => v_SM_put_0 X hr hlk hf hH hl)
theorem k_SM_put {R : Room} {s : State} {args : Array Value} (ht : ∀ w ∈ lw_big, w.before args s = true) (hR : rm_SM_put.frames + 1 ≤ R.frames ∧ 8 + (6 + 11) + rm_SM_put.locals ≤ R.locals) : CallW R s args R_SM R_SM 75 y_SM_put b_SM_put 6 (some .int) w_SM_put rm_SM_put 0 0 2 := cwV 2 ht g_SM_SM_put e_SM_put rfl rfl (by decide +kernel) hR
-- SM_norm
def rm_SM_norm : Room := { frames := 3, cells := 0, slots := 0, locals := 73 }
section V_SM_norm
variable {p : Program} {l : Launch} {e : Env} {s : State} {m : MethodId} {args : Array Value} {below : List Frame} {meth : Method} {c : Code} {D : va_G} {A : Nat → Prop} {o : Nat} {q : Nat → Nat} {cA : ClassId} {Q : State → Prop}
set_option maxHeartbeats 4000000 in
set_option maxRecDepth 100000 in
theorem v_SM_norm_0 (X : sk_X p m c b_SM_norm 2 s args R_SM D cA A) (hr : meth.sig.returnType = (some .int)) (hlk : meth.locks = false) {u : sk_T} {f : Int32} {z : Int32 × sk_T} (hf : sk_norm u f = some z) {H : Heap} {locs : List Loc} {ls : Array Slot} (hH : sk_H D A s.heap H locs o q cA u) (hl : lv_has ls 2 [(0, .ref o), (1, .int f)]) : W p l e rm_SM_norm s m args below meth c H locs 0 0 (MQ below (sk_Qi D o q cA A z.1 z.2) args s 0 0 A) (F0 m 0 ls []) := by
  unfold sk_norm at hf
  refine lv_iload_n X.1.1 X.1.2.1 d_SM_norm_0 rfl (lv_at hl 1 rfl) ?_
  refine lv_iconst (v := (-1)) X.1.1 X.1.2.1 d_SM_norm_1 (by decide) ?_
  refine lv_icmp_ne (tgt := 9) X.1.1 X.1.2.1 d_SM_norm_2 (by decide) (fun c1 => ?_) (fun c1 => ?_)
  · replace hf := im c1 hf
    refine lv_aload_n X.1.1 X.1.2.1 d_SM_norm_9 rfl (lv_at hl 0 rfl) ?_
    refine lv_iload_n X.1.1 X.1.2.1 d_SM_norm_10 rfl (lv_at hl 1 rfl) ?_
    refine lv_aload_n X.1.1 X.1.2.1 d_SM_norm_11 rfl (lv_at hl 0 rfl) ?_
    refine lv_aload_n X.1.1 X.1.2.1 d_SM_norm_12 rfl (lv_at hl 0 rfl) ?_
    refine sk_gf X hH 3 19 (by decide) mf_SM_19 (v := .ref (q 3)) rfl d_SM_norm_13 ?_
    refine lv_iload_n X.1.1 X.1.2.1 d_SM_norm_16 rfl (lv_at hl 1 rfl) ?_
    obtain ⟨p2, h3, hf⟩ := ob hf
    refine sk_calli X hH (As := [.ref (q 3), .int f]) (rest := [.int f, .ref o]) (c_SM_get 3 (by decide) h3) (k_SM_get X.1.2.2.2.2 ⟨(Nat.le_of_ble_eq_true rfl), (Nat.le_of_ble_eq_true rfl)⟩) rfl hl.1 rfl (Nat.le_of_ble_eq_true rfl) d_SM_norm_17 ⟨Nat.zero_le _, Nat.zero_le _⟩ (fun H locs hH => ?_)
    obtain ⟨p4, h5, hf⟩ := ob hf
    refine sk_calli X hH (As := [.int f, .int p2.1]) (rest := []) (c_SM_put h5) (k_SM_put X.1.2.2.2.2 ⟨(Nat.le_of_ble_eq_true rfl), (Nat.le_of_ble_eq_true rfl)⟩) rfl hl.1 rfl (Nat.le_of_ble_eq_true rfl) d_SM_norm_20 ⟨Nat.zero_le _, Nat.zero_le _⟩ (fun H locs hH => ?_)
    obtain rfl := Option.some.inj hf
    exact sk_iret X hr hlk hH d_SM_norm_23
  · replace hf := ip c1 hf
    refine lv_iconst (v := (-1)) X.1.1 X.1.2.1 d_SM_norm_5 (by decide) ?_
    refine lv_goto (tgt := 23) X.1.1 X.1.2.1 d_SM_norm_6 (by decide) ?_
    obtain rfl := Option.some.inj hf
    exact sk_iret X hr hlk hH d_SM_norm_23
end V_SM_norm
theorem c_SM_norm {l : Launch} {D : va_G} {o : Nat} {q : Nat → Nat} {cA : ClassId} {u : sk_T} {f : Int32} {z : Int32 × sk_T} (hf : sk_norm u f = some z) : sk_Mi l y_SM_norm w_SM_norm rm_SM_norm D o q cA [.ref o, .int f] u z.1 z.2 :=
  sk_entry (own := R_SM) (fun A => sk_Qi D o q cA A z.1 z.2) (by decide) rfl (Nat.le_of_ble_eq_true rfl) (fun p e s m below meth c A ls X hr hlk hH hl => v_SM_norm_0 X hr hlk hf hH hl)
theorem k_SM_norm {R : Room} {s : State} {args : Array Value} (ht : ∀ w ∈ lw_big, w.before args s = true) (hR : rm_SM_norm.frames + 1 ≤ R.frames ∧ 8 + (2 + 11) + rm_SM_norm.locals ≤ R.locals) : CallW R s args R_SM R_SM 107 y_SM_norm b_SM_norm 2 (some .int) w_SM_norm rm_SM_norm 0 0 1 := cwV 1 ht g_SM_SM_norm e_SM_norm rfl rfl (by decide +kernel) hR
-- SM_merge
def rm_SM_merge : Room := { frames := 3, cells := 0, slots := 0, locals := 73 }
section V_SM_merge
variable {p : Program} {l : Launch} {e : Env} {s : State} {m : MethodId} {args : Array Value} {below : List Frame} {meth : Method} {c : Code} {D : va_G} {A : Nat → Prop} {o : Nat} {q : Nat → Nat} {cA : ClassId} {Q : State → Prop}
set_option maxHeartbeats 4000000 in
set_option maxRecDepth 100000 in
theorem v_SM_merge_131 (X : sk_X p m c b_SM_merge 9 s args R_SM D cA A) (hr : meth.sig.returnType = (some .int)) (hlk : meth.locks = false) : ∀ (n : Nat) {u : sk_T} {r : Int32} {a : Int32} {z : Int32 × sk_T} (hf : sk_mer3 n u r a = some z) {H : Heap} {locs : List Loc} {ls : Array Slot} (hH : sk_H D A s.heap H locs o q cA u) (hl : lv_has ls 9 [(0, .ref o), (6, .int r), (5, .int a)]), W p l e rm_SM_merge s m args below meth c H locs 0 0 (MQ below (sk_Qi D o q cA A z.1 z.2) args s 0 0 A) (F0 m 131 ls []) := by
  intro n
  induction n with
  | zero =>
    intro u r a z hf
    rw [sk_mer3] at hf
    cases hf
  | succ n ih =>
    intro u r a z hf H locs ls hH hl
    rw [sk_mer3] at hf
    refine lv_iload X.1.1 X.1.2.1 d_SM_merge_131 (lv_at hl 2 rfl) ?_
    refine lv_iconst (v := (-1)) X.1.1 X.1.2.1 d_SM_merge_133 (by decide) ?_
    refine lv_icmp_eq (tgt := 166) X.1.1 X.1.2.1 d_SM_merge_134 (by decide) (fun c1 => ?_) (fun c1 => ?_)
    · replace hf := ip c1 hf
      refine lv_iload X.1.1 X.1.2.1 d_SM_merge_166 (lv_at hl 1 rfl) ?_
      obtain rfl := Option.some.inj hf
      exact sk_iret X hr hlk hH d_SM_merge_168
    · replace hf := im c1 hf
      refine lv_aload_n X.1.1 X.1.2.1 d_SM_merge_137 rfl (lv_at hl 0 rfl) ?_
      refine lv_aload_n X.1.1 X.1.2.1 d_SM_merge_138 rfl (lv_at hl 0 rfl) ?_
      refine sk_gf X hH 3 19 (by decide) mf_SM_19 (v := .ref (q 3)) rfl d_SM_merge_139 ?_
      refine lv_iload X.1.1 X.1.2.1 d_SM_merge_142 (lv_at hl 2 rfl) ?_
      obtain ⟨p2, h3, hf⟩ := ob hf
      refine sk_calli X hH (As := [.ref (q 3), .int a]) (rest := []) (c_SM_get 3 (by decide) h3) (k_SM_get X.1.2.2.2.2 ⟨(Nat.le_of_ble_eq_true rfl), (Nat.le_of_ble_eq_true rfl)⟩) rfl hl.1 rfl (Nat.le_of_ble_eq_true rfl) d_SM_merge_144 ⟨Nat.zero_le _, Nat.zero_le _⟩ (fun H locs hH => ?_)
      refine lv_istore (lv' := [(7, .int p2.1), (0, .ref o), (6, .int r), (5, .int a)]) X.1.1 X.1.2.1 d_SM_merge_147 hl (by decide) rfl (fun ls hl => ?_)
      refine lv_aload_n X.1.1 X.1.2.1 d_SM_merge_149 rfl (lv_at hl 1 rfl) ?_
      refine lv_iload X.1.1 X.1.2.1 d_SM_merge_150 (lv_at hl 3 rfl) ?_
      refine lv_iload X.1.1 X.1.2.1 d_SM_merge_152 (lv_at hl 2 rfl) ?_
      obtain ⟨p4, h5, hf⟩ := ob hf
      refine sk_calli X hH (As := [.int a, .int r]) (rest := []) (c_SM_put h5) (k_SM_put X.1.2.2.2.2 ⟨(Nat.le_of_ble_eq_true rfl), (Nat.le_of_ble_eq_true rfl)⟩) rfl hl.1 rfl (Nat.le_of_ble_eq_true rfl) d_SM_merge_154 ⟨Nat.zero_le _, Nat.zero_le _⟩ (fun H locs hH => ?_)
      refine lv_istore (lv' := [(6, .int p4.1), (7, .int p2.1), (0, .ref o), (5, .int a)]) X.1.1 X.1.2.1 d_SM_merge_157 hl (by decide) rfl (fun ls hl => ?_)
      refine lv_iload X.1.1 X.1.2.1 d_SM_merge_159 (lv_at hl 1 rfl) ?_
      refine lv_istore (lv' := [(5, .int p2.1), (6, .int p4.1), (7, .int p2.1), (0, .ref o)]) X.1.1 X.1.2.1 d_SM_merge_161 hl (by decide) rfl (fun ls hl => ?_)
      refine lv_goto (tgt := 131) X.1.1 X.1.2.1 d_SM_merge_163 (by decide) ?_
      exact ih hf hH (lv_sub hl [3, 1, 0] rfl)
set_option maxHeartbeats 4000000 in
set_option maxRecDepth 100000 in
theorem v_SM_merge_118 (X : sk_X p m c b_SM_merge 9 s args R_SM D cA A) (hr : meth.sig.returnType = (some .int)) (hlk : meth.locks = false) {u : sk_T} {x : Int32} {y : Int32} {a : Int32} {z : Int32 × sk_T} (hf : sk_mer2 u x y a = some z) {H : Heap} {locs : List Loc} {ls : Array Slot} (hH : sk_H D A s.heap H locs o q cA u) (hl : lv_has ls 9 [(0, .ref o), (3, .int x), (4, .int y), (5, .int a)]) : W p l e rm_SM_merge s m args below meth c H locs 0 0 (MQ below (sk_Qi D o q cA A z.1 z.2) args s 0 0 A) (F0 m 118 ls []) := by
  unfold sk_mer2 at hf
  refine lv_iload_n X.1.1 X.1.2.1 d_SM_merge_118 rfl (lv_at hl 1 rfl) ?_
  refine lv_iconst (v := (-1)) X.1.1 X.1.2.1 d_SM_merge_119 (by decide) ?_
  refine lv_icmp_eq (tgt := 127) X.1.1 X.1.2.1 d_SM_merge_120 (by decide) (fun c1 => ?_) (fun c1 => ?_)
  · replace hf := ip c1 hf
    refine lv_iload X.1.1 X.1.2.1 d_SM_merge_127 (lv_at hl 2 rfl) ?_
    refine lv_istore (lv' := [(6, .int y), (0, .ref o), (3, .int x), (4, .int y), (5, .int a)]) X.1.1 X.1.2.1 d_SM_merge_129 hl (by decide) rfl (fun ls hl => ?_)
    exact v_SM_merge_131 X hr hlk _ hf hH (lv_sub hl [1, 0, 4] rfl)
  · replace hf := im c1 hf
    refine lv_iload_n X.1.1 X.1.2.1 d_SM_merge_123 rfl (lv_at hl 1 rfl) ?_
    refine lv_goto (tgt := 129) X.1.1 X.1.2.1 d_SM_merge_124 (by decide) ?_
    refine lv_istore (lv' := [(6, .int x), (0, .ref o), (3, .int x), (4, .int y), (5, .int a)]) X.1.1 X.1.2.1 d_SM_merge_129 hl (by decide) rfl (fun ls hl => ?_)
    exact v_SM_merge_131 X hr hlk _ hf hH (lv_sub hl [1, 0, 4] rfl)
set_option maxHeartbeats 4000000 in
set_option maxRecDepth 100000 in
theorem v_SM_merge_8 (X : sk_X p m c b_SM_merge 9 s args R_SM D cA A) (hr : meth.sig.returnType = (some .int)) (hlk : meth.locks = false) : ∀ (n : Nat) {u : sk_T} {x : Int32} {y : Int32} {a : Int32} {z : Int32 × sk_T} (hf : sk_merL n u x y a = some z) {H : Heap} {locs : List Loc} {ls : Array Slot} (hH : sk_H D A s.heap H locs o q cA u) (hl : lv_has ls 9 [(0, .ref o), (3, .int x), (4, .int y), (5, .int a)]), W p l e rm_SM_merge s m args below meth c H locs 0 0 (MQ below (sk_Qi D o q cA A z.1 z.2) args s 0 0 A) (F0 m 8 ls []) := by
  intro n
  induction n with
  | zero =>
    intro u x y a z hf
    rw [sk_merL] at hf
    cases hf
  | succ n ih =>
    intro u x y a z hf H locs ls hH hl
    rw [sk_merL] at hf
    refine lv_iload_n X.1.1 X.1.2.1 d_SM_merge_8 rfl (lv_at hl 1 rfl) ?_
    refine lv_iconst (v := (-1)) X.1.1 X.1.2.1 d_SM_merge_9 (by decide) ?_
    refine lv_icmp_eq (tgt := 118) X.1.1 X.1.2.1 d_SM_merge_10 (by decide) (fun c1 => ?_) (fun c1 => ?_)
    · replace hf := ip c1 hf
      exact v_SM_merge_118 X hr hlk hf hH (lv_sub hl [0, 1, 2, 3] rfl)
    · replace hf := im c1 hf
      refine lv_iload X.1.1 X.1.2.1 d_SM_merge_13 (lv_at hl 2 rfl) ?_
      refine lv_iconst (v := (-1)) X.1.1 X.1.2.1 d_SM_merge_15 (by decide) ?_
      refine lv_icmp_eq (tgt := 118) X.1.1 X.1.2.1 d_SM_merge_16 (by decide) (fun c2 => ?_) (fun c2 => ?_)
      · replace hf := ip c2 hf
        exact v_SM_merge_118 X hr hlk hf hH (lv_sub hl [0, 1, 2, 3] rfl)
      · replace hf := im c2 hf
        refine lv_aload_n X.1.1 X.1.2.1 d_SM_merge_19 rfl (lv_at hl 0 rfl) ?_
        refine lv_aload_n X.1.1 X.1.2.1 d_SM_merge_20 rfl (lv_at hl 0 rfl) ?_
        refine sk_gf X hH 1 13 (by decide) mf_SM_13 (v := .ref (q 1)) rfl d_SM_merge_21 ?_
        refine lv_iload_n X.1.1 X.1.2.1 d_SM_merge_24 rfl (lv_at hl 1 rfl) ?_
        obtain ⟨p3, h4, hf⟩ := ob hf
        refine sk_calli X hH (As := [.ref (q 1), .int x]) (rest := []) (c_SM_get 1 (by decide) h4) (k_SM_get X.1.2.2.2.2 ⟨(Nat.le_of_ble_eq_true rfl), (Nat.le_of_ble_eq_true rfl)⟩) rfl hl.1 rfl (Nat.le_of_ble_eq_true rfl) d_SM_merge_25 ⟨Nat.zero_le _, Nat.zero_le _⟩ (fun H locs hH => ?_)
        refine lv_aload_n X.1.1 X.1.2.1 d_SM_merge_28 rfl (lv_at hl 0 rfl) ?_
        refine lv_aload_n X.1.1 X.1.2.1 d_SM_merge_29 rfl (lv_at hl 0 rfl) ?_
        refine sk_gf X hH 1 13 (by decide) mf_SM_13 (v := .ref (q 1)) rfl d_SM_merge_30 ?_
        refine lv_iload X.1.1 X.1.2.1 d_SM_merge_33 (lv_at hl 2 rfl) ?_
        obtain ⟨p5, h6, hf⟩ := ob hf
        refine sk_calli X hH (As := [.ref (q 1), .int y]) (rest := [.int p3.1]) (c_SM_get 1 (by decide) h6) (k_SM_get X.1.2.2.2.2 ⟨(Nat.le_of_ble_eq_true rfl), (Nat.le_of_ble_eq_true rfl)⟩) rfl hl.1 rfl (Nat.le_of_ble_eq_true rfl) d_SM_merge_35 ⟨Nat.zero_le _, Nat.zero_le _⟩ (fun H locs hH => ?_)
        refine lv_icmp_gt (tgt := 45) X.1.1 X.1.2.1 d_SM_merge_38 (by decide) (fun c7 => ?_) (fun c7 => ?_)
        · replace hf := ip c7 hf
          refine lv_iconst (v := 0) X.1.1 X.1.2.1 d_SM_merge_45 (by decide) ?_
          refine lv_istore (lv' := [(6, .int 0), (0, .ref o), (3, .int x), (4, .int y), (5, .int a)]) X.1.1 X.1.2.1 d_SM_merge_46 hl (by decide) rfl (fun ls hl => ?_)
          refine lv_iload X.1.1 X.1.2.1 d_SM_merge_48 (lv_at hl 0 rfl) ?_
          refine lv_if_eq (tgt := 57) X.1.1 X.1.2.1 d_SM_merge_50 (by decide) (fun _ => ?_) (fun c8 => absurd c8 (by decide))
          refine lv_iload X.1.1 X.1.2.1 d_SM_merge_57 (lv_at hl 3 rfl) ?_
          refine lv_istore (lv' := [(7, .int y), (6, .int 0), (0, .ref o), (3, .int x), (4, .int y), (5, .int a)]) X.1.1 X.1.2.1 d_SM_merge_59 hl (by decide) rfl (fun ls hl => ?_)
          refine lv_aload_n X.1.1 X.1.2.1 d_SM_merge_61 rfl (lv_at hl 2 rfl) ?_
          refine lv_aload_n X.1.1 X.1.2.1 d_SM_merge_62 rfl (lv_at hl 2 rfl) ?_
          refine sk_gf X hH 3 19 (by decide) mf_SM_19 (v := .ref (q 3)) rfl d_SM_merge_63 ?_
          refine lv_iload X.1.1 X.1.2.1 d_SM_merge_66 (lv_at hl 0 rfl) ?_
          obtain ⟨p9, h10, hf⟩ := ob hf
          refine sk_calli X hH (As := [.ref (q 3), .int y]) (rest := []) (c_SM_get 3 (by decide) h10) (k_SM_get X.1.2.2.2.2 ⟨(Nat.le_of_ble_eq_true rfl), (Nat.le_of_ble_eq_true rfl)⟩) rfl hl.1 rfl (Nat.le_of_ble_eq_true rfl) d_SM_merge_68 ⟨Nat.zero_le _, Nat.zero_le _⟩ (fun H locs hH => ?_)
          refine lv_istore (lv' := [(8, .int p9.1), (7, .int y), (6, .int 0), (0, .ref o), (3, .int x), (4, .int y), (5, .int a)]) X.1.1 X.1.2.1 d_SM_merge_71 hl (by decide) rfl (fun ls hl => ?_)
          refine lv_iload X.1.1 X.1.2.1 d_SM_merge_73 (lv_at hl 2 rfl) ?_
          refine lv_if_eq (tgt := 83) X.1.1 X.1.2.1 d_SM_merge_75 (by decide) (fun _ => ?_) (fun c11 => absurd c11 (by decide))
          refine lv_iload_n X.1.1 X.1.2.1 d_SM_merge_83 rfl (lv_at hl 4 rfl) ?_
          refine lv_istore_n (lv' := [(3, .int x), (8, .int p9.1), (7, .int y), (6, .int 0), (0, .ref o), (4, .int y), (5, .int a)]) X.1.1 X.1.2.1 d_SM_merge_84 rfl hl (by decide) rfl (fun ls hl => ?_)
          refine lv_iload X.1.1 X.1.2.1 d_SM_merge_85 (lv_at hl 3 rfl) ?_
          refine lv_if_eq (tgt := 95) X.1.1 X.1.2.1 d_SM_merge_87 (by decide) (fun _ => ?_) (fun c12 => absurd c12 (by decide))
          refine lv_iload X.1.1 X.1.2.1 d_SM_merge_95 (lv_at hl 1 rfl) ?_
          refine lv_istore (lv' := [(4, .int p9.1), (3, .int x), (8, .int p9.1), (7, .int y), (6, .int 0), (0, .ref o), (5, .int a)]) X.1.1 X.1.2.1 d_SM_merge_97 hl (by decide) rfl (fun ls hl => ?_)
          refine lv_aload_n X.1.1 X.1.2.1 d_SM_merge_99 rfl (lv_at hl 5 rfl) ?_
          refine lv_aload_n X.1.1 X.1.2.1 d_SM_merge_100 rfl (lv_at hl 5 rfl) ?_
          refine sk_gf X hH 3 19 (by decide) mf_SM_19 (v := .ref (q 3)) rfl d_SM_merge_101 ?_
          refine lv_iload X.1.1 X.1.2.1 d_SM_merge_104 (lv_at hl 3 rfl) ?_
          refine lv_iload X.1.1 X.1.2.1 d_SM_merge_106 (lv_at hl 6 rfl) ?_
          obtain ⟨u13, h14, hf⟩ := ob hf
          refine sk_callv X hH (As := [.ref (q 3), .int y, .int a]) (rest := []) (c_SM_set 3 (by decide) h14) (k_SM_set X.1.2.2.2.2 ⟨(Nat.le_of_ble_eq_true rfl), (Nat.le_of_ble_eq_true rfl)⟩) rfl hl.1 rfl (Nat.le_of_ble_eq_true rfl) d_SM_merge_108 ⟨Nat.zero_le _, Nat.zero_le _⟩ (fun H locs hH => ?_)
          refine lv_iload X.1.1 X.1.2.1 d_SM_merge_111 (lv_at hl 3 rfl) ?_
          refine lv_istore (lv' := [(5, .int y), (4, .int p9.1), (3, .int x), (8, .int p9.1), (7, .int y), (6, .int 0), (0, .ref o)]) X.1.1 X.1.2.1 d_SM_merge_113 hl (by decide) rfl (fun ls hl => ?_)
          refine lv_goto (tgt := 8) X.1.1 X.1.2.1 d_SM_merge_115 (by decide) ?_
          exact ih hf hH (lv_sub hl [6, 2, 1, 0] rfl)
        · replace hf := im c7 hf
          refine lv_iconst (v := 1) X.1.1 X.1.2.1 d_SM_merge_41 (by decide) ?_
          refine lv_goto (tgt := 46) X.1.1 X.1.2.1 d_SM_merge_42 (by decide) ?_
          refine lv_istore (lv' := [(6, .int 1), (0, .ref o), (3, .int x), (4, .int y), (5, .int a)]) X.1.1 X.1.2.1 d_SM_merge_46 hl (by decide) rfl (fun ls hl => ?_)
          refine lv_iload X.1.1 X.1.2.1 d_SM_merge_48 (lv_at hl 0 rfl) ?_
          refine lv_if_eq (tgt := 57) X.1.1 X.1.2.1 d_SM_merge_50 (by decide) (fun c15 => absurd c15 (by decide)) (fun _ => ?_)
          refine lv_iload_n X.1.1 X.1.2.1 d_SM_merge_53 rfl (lv_at hl 2 rfl) ?_
          refine lv_goto (tgt := 59) X.1.1 X.1.2.1 d_SM_merge_54 (by decide) ?_
          refine lv_istore (lv' := [(7, .int x), (6, .int 1), (0, .ref o), (3, .int x), (4, .int y), (5, .int a)]) X.1.1 X.1.2.1 d_SM_merge_59 hl (by decide) rfl (fun ls hl => ?_)
          refine lv_aload_n X.1.1 X.1.2.1 d_SM_merge_61 rfl (lv_at hl 2 rfl) ?_
          refine lv_aload_n X.1.1 X.1.2.1 d_SM_merge_62 rfl (lv_at hl 2 rfl) ?_
          refine sk_gf X hH 3 19 (by decide) mf_SM_19 (v := .ref (q 3)) rfl d_SM_merge_63 ?_
          refine lv_iload X.1.1 X.1.2.1 d_SM_merge_66 (lv_at hl 0 rfl) ?_
          obtain ⟨p16, h17, hf⟩ := ob hf
          refine sk_calli X hH (As := [.ref (q 3), .int x]) (rest := []) (c_SM_get 3 (by decide) h17) (k_SM_get X.1.2.2.2.2 ⟨(Nat.le_of_ble_eq_true rfl), (Nat.le_of_ble_eq_true rfl)⟩) rfl hl.1 rfl (Nat.le_of_ble_eq_true rfl) d_SM_merge_68 ⟨Nat.zero_le _, Nat.zero_le _⟩ (fun H locs hH => ?_)
          refine lv_istore (lv' := [(8, .int p16.1), (7, .int x), (6, .int 1), (0, .ref o), (3, .int x), (4, .int y), (5, .int a)]) X.1.1 X.1.2.1 d_SM_merge_71 hl (by decide) rfl (fun ls hl => ?_)
          refine lv_iload X.1.1 X.1.2.1 d_SM_merge_73 (lv_at hl 2 rfl) ?_
          refine lv_if_eq (tgt := 83) X.1.1 X.1.2.1 d_SM_merge_75 (by decide) (fun c18 => absurd c18 (by decide)) (fun _ => ?_)
          refine lv_iload X.1.1 X.1.2.1 d_SM_merge_78 (lv_at hl 0 rfl) ?_
          refine lv_goto (tgt := 84) X.1.1 X.1.2.1 d_SM_merge_80 (by decide) ?_
          refine lv_istore_n (lv' := [(3, .int p16.1), (8, .int p16.1), (7, .int x), (6, .int 1), (0, .ref o), (4, .int y), (5, .int a)]) X.1.1 X.1.2.1 d_SM_merge_84 rfl hl (by decide) rfl (fun ls hl => ?_)
          refine lv_iload X.1.1 X.1.2.1 d_SM_merge_85 (lv_at hl 3 rfl) ?_
          refine lv_if_eq (tgt := 95) X.1.1 X.1.2.1 d_SM_merge_87 (by decide) (fun c19 => absurd c19 (by decide)) (fun _ => ?_)
          refine lv_iload X.1.1 X.1.2.1 d_SM_merge_90 (lv_at hl 5 rfl) ?_
          refine lv_goto (tgt := 97) X.1.1 X.1.2.1 d_SM_merge_92 (by decide) ?_
          refine lv_istore (lv' := [(4, .int y), (3, .int p16.1), (8, .int p16.1), (7, .int x), (6, .int 1), (0, .ref o), (5, .int a)]) X.1.1 X.1.2.1 d_SM_merge_97 hl (by decide) rfl (fun ls hl => ?_)
          refine lv_aload_n X.1.1 X.1.2.1 d_SM_merge_99 rfl (lv_at hl 5 rfl) ?_
          refine lv_aload_n X.1.1 X.1.2.1 d_SM_merge_100 rfl (lv_at hl 5 rfl) ?_
          refine sk_gf X hH 3 19 (by decide) mf_SM_19 (v := .ref (q 3)) rfl d_SM_merge_101 ?_
          refine lv_iload X.1.1 X.1.2.1 d_SM_merge_104 (lv_at hl 3 rfl) ?_
          refine lv_iload X.1.1 X.1.2.1 d_SM_merge_106 (lv_at hl 6 rfl) ?_
          obtain ⟨u20, h21, hf⟩ := ob hf
          refine sk_callv X hH (As := [.ref (q 3), .int x, .int a]) (rest := []) (c_SM_set 3 (by decide) h21) (k_SM_set X.1.2.2.2.2 ⟨(Nat.le_of_ble_eq_true rfl), (Nat.le_of_ble_eq_true rfl)⟩) rfl hl.1 rfl (Nat.le_of_ble_eq_true rfl) d_SM_merge_108 ⟨Nat.zero_le _, Nat.zero_le _⟩ (fun H locs hH => ?_)
          refine lv_iload X.1.1 X.1.2.1 d_SM_merge_111 (lv_at hl 3 rfl) ?_
          refine lv_istore (lv' := [(5, .int x), (4, .int y), (3, .int p16.1), (8, .int p16.1), (7, .int x), (6, .int 1), (0, .ref o)]) X.1.1 X.1.2.1 d_SM_merge_113 hl (by decide) rfl (fun ls hl => ?_)
          refine lv_goto (tgt := 8) X.1.1 X.1.2.1 d_SM_merge_115 (by decide) ?_
          exact ih hf hH (lv_sub hl [6, 2, 1, 0] rfl)
set_option maxHeartbeats 4000000 in
set_option maxRecDepth 100000 in
theorem v_SM_merge_0 (X : sk_X p m c b_SM_merge 9 s args R_SM D cA A) (hr : meth.sig.returnType = (some .int)) (hlk : meth.locks = false) {u : sk_T} {a : Int32} {b : Int32} {z : Int32 × sk_T} (hf : sk_merge u a b = some z) {H : Heap} {locs : List Loc} {ls : Array Slot} (hH : sk_H D A s.heap H locs o q cA u) (hl : lv_has ls 9 [(0, .ref o), (1, .int a), (2, .int b)]) : W p l e rm_SM_merge s m args below meth c H locs 0 0 (MQ below (sk_Qi D o q cA A z.1 z.2) args s 0 0 A) (F0 m 0 ls []) := by
  unfold sk_merge at hf
  refine lv_iload_n X.1.1 X.1.2.1 d_SM_merge_0 rfl (lv_at hl 1 rfl) ?_
  refine lv_istore_n (lv' := [(3, .int a), (0, .ref o), (1, .int a), (2, .int b)]) X.1.1 X.1.2.1 d_SM_merge_1 rfl hl (by decide) rfl (fun ls hl => ?_)
  refine lv_iload_n X.1.1 X.1.2.1 d_SM_merge_2 rfl (lv_at hl 3 rfl) ?_
  refine lv_istore (lv' := [(4, .int b), (3, .int a), (0, .ref o), (1, .int a), (2, .int b)]) X.1.1 X.1.2.1 d_SM_merge_3 hl (by decide) rfl (fun ls hl => ?_)
  refine lv_iconst (v := (-1)) X.1.1 X.1.2.1 d_SM_merge_5 (by decide) ?_
  refine lv_istore (lv' := [(5, .int (-1)), (4, .int b), (3, .int a), (0, .ref o), (1, .int a), (2, .int b)]) X.1.1 X.1.2.1 d_SM_merge_6 hl (by decide) rfl (fun ls hl => ?_)
  exact v_SM_merge_8 X hr hlk _ hf hH (lv_sub hl [3, 2, 1, 0] rfl)
end V_SM_merge
theorem c_SM_merge {l : Launch} {D : va_G} {o : Nat} {q : Nat → Nat} {cA : ClassId} {u : sk_T} {a : Int32} {b : Int32} {z : Int32 × sk_T} (hf : sk_merge u a b = some z) : sk_Mi l y_SM_merge w_SM_merge rm_SM_merge D o q cA [.ref o, .int a, .int b] u z.1 z.2 :=
  sk_entry (own := R_SM) (fun A => sk_Qi D o q cA A z.1 z.2) (by decide) rfl (Nat.le_of_ble_eq_true rfl) (fun p e s m below meth c A ls X hr hlk hH hl => v_SM_merge_0 X hr hlk hf hH hl)
theorem k_SM_merge {R : Room} {s : State} {args : Array Value} (ht : ∀ w ∈ lw_big, w.before args s = true) (hR : rm_SM_merge.frames + 1 ≤ R.frames ∧ 8 + (9 + 11) + rm_SM_merge.locals ≤ R.locals) : CallW R s args R_SM R_SM 113 y_SM_merge b_SM_merge 9 (some .int) w_SM_merge rm_SM_merge 0 0 2 := cwV 2 ht g_SM_SM_merge e_SM_merge rfl rfl (by decide +kernel) hR
-- SM_heap
def rm_SM_heap : Room := { frames := 1, cells := 0, slots := 0, locals := 21 }
section V_SM_heap
variable {p : Program} {l : Launch} {e : Env} {s : State} {m : MethodId} {args : Array Value} {below : List Frame} {meth : Method} {c : Code} {D : va_G} {A : Nat → Prop} {o : Nat} {q : Nat → Nat} {cA : ClassId} {Q : State → Prop}
set_option maxHeartbeats 4000000 in
set_option maxRecDepth 100000 in
theorem v_SM_heap_6 (X : sk_X p m c b_SM_heap 1 s args R_SM D cA A) (hr : meth.sig.returnType = (some .int)) (hlk : meth.locks = false) {u : sk_T} {z : Int32 × sk_T} (hf : sk_heap2 u = some z) {H : Heap} {locs : List Loc} {ls : Array Slot} (hH : sk_H D A s.heap H locs o q cA u) (hl : lv_has ls 1 [(0, .ref o)]) : W p l e rm_SM_heap s m args below meth c H locs 0 0 (MQ below (sk_Qi D o q cA A z.1 z.2) args s 0 0 A) (F0 m 6 ls []) := by
  unfold sk_heap2 at hf
  refine lv_aload_n X.1.1 X.1.2.1 d_SM_heap_6 rfl (lv_at hl 0 rfl) ?_
  refine sk_gf X hH 7 41 (by decide) mf_SM_41 (v := .int (u.2 2)) rfl d_SM_heap_7 ?_
  refine lv_bipush (v := 8) X.1.1 X.1.2.1 d_SM_heap_10 (by decide) ?_
  refine lv_icmp_ne (tgt := 17) X.1.1 X.1.2.1 d_SM_heap_12 (by decide) (fun c1 => ?_) (fun c1 => ?_)
  · replace hf := im c1 hf
    refine lv_aload_n X.1.1 X.1.2.1 d_SM_heap_17 rfl (lv_at hl 0 rfl) ?_
    refine sk_gf X hH 8 29 (by decide) mf_SM_29 (v := .ref (q 5)) rfl d_SM_heap_18 ?_
    refine lv_aload_n X.1.1 X.1.2.1 d_SM_heap_21 rfl (lv_at hl 0 rfl) ?_
    refine sk_gf X hH 7 41 (by decide) mf_SM_41 (v := .int (u.2 2)) rfl d_SM_heap_22 ?_
    refine lv_iconst (v := (-1)) X.1.1 X.1.2.1 d_SM_heap_25 (by decide) ?_
    obtain ⟨u2, h3, hf⟩ := ob hf
    refine sk_st X hH 5 (by decide) h3 d_SM_heap_26 (fun H locs hH => ?_)
    refine lv_aload_n X.1.1 X.1.2.1 d_SM_heap_27 rfl (lv_at hl 0 rfl) ?_
    refine sk_gf X hH 9 32 (by decide) mf_SM_32 (v := .ref (q 6)) rfl d_SM_heap_28 ?_
    refine lv_aload_n X.1.1 X.1.2.1 d_SM_heap_31 rfl (lv_at hl 0 rfl) ?_
    refine sk_gf X hH 7 41 (by decide) mf_SM_41 (v := .int (u2.2 2)) rfl d_SM_heap_32 ?_
    refine lv_iconst (v := 0) X.1.1 X.1.2.1 d_SM_heap_35 (by decide) ?_
    obtain ⟨u4, h5, hf⟩ := ob hf
    refine sk_st X hH 6 (by decide) h5 d_SM_heap_36 (fun H locs hH => ?_)
    refine lv_aload_n X.1.1 X.1.2.1 d_SM_heap_37 rfl (lv_at hl 0 rfl) ?_
    refine lv_dup X.1.1 X.1.2.1 d_SM_heap_38 rfl ?_
    refine sk_gf X hH 7 41 (by decide) mf_SM_41 (v := .int (u4.2 2)) rfl d_SM_heap_39 ?_
    refine lv_dup_x1 X.1.1 X.1.2.1 d_SM_heap_42 rfl rfl ?_
    refine lv_iconst (v := 1) X.1.1 X.1.2.1 d_SM_heap_43 (by decide) ?_
    refine lv_iadd X.1.1 X.1.2.1 d_SM_heap_44 ?_
    refine sk_pf X hH 7 2 41 (by decide) mf_SM_41 rfl (by decide +kernel) rfl d_SM_heap_45 (fun H locs hH => ?_)
    obtain rfl := Option.some.inj hf
    exact sk_iret X hr hlk hH d_SM_heap_48
  · replace hf := ip c1 hf
    refine lv_iconst (v := (-1)) X.1.1 X.1.2.1 d_SM_heap_15 (by decide) ?_
    obtain rfl := Option.some.inj hf
    exact sk_iret X hr hlk hH d_SM_heap_16
set_option maxHeartbeats 4000000 in
set_option maxRecDepth 100000 in
theorem v_SM_heap_0 (X : sk_X p m c b_SM_heap 1 s args R_SM D cA A) (hr : meth.sig.returnType = (some .int)) (hlk : meth.locks = false) {u : sk_T} {z : Int32 × sk_T} (hf : sk_heap u = some z) {H : Heap} {locs : List Loc} {ls : Array Slot} (hH : sk_H D A s.heap H locs o q cA u) (hl : lv_has ls 1 [(0, .ref o)]) : W p l e rm_SM_heap s m args below meth c H locs 0 0 (MQ below (sk_Qi D o q cA A z.1 z.2) args s 0 0 A) (F0 m 0 ls []) := by
  unfold sk_heap at hf
  refine lv_aload_n X.1.1 X.1.2.1 d_SM_heap_0 rfl (lv_at hl 0 rfl) ?_
  refine lv_ldc (v := sk_MAX) X.1.1 X.1.2.1 X.1.2.2.2.1 (X.1.2.2.2.2 _ mk_SM_78) d_SM_heap_1 ?_
  refine sk_callv X hH (As := [.int sk_MAX]) (rest := []) (c_SM_begin) (k_SM_begin X.1.2.2.2.2 ⟨(Nat.le_of_ble_eq_true rfl), (Nat.le_of_ble_eq_true rfl)⟩) rfl hl.1 rfl (Nat.le_of_ble_eq_true rfl) d_SM_heap_3 ⟨Nat.zero_le _, Nat.zero_le _⟩ (fun H locs hH => ?_)
  exact v_SM_heap_6 X hr hlk hf hH (lv_sub hl [0] rfl)
end V_SM_heap
theorem c_SM_heap {l : Launch} {D : va_G} {o : Nat} {q : Nat → Nat} {cA : ClassId} {u : sk_T} {z : Int32 × sk_T} (hf : sk_heap u = some z) : sk_Mi l y_SM_heap w_SM_heap rm_SM_heap D o q cA [.ref o] u z.1 z.2 :=
  sk_entry (own := R_SM) (fun A => sk_Qi D o q cA A z.1 z.2) (by decide) rfl (Nat.le_of_ble_eq_true rfl) (fun p e s m below meth c A ls X hr hlk hH hl => v_SM_heap_0 X hr hlk hf hH hl)
-- SM_add
def rm_SM_add : Room := { frames := 4, cells := 0, slots := 0, locals := 99 }
section V_SM_add
variable {p : Program} {l : Launch} {e : Env} {s : State} {m : MethodId} {args : Array Value} {below : List Frame} {meth : Method} {c : Code} {D : va_G} {A : Nat → Prop} {o : Nat} {q : Nat → Nat} {cA : ClassId} {Q : State → Prop}
set_option maxHeartbeats 4000000 in
set_option maxRecDepth 100000 in
theorem v_SM_add_6 (X : sk_X p m c b_SM_add 4 s args R_SM D cA A) (hr : meth.sig.returnType = (some .int)) (hlk : meth.locks = false) {u : sk_T} {x : Int32} {y : Int32} {z : Int32 × sk_T} (hf : sk_add2 u x y = some z) {H : Heap} {locs : List Loc} {ls : Array Slot} (hH : sk_H D A s.heap H locs o q cA u) (hl : lv_has ls 4 [(0, .ref o), (1, .int x), (2, .int y)]) : W p l e rm_SM_add s m args below meth c H locs 0 0 (MQ below (sk_Qi D o q cA A z.1 z.2) args s 0 0 A) (F0 m 6 ls []) := by
  unfold sk_add2 at hf
  refine lv_aload_n X.1.1 X.1.2.1 d_SM_add_6 rfl (lv_at hl 0 rfl) ?_
  refine lv_iload_n X.1.1 X.1.2.1 d_SM_add_7 rfl (lv_at hl 1 rfl) ?_
  refine sk_calli X hH (As := [.int x]) (rest := []) (c_SM_isHeap) (k_SM_isHeap X.1.2.2.2.2 ⟨(Nat.le_of_ble_eq_true rfl), (Nat.le_of_ble_eq_true rfl)⟩) rfl hl.1 rfl (Nat.le_of_ble_eq_true rfl) d_SM_add_8 ⟨Nat.zero_le _, Nat.zero_le _⟩ (fun H locs hH => ?_)
  refine lv_if_ne (tgt := 16) X.1.1 X.1.2.1 d_SM_add_11 (by decide) (fun c1 => ?_) (fun c1 => ?_)
  · replace hf := im c1 hf
    refine lv_aload_n X.1.1 X.1.2.1 d_SM_add_16 rfl (lv_at hl 0 rfl) ?_
    refine sk_gf X hH 6 25 (by decide) mf_SM_25 (v := .int (u.2 1)) rfl d_SM_add_17 ?_
    refine lv_if_ne (tgt := 26) X.1.1 X.1.2.1 d_SM_add_20 (by decide) (fun c2 => ?_) (fun c2 => ?_)
    · replace hf := im c2 hf
      refine lv_aload_n X.1.1 X.1.2.1 d_SM_add_26 rfl (lv_at hl 0 rfl) ?_
      refine lv_aload_n X.1.1 X.1.2.1 d_SM_add_27 rfl (lv_at hl 0 rfl) ?_
      refine sk_gf X hH 8 29 (by decide) mf_SM_29 (v := .ref (q 5)) rfl d_SM_add_28 ?_
      refine lv_iload_n X.1.1 X.1.2.1 d_SM_add_31 rfl (lv_at hl 1 rfl) ?_
      refine lv_aload_n X.1.1 X.1.2.1 d_SM_add_32 rfl (lv_at hl 0 rfl) ?_
      refine lv_aload_n X.1.1 X.1.2.1 d_SM_add_33 rfl (lv_at hl 0 rfl) ?_
      refine lv_iload_n X.1.1 X.1.2.1 d_SM_add_34 rfl (lv_at hl 2 rfl) ?_
      obtain ⟨p3, h4, hf⟩ := ob hf
      refine sk_calli X hH (As := [.int y]) (rest := [.ref o, .int x, .ref (q 5), .ref o]) (c_SM_make h4) (k_SM_make X.1.2.2.2.2 ⟨(Nat.le_of_ble_eq_true rfl), (Nat.le_of_ble_eq_true rfl)⟩) rfl hl.1 rfl (Nat.le_of_ble_eq_true rfl) d_SM_add_35 ⟨Nat.zero_le _, Nat.zero_le _⟩ (fun H locs hH => ?_)
      refine lv_aload_n X.1.1 X.1.2.1 d_SM_add_38 rfl (lv_at hl 0 rfl) ?_
      refine lv_aload_n X.1.1 X.1.2.1 d_SM_add_39 rfl (lv_at hl 0 rfl) ?_
      refine sk_gf X hH 8 29 (by decide) mf_SM_29 (v := .ref (q 5)) rfl d_SM_add_40 ?_
      refine lv_iload_n X.1.1 X.1.2.1 d_SM_add_43 rfl (lv_at hl 1 rfl) ?_
      obtain ⟨p5, h6, hf⟩ := ob hf
      refine sk_calli X hH (As := [.ref (q 5), .int x]) (rest := [.int p3.1, .ref o, .int x, .ref (q 5), .ref o]) (c_SM_get 5 (by decide) h6) (k_SM_get X.1.2.2.2.2 ⟨(Nat.le_of_ble_eq_true rfl), (Nat.le_of_ble_eq_true rfl)⟩) rfl hl.1 rfl (Nat.le_of_ble_eq_true rfl) d_SM_add_44 ⟨Nat.zero_le _, Nat.zero_le _⟩ (fun H locs hH => ?_)
      obtain ⟨p7, h8, hf⟩ := ob hf
      refine sk_calli X hH (As := [.int p3.1, .int p5.1]) (rest := [.int x, .ref (q 5), .ref o]) (c_SM_insert h8) (k_SM_insert X.1.2.2.2.2 ⟨(Nat.le_of_ble_eq_true rfl), (Nat.le_of_ble_eq_true rfl)⟩) rfl hl.1 rfl (Nat.le_of_ble_eq_true rfl) d_SM_add_47 ⟨Nat.zero_le _, Nat.zero_le _⟩ (fun H locs hH => ?_)
      obtain ⟨u9, h10, hf⟩ := ob hf
      refine sk_callv X hH (As := [.ref (q 5), .int x, .int p7.1]) (rest := []) (c_SM_set 5 (by decide) h10) (k_SM_set X.1.2.2.2.2 ⟨(Nat.le_of_ble_eq_true rfl), (Nat.le_of_ble_eq_true rfl)⟩) rfl hl.1 rfl (Nat.le_of_ble_eq_true rfl) d_SM_add_50 ⟨Nat.zero_le _, Nat.zero_le _⟩ (fun H locs hH => ?_)
      refine lv_aload_n X.1.1 X.1.2.1 d_SM_add_53 rfl (lv_at hl 0 rfl) ?_
      refine lv_aload_n X.1.1 X.1.2.1 d_SM_add_54 rfl (lv_at hl 0 rfl) ?_
      refine sk_gf X hH 9 32 (by decide) mf_SM_32 (v := .ref (q 6)) rfl d_SM_add_55 ?_
      refine lv_iload_n X.1.1 X.1.2.1 d_SM_add_58 rfl (lv_at hl 1 rfl) ?_
      obtain ⟨p11, h12, hf⟩ := ob hf
      refine sk_calli X hH (As := [.ref (q 6), .int x]) (rest := []) (c_SM_get 6 (by decide) h12) (k_SM_get X.1.2.2.2.2 ⟨(Nat.le_of_ble_eq_true rfl), (Nat.le_of_ble_eq_true rfl)⟩) rfl hl.1 rfl (Nat.le_of_ble_eq_true rfl) d_SM_add_59 ⟨Nat.zero_le _, Nat.zero_le _⟩ (fun H locs hH => ?_)
      refine lv_iconst (v := 1) X.1.1 X.1.2.1 d_SM_add_62 (by decide) ?_
      refine lv_iadd X.1.1 X.1.2.1 d_SM_add_63 ?_
      refine lv_istore_n (lv' := [(3, .int (p11.1 + 1)), (0, .ref o), (1, .int x), (2, .int y)]) X.1.1 X.1.2.1 d_SM_add_64 rfl hl (by decide) rfl (fun ls hl => ?_)
      refine lv_aload_n X.1.1 X.1.2.1 d_SM_add_65 rfl (lv_at hl 1 rfl) ?_
      refine lv_aload_n X.1.1 X.1.2.1 d_SM_add_66 rfl (lv_at hl 1 rfl) ?_
      refine sk_gf X hH 9 32 (by decide) mf_SM_32 (v := .ref (q 6)) rfl d_SM_add_67 ?_
      refine lv_iload_n X.1.1 X.1.2.1 d_SM_add_70 rfl (lv_at hl 2 rfl) ?_
      refine lv_iload_n X.1.1 X.1.2.1 d_SM_add_71 rfl (lv_at hl 0 rfl) ?_
      obtain ⟨u13, h14, hf⟩ := ob hf
      refine sk_callv X hH (As := [.ref (q 6), .int x, .int (p11.1 + 1)]) (rest := []) (c_SM_set 6 (by decide) h14) (k_SM_set X.1.2.2.2.2 ⟨(Nat.le_of_ble_eq_true rfl), (Nat.le_of_ble_eq_true rfl)⟩) rfl hl.1 rfl (Nat.le_of_ble_eq_true rfl) d_SM_add_72 ⟨Nat.zero_le _, Nat.zero_le _⟩ (fun H locs hH => ?_)
      refine lv_iload_n X.1.1 X.1.2.1 d_SM_add_75 rfl (lv_at hl 0 rfl) ?_
      obtain rfl := Option.some.inj hf
      exact sk_iret X hr hlk hH d_SM_add_76
    · replace hf := ip c2 hf
      refine lv_bipush (v := (-2)) X.1.1 X.1.2.1 d_SM_add_23 (by decide) ?_
      obtain rfl := Option.some.inj hf
      exact sk_iret X hr hlk hH d_SM_add_25
  · replace hf := ip c1 hf
    refine lv_iconst (v := (-1)) X.1.1 X.1.2.1 d_SM_add_14 (by decide) ?_
    obtain rfl := Option.some.inj hf
    exact sk_iret X hr hlk hH d_SM_add_15
set_option maxHeartbeats 4000000 in
set_option maxRecDepth 100000 in
theorem v_SM_add_0 (X : sk_X p m c b_SM_add 4 s args R_SM D cA A) (hr : meth.sig.returnType = (some .int)) (hlk : meth.locks = false) {u : sk_T} {x : Int32} {y : Int32} {z : Int32 × sk_T} (hf : sk_add u x y = some z) {H : Heap} {locs : List Loc} {ls : Array Slot} (hH : sk_H D A s.heap H locs o q cA u) (hl : lv_has ls 4 [(0, .ref o), (1, .int x), (2, .int y)]) : W p l e rm_SM_add s m args below meth c H locs 0 0 (MQ below (sk_Qi D o q cA A z.1 z.2) args s 0 0 A) (F0 m 0 ls []) := by
  unfold sk_add at hf
  refine lv_aload_n X.1.1 X.1.2.1 d_SM_add_0 rfl (lv_at hl 0 rfl) ?_
  refine lv_bipush (v := 100) X.1.1 X.1.2.1 d_SM_add_1 (by decide) ?_
  refine sk_callv X hH (As := [.int 100]) (rest := []) (c_SM_begin) (k_SM_begin X.1.2.2.2.2 ⟨(Nat.le_of_ble_eq_true rfl), (Nat.le_of_ble_eq_true rfl)⟩) rfl hl.1 rfl (Nat.le_of_ble_eq_true rfl) d_SM_add_3 ⟨Nat.zero_le _, Nat.zero_le _⟩ (fun H locs hH => ?_)
  exact v_SM_add_6 X hr hlk hf hH (lv_sub hl [0, 1, 2] rfl)
end V_SM_add
theorem c_SM_add {l : Launch} {D : va_G} {o : Nat} {q : Nat → Nat} {cA : ClassId} {u : sk_T} {x : Int32} {y : Int32} {z : Int32 × sk_T} (hf : sk_add u x y = some z) : sk_Mi l y_SM_add w_SM_add rm_SM_add D o q cA [.ref o, .int x, .int y] u z.1 z.2 :=
  sk_entry (own := R_SM) (fun A => sk_Qi D o q cA A z.1 z.2) (by decide) rfl (Nat.le_of_ble_eq_true rfl) (fun p e s m below meth c A ls X hr hlk hH hl => v_SM_add_0 X hr hlk hf hH hl)
-- SM_leastTree
def rm_SM_leastTree : Room := { frames := 1, cells := 0, slots := 0, locals := 22 }
section V_SM_leastTree
variable {p : Program} {l : Launch} {e : Env} {s : State} {m : MethodId} {args : Array Value} {below : List Frame} {meth : Method} {c : Code} {D : va_G} {A : Nat → Prop} {o : Nat} {q : Nat → Nat} {cA : ClassId} {Q : State → Prop}
set_option maxHeartbeats 4000000 in
set_option maxRecDepth 100000 in
theorem v_SM_leastTree_12 (X : sk_X p m c b_SM_leastTree 4 s args R_SM D cA A) (hr : meth.sig.returnType = (some .int)) (hlk : meth.locks = false) : ∀ (n : Nat) {u : sk_T} {b : Int32} {t : Int32} {z : Int32 × sk_T} (hf : sk_ltL n u b t = some z) {H : Heap} {locs : List Loc} {ls : Array Slot} (hH : sk_H D A s.heap H locs o q cA u) (hl : lv_has ls 4 [(0, .ref o), (2, .int b), (3, .int t)]), W p l e rm_SM_leastTree s m args below meth c H locs 0 0 (MQ below (sk_Qi D o q cA A z.1 z.2) args s 0 0 A) (F0 m 12 ls []) := by
  intro n
  induction n with
  | zero =>
    intro u b t z hf
    rw [sk_ltL] at hf
    cases hf
  | succ n ih =>
    intro u b t z hf H locs ls hH hl
    rw [sk_ltL] at hf
    refine lv_iload_n X.1.1 X.1.2.1 d_SM_leastTree_12 rfl (lv_at hl 2 rfl) ?_
    refine lv_iconst (v := (-1)) X.1.1 X.1.2.1 d_SM_leastTree_13 (by decide) ?_
    refine lv_icmp_eq (tgt := 57) X.1.1 X.1.2.1 d_SM_leastTree_14 (by decide) (fun c1 => ?_) (fun c1 => ?_)
    · replace hf := ip c1 hf
      refine lv_iload_n X.1.1 X.1.2.1 d_SM_leastTree_57 rfl (lv_at hl 1 rfl) ?_
      obtain rfl := Option.some.inj hf
      exact sk_iret X hr hlk hH d_SM_leastTree_58
    · replace hf := im c1 hf
      refine lv_aload_n X.1.1 X.1.2.1 d_SM_leastTree_17 rfl (lv_at hl 0 rfl) ?_
      refine lv_aload_n X.1.1 X.1.2.1 d_SM_leastTree_18 rfl (lv_at hl 0 rfl) ?_
      refine sk_gf X hH 0 7 (by decide) mf_SM_7 (v := .ref (q 0)) rfl d_SM_leastTree_19 ?_
      refine lv_iload_n X.1.1 X.1.2.1 d_SM_leastTree_22 rfl (lv_at hl 2 rfl) ?_
      obtain ⟨p2, h3, hf⟩ := ob hf
      refine sk_calli X hH (As := [.ref (q 0), .int t]) (rest := []) (c_SM_get 0 (by decide) h3) (k_SM_get X.1.2.2.2.2 ⟨(Nat.le_of_ble_eq_true rfl), (Nat.le_of_ble_eq_true rfl)⟩) rfl hl.1 rfl (Nat.le_of_ble_eq_true rfl) d_SM_leastTree_23 ⟨Nat.zero_le _, Nat.zero_le _⟩ (fun H locs hH => ?_)
      refine lv_aload_n X.1.1 X.1.2.1 d_SM_leastTree_26 rfl (lv_at hl 0 rfl) ?_
      refine lv_aload_n X.1.1 X.1.2.1 d_SM_leastTree_27 rfl (lv_at hl 0 rfl) ?_
      refine sk_gf X hH 0 7 (by decide) mf_SM_7 (v := .ref (q 0)) rfl d_SM_leastTree_28 ?_
      refine lv_iload_n X.1.1 X.1.2.1 d_SM_leastTree_31 rfl (lv_at hl 1 rfl) ?_
      obtain ⟨p4, h5, hf⟩ := ob hf
      refine sk_calli X hH (As := [.ref (q 0), .int b]) (rest := [.int p2.1]) (c_SM_get 0 (by decide) h5) (k_SM_get X.1.2.2.2.2 ⟨(Nat.le_of_ble_eq_true rfl), (Nat.le_of_ble_eq_true rfl)⟩) rfl hl.1 rfl (Nat.le_of_ble_eq_true rfl) d_SM_leastTree_32 ⟨Nat.zero_le _, Nat.zero_le _⟩ (fun H locs hH => ?_)
      refine lv_icmp_ge (tgt := 42) X.1.1 X.1.2.1 d_SM_leastTree_35 (by decide) (fun c6 => ?_) (fun c6 => ?_)
      · replace hf := ip c6 hf
        refine lv_iload_n X.1.1 X.1.2.1 d_SM_leastTree_42 rfl (lv_at hl 1 rfl) ?_
        refine lv_istore_n (lv' := [(2, .int b), (0, .ref o), (3, .int t)]) X.1.1 X.1.2.1 d_SM_leastTree_43 rfl hl (by decide) rfl (fun ls hl => ?_)
        refine lv_aload_n X.1.1 X.1.2.1 d_SM_leastTree_44 rfl (lv_at hl 1 rfl) ?_
        refine lv_aload_n X.1.1 X.1.2.1 d_SM_leastTree_45 rfl (lv_at hl 1 rfl) ?_
        refine sk_gf X hH 3 19 (by decide) mf_SM_19 (v := .ref (q 3)) rfl d_SM_leastTree_46 ?_
        refine lv_iload_n X.1.1 X.1.2.1 d_SM_leastTree_49 rfl (lv_at hl 2 rfl) ?_
        obtain ⟨p7, h8, hf⟩ := ob hf
        refine sk_calli X hH (As := [.ref (q 3), .int t]) (rest := []) (c_SM_get 3 (by decide) h8) (k_SM_get X.1.2.2.2.2 ⟨(Nat.le_of_ble_eq_true rfl), (Nat.le_of_ble_eq_true rfl)⟩) rfl hl.1 rfl (Nat.le_of_ble_eq_true rfl) d_SM_leastTree_50 ⟨Nat.zero_le _, Nat.zero_le _⟩ (fun H locs hH => ?_)
        refine lv_istore_n (lv' := [(3, .int p7.1), (2, .int b), (0, .ref o)]) X.1.1 X.1.2.1 d_SM_leastTree_53 rfl hl (by decide) rfl (fun ls hl => ?_)
        refine lv_goto (tgt := 12) X.1.1 X.1.2.1 d_SM_leastTree_54 (by decide) ?_
        exact ih hf hH (lv_sub hl [2, 1, 0] rfl)
      · replace hf := im c6 hf
        refine lv_iload_n X.1.1 X.1.2.1 d_SM_leastTree_38 rfl (lv_at hl 2 rfl) ?_
        refine lv_goto (tgt := 43) X.1.1 X.1.2.1 d_SM_leastTree_39 (by decide) ?_
        refine lv_istore_n (lv' := [(2, .int t), (0, .ref o), (3, .int t)]) X.1.1 X.1.2.1 d_SM_leastTree_43 rfl hl (by decide) rfl (fun ls hl => ?_)
        refine lv_aload_n X.1.1 X.1.2.1 d_SM_leastTree_44 rfl (lv_at hl 1 rfl) ?_
        refine lv_aload_n X.1.1 X.1.2.1 d_SM_leastTree_45 rfl (lv_at hl 1 rfl) ?_
        refine sk_gf X hH 3 19 (by decide) mf_SM_19 (v := .ref (q 3)) rfl d_SM_leastTree_46 ?_
        refine lv_iload_n X.1.1 X.1.2.1 d_SM_leastTree_49 rfl (lv_at hl 2 rfl) ?_
        obtain ⟨p9, h10, hf⟩ := ob hf
        refine sk_calli X hH (As := [.ref (q 3), .int t]) (rest := []) (c_SM_get 3 (by decide) h10) (k_SM_get X.1.2.2.2.2 ⟨(Nat.le_of_ble_eq_true rfl), (Nat.le_of_ble_eq_true rfl)⟩) rfl hl.1 rfl (Nat.le_of_ble_eq_true rfl) d_SM_leastTree_50 ⟨Nat.zero_le _, Nat.zero_le _⟩ (fun H locs hH => ?_)
        refine lv_istore_n (lv' := [(3, .int p9.1), (2, .int t), (0, .ref o)]) X.1.1 X.1.2.1 d_SM_leastTree_53 rfl hl (by decide) rfl (fun ls hl => ?_)
        refine lv_goto (tgt := 12) X.1.1 X.1.2.1 d_SM_leastTree_54 (by decide) ?_
        exact ih hf hH (lv_sub hl [2, 1, 0] rfl)
set_option maxHeartbeats 4000000 in
set_option maxRecDepth 100000 in
theorem v_SM_leastTree_0 (X : sk_X p m c b_SM_leastTree 4 s args R_SM D cA A) (hr : meth.sig.returnType = (some .int)) (hlk : meth.locks = false) {u : sk_T} {x : Int32} {z : Int32 × sk_T} (hf : sk_leastTree u x = some z) {H : Heap} {locs : List Loc} {ls : Array Slot} (hH : sk_H D A s.heap H locs o q cA u) (hl : lv_has ls 4 [(0, .ref o), (1, .int x)]) : W p l e rm_SM_leastTree s m args below meth c H locs 0 0 (MQ below (sk_Qi D o q cA A z.1 z.2) args s 0 0 A) (F0 m 0 ls []) := by
  unfold sk_leastTree at hf
  refine lv_aload_n X.1.1 X.1.2.1 d_SM_leastTree_0 rfl (lv_at hl 0 rfl) ?_
  refine lv_aload_n X.1.1 X.1.2.1 d_SM_leastTree_1 rfl (lv_at hl 0 rfl) ?_
  refine sk_gf X hH 8 29 (by decide) mf_SM_29 (v := .ref (q 5)) rfl d_SM_leastTree_2 ?_
  refine lv_iload_n X.1.1 X.1.2.1 d_SM_leastTree_5 rfl (lv_at hl 1 rfl) ?_
  obtain ⟨p1, h2, hf⟩ := ob hf
  refine sk_calli X hH (As := [.ref (q 5), .int x]) (rest := []) (c_SM_get 5 (by decide) h2) (k_SM_get X.1.2.2.2.2 ⟨(Nat.le_of_ble_eq_true rfl), (Nat.le_of_ble_eq_true rfl)⟩) rfl hl.1 rfl (Nat.le_of_ble_eq_true rfl) d_SM_leastTree_6 ⟨Nat.zero_le _, Nat.zero_le _⟩ (fun H locs hH => ?_)
  refine lv_istore_n (lv' := [(2, .int p1.1), (0, .ref o), (1, .int x)]) X.1.1 X.1.2.1 d_SM_leastTree_9 rfl hl (by decide) rfl (fun ls hl => ?_)
  refine lv_iload_n X.1.1 X.1.2.1 d_SM_leastTree_10 rfl (lv_at hl 0 rfl) ?_
  refine lv_istore_n (lv' := [(3, .int p1.1), (2, .int p1.1), (0, .ref o), (1, .int x)]) X.1.1 X.1.2.1 d_SM_leastTree_11 rfl hl (by decide) rfl (fun ls hl => ?_)
  exact v_SM_leastTree_12 X hr hlk _ hf hH (lv_sub hl [2, 1, 0] rfl)
end V_SM_leastTree
theorem c_SM_leastTree {l : Launch} {D : va_G} {o : Nat} {q : Nat → Nat} {cA : ClassId} {u : sk_T} {x : Int32} {z : Int32 × sk_T} (hf : sk_leastTree u x = some z) : sk_Mi l y_SM_leastTree w_SM_leastTree rm_SM_leastTree D o q cA [.ref o, .int x] u z.1 z.2 :=
  sk_entry (own := R_SM) (fun A => sk_Qi D o q cA A z.1 z.2) (by decide) rfl (Nat.le_of_ble_eq_true rfl) (fun p e s m below meth c A ls X hr hlk hH hl => v_SM_leastTree_0 X hr hlk hf hH hl)
theorem k_SM_leastTree {R : Room} {s : State} {args : Array Value} (ht : ∀ w ∈ lw_big, w.before args s = true) (hR : rm_SM_leastTree.frames + 1 ≤ R.frames ∧ 8 + (4 + 11) + rm_SM_leastTree.locals ≤ R.locals) : CallW R s args R_SM R_SM 96 y_SM_leastTree b_SM_leastTree 4 (some .int) w_SM_leastTree rm_SM_leastTree 0 0 1 := cwV 1 ht g_SM_SM_leastTree e_SM_leastTree rfl rfl (by decide +kernel) hR
-- SM_least
def rm_SM_least : Room := { frames := 2, cells := 0, slots := 0, locals := 45 }
section V_SM_least
variable {p : Program} {l : Launch} {e : Env} {s : State} {m : MethodId} {args : Array Value} {below : List Frame} {meth : Method} {c : Code} {D : va_G} {A : Nat → Prop} {o : Nat} {q : Nat → Nat} {cA : ClassId} {Q : State → Prop}
set_option maxHeartbeats 4000000 in
set_option maxRecDepth 100000 in
theorem v_SM_least_26 (X : sk_X p m c b_SM_least 2 s args R_SM D cA A) (hr : meth.sig.returnType = (some .long)) (hlk : meth.locks = false) {u : sk_T} {x : Int32} {z : Int64 × sk_T} (hf : sk_least2 u x = some z) {H : Heap} {locs : List Loc} {ls : Array Slot} (hH : sk_H D A s.heap H locs o q cA u) (hl : lv_has ls 2 [(0, .ref o), (1, .int x)]) : W p l e rm_SM_least s m args below meth c H locs 0 0 (MQ below (sk_Ql D o q cA A z.1 z.2) args s 0 0 A) (F0 m 26 ls []) := by
  unfold sk_least2 at hf
  refine lv_aload_n X.1.1 X.1.2.1 d_SM_least_26 rfl (lv_at hl 0 rfl) ?_
  refine lv_iload_n X.1.1 X.1.2.1 d_SM_least_27 rfl (lv_at hl 1 rfl) ?_
  refine sk_calli X hH (As := [.int x]) (rest := []) (c_SM_isHeap) (k_SM_isHeap X.1.2.2.2.2 ⟨(Nat.le_of_ble_eq_true rfl), (Nat.le_of_ble_eq_true rfl)⟩) rfl hl.1 rfl (Nat.le_of_ble_eq_true rfl) d_SM_least_28 ⟨Nat.zero_le _, Nat.zero_le _⟩ (fun H locs hH => ?_)
  refine lv_if_eq (tgt := 60) X.1.1 X.1.2.1 d_SM_least_31 (by decide) (fun c1 => ?_) (fun c1 => ?_)
  · replace hf := ip c1 hf
    refine lv_ldc2 (v := sk_MIN) X.1.1 X.1.2.1 X.1.2.2.2.1 (X.1.2.2.2.2 _ mk_SM_101) d_SM_least_60 ?_
    obtain rfl := Option.some.inj hf
    exact sk_lret X hr hlk hH d_SM_least_63
  · replace hf := im c1 hf
    refine lv_aload_n X.1.1 X.1.2.1 d_SM_least_34 rfl (lv_at hl 0 rfl) ?_
    refine sk_gf X hH 9 32 (by decide) mf_SM_32 (v := .ref (q 6)) rfl d_SM_least_35 ?_
    refine lv_iload_n X.1.1 X.1.2.1 d_SM_least_38 rfl (lv_at hl 1 rfl) ?_
    obtain ⟨x2, h3, hf⟩ := ob hf
    refine sk_ld X hH 6 (by decide) h3 d_SM_least_39 ?_
    refine lv_if_le (tgt := 60) X.1.1 X.1.2.1 d_SM_least_40 (by decide) (fun c4 => ?_) (fun c4 => ?_)
    · replace hf := ip c4 hf
      refine lv_ldc2 (v := sk_MIN) X.1.1 X.1.2.1 X.1.2.2.2.1 (X.1.2.2.2.2 _ mk_SM_101) d_SM_least_60 ?_
      obtain rfl := Option.some.inj hf
      exact sk_lret X hr hlk hH d_SM_least_63
    · replace hf := im c4 hf
      refine lv_aload_n X.1.1 X.1.2.1 d_SM_least_43 rfl (lv_at hl 0 rfl) ?_
      refine lv_aload_n X.1.1 X.1.2.1 d_SM_least_44 rfl (lv_at hl 0 rfl) ?_
      refine sk_gf X hH 0 7 (by decide) mf_SM_7 (v := .ref (q 0)) rfl d_SM_least_45 ?_
      refine lv_aload_n X.1.1 X.1.2.1 d_SM_least_48 rfl (lv_at hl 0 rfl) ?_
      refine lv_iload_n X.1.1 X.1.2.1 d_SM_least_49 rfl (lv_at hl 1 rfl) ?_
      obtain ⟨p5, h6, hf⟩ := ob hf
      refine sk_calli X hH (As := [.int x]) (rest := [.ref (q 0), .ref o]) (c_SM_leastTree h6) (k_SM_leastTree X.1.2.2.2.2 ⟨(Nat.le_of_ble_eq_true rfl), (Nat.le_of_ble_eq_true rfl)⟩) rfl hl.1 rfl (Nat.le_of_ble_eq_true rfl) d_SM_least_50 ⟨Nat.zero_le _, Nat.zero_le _⟩ (fun H locs hH => ?_)
      obtain ⟨p7, h8, hf⟩ := ob hf
      refine sk_calli X hH (As := [.ref (q 0), .int p5.1]) (rest := []) (c_SM_get 0 (by decide) h8) (k_SM_get X.1.2.2.2.2 ⟨(Nat.le_of_ble_eq_true rfl), (Nat.le_of_ble_eq_true rfl)⟩) rfl hl.1 rfl (Nat.le_of_ble_eq_true rfl) d_SM_least_53 ⟨Nat.zero_le _, Nat.zero_le _⟩ (fun H locs hH => ?_)
      refine lv_i2l (v := (Int32.toInt64 p7.1)) X.1.1 X.1.2.1 d_SM_least_56 rfl ?_
      refine lv_goto (tgt := 63) X.1.1 X.1.2.1 d_SM_least_57 (by decide) ?_
      obtain rfl := Option.some.inj hf
      exact sk_lret X hr hlk hH d_SM_least_63
set_option maxHeartbeats 4000000 in
set_option maxRecDepth 100000 in
theorem v_SM_least_0 (X : sk_X p m c b_SM_least 2 s args R_SM D cA A) (hr : meth.sig.returnType = (some .long)) (hlk : meth.locks = false) {u : sk_T} {x : Int32} {z : Int64 × sk_T} (hf : sk_least u x = some z) {H : Heap} {locs : List Loc} {ls : Array Slot} (hH : sk_H D A s.heap H locs o q cA u) (hl : lv_has ls 2 [(0, .ref o), (1, .int x)]) : W p l e rm_SM_least s m args below meth c H locs 0 0 (MQ below (sk_Ql D o q cA A z.1 z.2) args s 0 0 A) (F0 m 0 ls []) := by
  unfold sk_least at hf
  refine lv_aload_n X.1.1 X.1.2.1 d_SM_least_0 rfl (lv_at hl 0 rfl) ?_
  refine lv_aload_n X.1.1 X.1.2.1 d_SM_least_1 rfl (lv_at hl 0 rfl) ?_
  refine lv_iload_n X.1.1 X.1.2.1 d_SM_least_2 rfl (lv_at hl 1 rfl) ?_
  refine sk_calli X hH (As := [.int x]) (rest := [.ref o]) (c_SM_isHeap) (k_SM_isHeap X.1.2.2.2.2 ⟨(Nat.le_of_ble_eq_true rfl), (Nat.le_of_ble_eq_true rfl)⟩) rfl hl.1 rfl (Nat.le_of_ble_eq_true rfl) d_SM_least_3 ⟨Nat.zero_le _, Nat.zero_le _⟩ (fun H locs hH => ?_)
  refine lv_if_eq (tgt := 21) X.1.1 X.1.2.1 d_SM_least_6 (by decide) (fun c1 => ?_) (fun c1 => ?_)
  · replace hf := ip c1 hf
    refine lv_ldc (v := sk_MAX) X.1.1 X.1.2.1 X.1.2.2.2.1 (X.1.2.2.2.2 _ mk_SM_78) d_SM_least_21 ?_
    refine sk_callv X hH (As := [.int sk_MAX]) (rest := []) (c_SM_begin) (k_SM_begin X.1.2.2.2.2 ⟨(Nat.le_of_ble_eq_true rfl), (Nat.le_of_ble_eq_true rfl)⟩) rfl hl.1 rfl (Nat.le_of_ble_eq_true rfl) d_SM_least_23 ⟨Nat.zero_le _, Nat.zero_le _⟩ (fun H locs hH => ?_)
    exact v_SM_least_26 X hr hlk hf hH (lv_sub hl [0, 1] rfl)
  · replace hf := im c1 hf
    refine lv_aload_n X.1.1 X.1.2.1 d_SM_least_9 rfl (lv_at hl 0 rfl) ?_
    refine sk_gf X hH 9 32 (by decide) mf_SM_32 (v := .ref (q 6)) rfl d_SM_least_10 ?_
    refine lv_iload_n X.1.1 X.1.2.1 d_SM_least_13 rfl (lv_at hl 1 rfl) ?_
    obtain ⟨x2, h3, hf⟩ := ob hf
    refine sk_ld X hH 6 (by decide) h3 d_SM_least_14 ?_
    refine sk_calls X hH (As := [.int x2]) (rest := [.ref o]) (c_SM_fewFor) (k_SM_fewFor X.1.2.2.2.2 ⟨(Nat.le_of_ble_eq_true rfl), (Nat.le_of_ble_eq_true rfl)⟩) rfl hl.1 rfl (Nat.le_of_ble_eq_true rfl) d_SM_least_15 ⟨Nat.zero_le _, Nat.zero_le _⟩ (fun H locs hH => ?_)
    refine lv_goto (tgt := 23) X.1.1 X.1.2.1 d_SM_least_18 (by decide) ?_
    refine sk_callv X hH (As := [.int (sk_fewFor x2)]) (rest := []) (c_SM_begin) (k_SM_begin X.1.2.2.2.2 ⟨(Nat.le_of_ble_eq_true rfl), (Nat.le_of_ble_eq_true rfl)⟩) rfl hl.1 rfl (Nat.le_of_ble_eq_true rfl) d_SM_least_23 ⟨Nat.zero_le _, Nat.zero_le _⟩ (fun H locs hH => ?_)
    exact v_SM_least_26 X hr hlk hf hH (lv_sub hl [0, 1] rfl)
end V_SM_least
theorem c_SM_least {l : Launch} {D : va_G} {o : Nat} {q : Nat → Nat} {cA : ClassId} {u : sk_T} {x : Int32} {z : Int64 × sk_T} (hf : sk_least u x = some z) : sk_Ml l y_SM_least w_SM_least rm_SM_least D o q cA [.ref o, .int x] u z.1 z.2 :=
  sk_entry (own := R_SM) (fun A => sk_Ql D o q cA A z.1 z.2) (by decide) rfl (Nat.le_of_ble_eq_true rfl) (fun p e s m below meth c A ls X hr hlk hH hl => v_SM_least_0 X hr hlk hf hH hl)
-- SM_remove
def rm_SM_remove : Room := { frames := 1, cells := 0, slots := 0, locals := 23 }
section V_SM_remove
variable {p : Program} {l : Launch} {e : Env} {s : State} {m : MethodId} {args : Array Value} {below : List Frame} {meth : Method} {c : Code} {D : va_G} {A : Nat → Prop} {o : Nat} {q : Nat → Nat} {cA : ClassId} {Q : State → Prop}
set_option maxHeartbeats 4000000 in
set_option maxRecDepth 100000 in
theorem v_SM_remove_38 (X : sk_X p m c b_SM_remove 5 s args R_SM D cA A) (hr : meth.sig.returnType = none) (hlk : meth.locks = false) : ∀ (n : Nat) {u : sk_T} {y : Int32} {a : Int32} {t : Int32} {z : sk_T} (hf : sk_remL n u y a t = some z) {H : Heap} {locs : List Loc} {ls : Array Slot} (hH : sk_H D A s.heap H locs o q cA u) (hl : lv_has ls 5 [(0, .ref o), (2, .int y), (3, .int a), (4, .int t)]), W p l e rm_SM_remove s m args below meth c H locs 0 0 (MQ below (sk_Qv D o q cA A z) args s 0 0 A) (F0 m 38 ls []) := by
  intro n
  induction n with
  | zero =>
    intro u y a t z hf
    rw [sk_remL] at hf
    cases hf
  | succ n ih =>
    intro u y a t z hf H locs ls hH hl
    rw [sk_remL] at hf
    refine lv_aload_n X.1.1 X.1.2.1 d_SM_remove_38 rfl (lv_at hl 0 rfl) ?_
    refine lv_aload_n X.1.1 X.1.2.1 d_SM_remove_39 rfl (lv_at hl 0 rfl) ?_
    refine sk_gf X hH 3 19 (by decide) mf_SM_19 (v := .ref (q 3)) rfl d_SM_remove_40 ?_
    refine lv_iload X.1.1 X.1.2.1 d_SM_remove_43 (lv_at hl 3 rfl) ?_
    obtain ⟨p1, h2, hf⟩ := ob hf
    refine sk_calli X hH (As := [.ref (q 3), .int t]) (rest := []) (c_SM_get 3 (by decide) h2) (k_SM_get X.1.2.2.2.2 ⟨(Nat.le_of_ble_eq_true rfl), (Nat.le_of_ble_eq_true rfl)⟩) rfl hl.1 rfl (Nat.le_of_ble_eq_true rfl) d_SM_remove_45 ⟨Nat.zero_le _, Nat.zero_le _⟩ (fun H locs hH => ?_)
    refine lv_iload_n X.1.1 X.1.2.1 d_SM_remove_48 rfl (lv_at hl 1 rfl) ?_
    refine lv_icmp_eq (tgt := 67) X.1.1 X.1.2.1 d_SM_remove_49 (by decide) (fun c3 => ?_) (fun c3 => ?_)
    · replace hf := ip c3 hf
      refine lv_aload_n X.1.1 X.1.2.1 d_SM_remove_67 rfl (lv_at hl 0 rfl) ?_
      refine lv_aload_n X.1.1 X.1.2.1 d_SM_remove_68 rfl (lv_at hl 0 rfl) ?_
      refine sk_gf X hH 3 19 (by decide) mf_SM_19 (v := .ref (q 3)) rfl d_SM_remove_69 ?_
      refine lv_iload X.1.1 X.1.2.1 d_SM_remove_72 (lv_at hl 3 rfl) ?_
      refine lv_iload_n X.1.1 X.1.2.1 d_SM_remove_74 rfl (lv_at hl 2 rfl) ?_
      obtain ⟨u4, h5, hf⟩ := ob hf
      refine sk_callv X hH (As := [.ref (q 3), .int t, .int a]) (rest := []) (c_SM_set 3 (by decide) h5) (k_SM_set X.1.2.2.2.2 ⟨(Nat.le_of_ble_eq_true rfl), (Nat.le_of_ble_eq_true rfl)⟩) rfl hl.1 rfl (Nat.le_of_ble_eq_true rfl) d_SM_remove_75 ⟨Nat.zero_le _, Nat.zero_le _⟩ (fun H locs hH => ?_)
      obtain rfl := Option.some.inj hf
      exact sk_vret X hr hlk hH d_SM_remove_78
    · replace hf := im c3 hf
      refine lv_aload_n X.1.1 X.1.2.1 d_SM_remove_52 rfl (lv_at hl 0 rfl) ?_
      refine lv_aload_n X.1.1 X.1.2.1 d_SM_remove_53 rfl (lv_at hl 0 rfl) ?_
      refine sk_gf X hH 3 19 (by decide) mf_SM_19 (v := .ref (q 3)) rfl d_SM_remove_54 ?_
      refine lv_iload X.1.1 X.1.2.1 d_SM_remove_57 (lv_at hl 3 rfl) ?_
      obtain ⟨p6, h7, hf⟩ := ob hf
      refine sk_calli X hH (As := [.ref (q 3), .int t]) (rest := []) (c_SM_get 3 (by decide) h7) (k_SM_get X.1.2.2.2.2 ⟨(Nat.le_of_ble_eq_true rfl), (Nat.le_of_ble_eq_true rfl)⟩) rfl hl.1 rfl (Nat.le_of_ble_eq_true rfl) d_SM_remove_59 ⟨Nat.zero_le _, Nat.zero_le _⟩ (fun H locs hH => ?_)
      refine lv_istore (lv' := [(4, .int p6.1), (0, .ref o), (2, .int y), (3, .int a)]) X.1.1 X.1.2.1 d_SM_remove_62 hl (by decide) rfl (fun ls hl => ?_)
      refine lv_goto (tgt := 38) X.1.1 X.1.2.1 d_SM_remove_64 (by decide) ?_
      exact ih hf hH (lv_sub hl [1, 2, 3, 0] rfl)
set_option maxHeartbeats 4000000 in
set_option maxRecDepth 100000 in
theorem v_SM_remove_0 (X : sk_X p m c b_SM_remove 5 s args R_SM D cA A) (hr : meth.sig.returnType = none) (hlk : meth.locks = false) {u : sk_T} {x : Int32} {y : Int32} {z : sk_T} (hf : sk_remove u x y = some z) {H : Heap} {locs : List Loc} {ls : Array Slot} (hH : sk_H D A s.heap H locs o q cA u) (hl : lv_has ls 5 [(0, .ref o), (1, .int x), (2, .int y)]) : W p l e rm_SM_remove s m args below meth c H locs 0 0 (MQ below (sk_Qv D o q cA A z) args s 0 0 A) (F0 m 0 ls []) := by
  unfold sk_remove at hf
  refine lv_aload_n X.1.1 X.1.2.1 d_SM_remove_0 rfl (lv_at hl 0 rfl) ?_
  refine lv_aload_n X.1.1 X.1.2.1 d_SM_remove_1 rfl (lv_at hl 0 rfl) ?_
  refine sk_gf X hH 3 19 (by decide) mf_SM_19 (v := .ref (q 3)) rfl d_SM_remove_2 ?_
  refine lv_iload_n X.1.1 X.1.2.1 d_SM_remove_5 rfl (lv_at hl 2 rfl) ?_
  obtain ⟨p1, h2, hf⟩ := ob hf
  refine sk_calli X hH (As := [.ref (q 3), .int y]) (rest := []) (c_SM_get 3 (by decide) h2) (k_SM_get X.1.2.2.2.2 ⟨(Nat.le_of_ble_eq_true rfl), (Nat.le_of_ble_eq_true rfl)⟩) rfl hl.1 rfl (Nat.le_of_ble_eq_true rfl) d_SM_remove_6 ⟨Nat.zero_le _, Nat.zero_le _⟩ (fun H locs hH => ?_)
  refine lv_istore_n (lv' := [(3, .int p1.1), (0, .ref o), (1, .int x), (2, .int y)]) X.1.1 X.1.2.1 d_SM_remove_9 rfl hl (by decide) rfl (fun ls hl => ?_)
  refine lv_aload_n X.1.1 X.1.2.1 d_SM_remove_10 rfl (lv_at hl 1 rfl) ?_
  refine lv_aload_n X.1.1 X.1.2.1 d_SM_remove_11 rfl (lv_at hl 1 rfl) ?_
  refine sk_gf X hH 8 29 (by decide) mf_SM_29 (v := .ref (q 5)) rfl d_SM_remove_12 ?_
  refine lv_iload_n X.1.1 X.1.2.1 d_SM_remove_15 rfl (lv_at hl 2 rfl) ?_
  obtain ⟨p3, h4, hf⟩ := ob hf
  refine sk_calli X hH (As := [.ref (q 5), .int x]) (rest := []) (c_SM_get 5 (by decide) h4) (k_SM_get X.1.2.2.2.2 ⟨(Nat.le_of_ble_eq_true rfl), (Nat.le_of_ble_eq_true rfl)⟩) rfl hl.1 rfl (Nat.le_of_ble_eq_true rfl) d_SM_remove_16 ⟨Nat.zero_le _, Nat.zero_le _⟩ (fun H locs hH => ?_)
  refine lv_istore (lv' := [(4, .int p3.1), (3, .int p1.1), (0, .ref o), (1, .int x), (2, .int y)]) X.1.1 X.1.2.1 d_SM_remove_19 hl (by decide) rfl (fun ls hl => ?_)
  refine lv_iload X.1.1 X.1.2.1 d_SM_remove_21 (lv_at hl 0 rfl) ?_
  refine lv_iload_n X.1.1 X.1.2.1 d_SM_remove_23 rfl (lv_at hl 4 rfl) ?_
  refine lv_icmp_ne (tgt := 38) X.1.1 X.1.2.1 d_SM_remove_24 (by decide) (fun c5 => ?_) (fun c5 => ?_)
  · replace hf := im c5 hf
    exact v_SM_remove_38 X hr hlk _ hf hH (lv_sub hl [2, 4, 1, 0] rfl)
  · replace hf := ip c5 hf
    refine lv_aload_n X.1.1 X.1.2.1 d_SM_remove_27 rfl (lv_at hl 2 rfl) ?_
    refine lv_aload_n X.1.1 X.1.2.1 d_SM_remove_28 rfl (lv_at hl 2 rfl) ?_
    refine sk_gf X hH 8 29 (by decide) mf_SM_29 (v := .ref (q 5)) rfl d_SM_remove_29 ?_
    refine lv_iload_n X.1.1 X.1.2.1 d_SM_remove_32 rfl (lv_at hl 3 rfl) ?_
    refine lv_iload_n X.1.1 X.1.2.1 d_SM_remove_33 rfl (lv_at hl 1 rfl) ?_
    obtain ⟨u6, h7, hf⟩ := ob hf
    refine sk_callv X hH (As := [.ref (q 5), .int x, .int p1.1]) (rest := []) (c_SM_set 5 (by decide) h7) (k_SM_set X.1.2.2.2.2 ⟨(Nat.le_of_ble_eq_true rfl), (Nat.le_of_ble_eq_true rfl)⟩) rfl hl.1 rfl (Nat.le_of_ble_eq_true rfl) d_SM_remove_34 ⟨Nat.zero_le _, Nat.zero_le _⟩ (fun H locs hH => ?_)
    obtain rfl := Option.some.inj hf
    exact sk_vret X hr hlk hH d_SM_remove_37
end V_SM_remove
theorem c_SM_remove {l : Launch} {D : va_G} {o : Nat} {q : Nat → Nat} {cA : ClassId} {u : sk_T} {x : Int32} {y : Int32} {z : sk_T} (hf : sk_remove u x y = some z) : sk_Mv l y_SM_remove w_SM_remove rm_SM_remove D o q cA [.ref o, .int x, .int y] u z :=
  sk_entry (own := R_SM) (fun A => sk_Qv D o q cA A z) (by decide) rfl (Nat.le_of_ble_eq_true rfl) (fun p e s m below meth c A ls X hr hlk hH hl => v_SM_remove_0 X hr hlk hf hH hl)
theorem k_SM_remove {R : Room} {s : State} {args : Array Value} (ht : ∀ w ∈ lw_big, w.before args s = true) (hR : rm_SM_remove.frames + 1 ≤ R.frames ∧ 8 + (5 + 11) + rm_SM_remove.locals ≤ R.locals) : CallW R s args R_SM R_SM 103 y_SM_remove b_SM_remove 5 none w_SM_remove rm_SM_remove 0 0 2 := cwV 2 ht g_SM_SM_remove e_SM_remove rfl rfl (by decide +kernel) hR
-- SM_turned
def rm_SM_turned : Room := { frames := 1, cells := 0, slots := 0, locals := 23 }
section V_SM_turned
variable {p : Program} {l : Launch} {e : Env} {s : State} {m : MethodId} {args : Array Value} {below : List Frame} {meth : Method} {c : Code} {D : va_G} {A : Nat → Prop} {o : Nat} {q : Nat → Nat} {cA : ClassId} {Q : State → Prop}
set_option maxHeartbeats 4000000 in
set_option maxRecDepth 100000 in
theorem v_SM_turned_4 (X : sk_X p m c b_SM_turned 5 s args R_SM D cA A) (hr : meth.sig.returnType = (some .int)) (hlk : meth.locks = false) : ∀ (n : Nat) {u : sk_T} {mm : Int32} {t : Int32} {z : Int32 × sk_T} (hf : sk_turL n u mm t = some z) {H : Heap} {locs : List Loc} {ls : Array Slot} (hH : sk_H D A s.heap H locs o q cA u) (hl : lv_has ls 5 [(0, .ref o), (2, .int mm), (3, .int t)]), W p l e rm_SM_turned s m args below meth c H locs 0 0 (MQ below (sk_Qi D o q cA A z.1 z.2) args s 0 0 A) (F0 m 4 ls []) := by
  intro n
  induction n with
  | zero =>
    intro u mm t z hf
    rw [sk_turL] at hf
    cases hf
  | succ n ih =>
    intro u mm t z hf H locs ls hH hl
    rw [sk_turL] at hf
    refine lv_iload_n X.1.1 X.1.2.1 d_SM_turned_4 rfl (lv_at hl 2 rfl) ?_
    refine lv_iconst (v := (-1)) X.1.1 X.1.2.1 d_SM_turned_5 (by decide) ?_
    refine lv_icmp_eq (tgt := 38) X.1.1 X.1.2.1 d_SM_turned_6 (by decide) (fun c1 => ?_) (fun c1 => ?_)
    · replace hf := ip c1 hf
      refine lv_iload_n X.1.1 X.1.2.1 d_SM_turned_38 rfl (lv_at hl 1 rfl) ?_
      obtain rfl := Option.some.inj hf
      exact sk_iret X hr hlk hH d_SM_turned_39
    · replace hf := im c1 hf
      refine lv_aload_n X.1.1 X.1.2.1 d_SM_turned_9 rfl (lv_at hl 0 rfl) ?_
      refine lv_aload_n X.1.1 X.1.2.1 d_SM_turned_10 rfl (lv_at hl 0 rfl) ?_
      refine sk_gf X hH 3 19 (by decide) mf_SM_19 (v := .ref (q 3)) rfl d_SM_turned_11 ?_
      refine lv_iload_n X.1.1 X.1.2.1 d_SM_turned_14 rfl (lv_at hl 2 rfl) ?_
      obtain ⟨p2, h3, hf⟩ := ob hf
      refine sk_calli X hH (As := [.ref (q 3), .int t]) (rest := []) (c_SM_get 3 (by decide) h3) (k_SM_get X.1.2.2.2.2 ⟨(Nat.le_of_ble_eq_true rfl), (Nat.le_of_ble_eq_true rfl)⟩) rfl hl.1 rfl (Nat.le_of_ble_eq_true rfl) d_SM_turned_15 ⟨Nat.zero_le _, Nat.zero_le _⟩ (fun H locs hH => ?_)
      refine lv_istore (lv' := [(4, .int p2.1), (0, .ref o), (2, .int mm), (3, .int t)]) X.1.1 X.1.2.1 d_SM_turned_18 hl (by decide) rfl (fun ls hl => ?_)
      refine lv_aload_n X.1.1 X.1.2.1 d_SM_turned_20 rfl (lv_at hl 1 rfl) ?_
      refine lv_aload_n X.1.1 X.1.2.1 d_SM_turned_21 rfl (lv_at hl 1 rfl) ?_
      refine sk_gf X hH 3 19 (by decide) mf_SM_19 (v := .ref (q 3)) rfl d_SM_turned_22 ?_
      refine lv_iload_n X.1.1 X.1.2.1 d_SM_turned_25 rfl (lv_at hl 3 rfl) ?_
      refine lv_iload_n X.1.1 X.1.2.1 d_SM_turned_26 rfl (lv_at hl 2 rfl) ?_
      obtain ⟨u4, h5, hf⟩ := ob hf
      refine sk_callv X hH (As := [.ref (q 3), .int t, .int mm]) (rest := []) (c_SM_set 3 (by decide) h5) (k_SM_set X.1.2.2.2.2 ⟨(Nat.le_of_ble_eq_true rfl), (Nat.le_of_ble_eq_true rfl)⟩) rfl hl.1 rfl (Nat.le_of_ble_eq_true rfl) d_SM_turned_27 ⟨Nat.zero_le _, Nat.zero_le _⟩ (fun H locs hH => ?_)
      refine lv_iload_n X.1.1 X.1.2.1 d_SM_turned_30 rfl (lv_at hl 3 rfl) ?_
      refine lv_istore_n (lv' := [(2, .int t), (4, .int p2.1), (0, .ref o), (3, .int t)]) X.1.1 X.1.2.1 d_SM_turned_31 rfl hl (by decide) rfl (fun ls hl => ?_)
      refine lv_iload X.1.1 X.1.2.1 d_SM_turned_32 (lv_at hl 1 rfl) ?_
      refine lv_istore_n (lv' := [(3, .int p2.1), (2, .int t), (4, .int p2.1), (0, .ref o)]) X.1.1 X.1.2.1 d_SM_turned_34 rfl hl (by decide) rfl (fun ls hl => ?_)
      refine lv_goto (tgt := 4) X.1.1 X.1.2.1 d_SM_turned_35 (by decide) ?_
      exact ih hf hH (lv_sub hl [3, 1, 0] rfl)
set_option maxHeartbeats 4000000 in
set_option maxRecDepth 100000 in
theorem v_SM_turned_0 (X : sk_X p m c b_SM_turned 5 s args R_SM D cA A) (hr : meth.sig.returnType = (some .int)) (hlk : meth.locks = false) {u : sk_T} {f : Int32} {z : Int32 × sk_T} (hf : sk_turned u f = some z) {H : Heap} {locs : List Loc} {ls : Array Slot} (hH : sk_H D A s.heap H locs o q cA u) (hl : lv_has ls 5 [(0, .ref o), (1, .int f)]) : W p l e rm_SM_turned s m args below meth c H locs 0 0 (MQ below (sk_Qi D o q cA A z.1 z.2) args s 0 0 A) (F0 m 0 ls []) := by
  unfold sk_turned at hf
  refine lv_iconst (v := (-1)) X.1.1 X.1.2.1 d_SM_turned_0 (by decide) ?_
  refine lv_istore_n (lv' := [(2, .int (-1)), (0, .ref o), (1, .int f)]) X.1.1 X.1.2.1 d_SM_turned_1 rfl hl (by decide) rfl (fun ls hl => ?_)
  refine lv_iload_n X.1.1 X.1.2.1 d_SM_turned_2 rfl (lv_at hl 2 rfl) ?_
  refine lv_istore_n (lv' := [(3, .int f), (2, .int (-1)), (0, .ref o), (1, .int f)]) X.1.1 X.1.2.1 d_SM_turned_3 rfl hl (by decide) rfl (fun ls hl => ?_)
  exact v_SM_turned_4 X hr hlk _ hf hH (lv_sub hl [2, 1, 0] rfl)
end V_SM_turned
theorem c_SM_turned {l : Launch} {D : va_G} {o : Nat} {q : Nat → Nat} {cA : ClassId} {u : sk_T} {f : Int32} {z : Int32 × sk_T} (hf : sk_turned u f = some z) : sk_Mi l y_SM_turned w_SM_turned rm_SM_turned D o q cA [.ref o, .int f] u z.1 z.2 :=
  sk_entry (own := R_SM) (fun A => sk_Qi D o q cA A z.1 z.2) (by decide) rfl (Nat.le_of_ble_eq_true rfl) (fun p e s m below meth c A ls X hr hlk hH hl => v_SM_turned_0 X hr hlk hf hH hl)
theorem k_SM_turned {R : Room} {s : State} {args : Array Value} (ht : ∀ w ∈ lw_big, w.before args s = true) (hR : rm_SM_turned.frames + 1 ≤ R.frames ∧ 8 + (5 + 11) + rm_SM_turned.locals ≤ R.locals) : CallW R s args R_SM R_SM 110 y_SM_turned b_SM_turned 5 (some .int) w_SM_turned rm_SM_turned 0 0 1 := cwV 1 ht g_SM_SM_turned e_SM_turned rfl rfl (by decide +kernel) hR
end
section
/-! printed by gen.py: walks of SM_take, SM_meld, SM_size, SM_await, SM_walk, SM_key, SM_sum, SM_free, SM_few -/
-- SM_take
def rm_SM_take : Room := { frames := 4, cells := 0, slots := 0, locals := 101 }
section V_SM_take
variable {p : Program} {l : Launch} {e : Env} {s : State} {m : MethodId} {args : Array Value} {below : List Frame} {meth : Method} {c : Code} {D : va_G} {A : Nat → Prop} {o : Nat} {q : Nat → Nat} {cA : ClassId} {Q : State → Prop}
set_option maxHeartbeats 4000000 in
set_option maxRecDepth 100000 in
theorem v_SM_take_151 (X : sk_X p m c b_SM_take 7 s args R_SM D cA A) (hr : meth.sig.returnType = (some .long)) (hlk : meth.locks = false) {u : sk_T} {x : Int32} {t : Int32} {k : Int32} {f : Int32} {z : Int64 × sk_T} (hf : sk_take4 u x t k f = some z) {H : Heap} {locs : List Loc} {ls : Array Slot} (hH : sk_H D A s.heap H locs o q cA u) (hl : lv_has ls 7 [(0, .ref o), (1, .int x), (2, .int t), (3, .int k), (4, .int f)]) : W p l e rm_SM_take s m args below meth c H locs 0 0 (MQ below (sk_Ql D o q cA A z.1 z.2) args s 0 0 A) (F0 m 151 ls []) := by
  unfold sk_take4 at hf
  refine lv_aload_n X.1.1 X.1.2.1 d_SM_take_151 rfl (lv_at hl 0 rfl) ?_
  refine lv_aload_n X.1.1 X.1.2.1 d_SM_take_152 rfl (lv_at hl 0 rfl) ?_
  refine sk_gf X hH 8 29 (by decide) mf_SM_29 (v := .ref (q 5)) rfl d_SM_take_153 ?_
  refine lv_iload_n X.1.1 X.1.2.1 d_SM_take_156 rfl (lv_at hl 1 rfl) ?_
  refine lv_iload X.1.1 X.1.2.1 d_SM_take_157 (lv_at hl 4 rfl) ?_
  obtain ⟨u1, h2, hf⟩ := ob hf
  refine sk_callv X hH (As := [.ref (q 5), .int x, .int f]) (rest := []) (c_SM_set 5 (by decide) h2) (k_SM_set X.1.2.2.2.2 ⟨(Nat.le_of_ble_eq_true rfl), (Nat.le_of_ble_eq_true rfl)⟩) rfl hl.1 rfl (Nat.le_of_ble_eq_true rfl) d_SM_take_159 ⟨Nat.zero_le _, Nat.zero_le _⟩ (fun H locs hH => ?_)
  refine lv_aload_n X.1.1 X.1.2.1 d_SM_take_162 rfl (lv_at hl 0 rfl) ?_
  refine lv_aload_n X.1.1 X.1.2.1 d_SM_take_163 rfl (lv_at hl 0 rfl) ?_
  refine sk_gf X hH 9 32 (by decide) mf_SM_32 (v := .ref (q 6)) rfl d_SM_take_164 ?_
  refine lv_iload_n X.1.1 X.1.2.1 d_SM_take_167 rfl (lv_at hl 1 rfl) ?_
  refine lv_aload_n X.1.1 X.1.2.1 d_SM_take_168 rfl (lv_at hl 0 rfl) ?_
  refine lv_aload_n X.1.1 X.1.2.1 d_SM_take_169 rfl (lv_at hl 0 rfl) ?_
  refine sk_gf X hH 9 32 (by decide) mf_SM_32 (v := .ref (q 6)) rfl d_SM_take_170 ?_
  refine lv_iload_n X.1.1 X.1.2.1 d_SM_take_173 rfl (lv_at hl 1 rfl) ?_
  obtain ⟨p3, h4, hf⟩ := ob hf
  refine sk_calli X hH (As := [.ref (q 6), .int x]) (rest := [.int x, .ref (q 6), .ref o]) (c_SM_get 6 (by decide) h4) (k_SM_get X.1.2.2.2.2 ⟨(Nat.le_of_ble_eq_true rfl), (Nat.le_of_ble_eq_true rfl)⟩) rfl hl.1 rfl (Nat.le_of_ble_eq_true rfl) d_SM_take_174 ⟨Nat.zero_le _, Nat.zero_le _⟩ (fun H locs hH => ?_)
  refine lv_iconst (v := 1) X.1.1 X.1.2.1 d_SM_take_177 (by decide) ?_
  refine lv_isub X.1.1 X.1.2.1 d_SM_take_178 ?_
  obtain ⟨u5, h6, hf⟩ := ob hf
  refine sk_callv X hH (As := [.ref (q 6), .int x, .int (p3.1 - 1)]) (rest := []) (c_SM_set 6 (by decide) h6) (k_SM_set X.1.2.2.2.2 ⟨(Nat.le_of_ble_eq_true rfl), (Nat.le_of_ble_eq_true rfl)⟩) rfl hl.1 rfl (Nat.le_of_ble_eq_true rfl) d_SM_take_179 ⟨Nat.zero_le _, Nat.zero_le _⟩ (fun H locs hH => ?_)
  refine lv_aload_n X.1.1 X.1.2.1 d_SM_take_182 rfl (lv_at hl 0 rfl) ?_
  refine lv_iload_n X.1.1 X.1.2.1 d_SM_take_183 rfl (lv_at hl 2 rfl) ?_
  obtain ⟨u7, h8, hf⟩ := ob hf
  refine sk_callv X hH (As := [.int t]) (rest := []) (c_SM_release h8) (k_SM_release X.1.2.2.2.2 ⟨(Nat.le_of_ble_eq_true rfl), (Nat.le_of_ble_eq_true rfl)⟩) rfl hl.1 rfl (Nat.le_of_ble_eq_true rfl) d_SM_take_184 ⟨Nat.zero_le _, Nat.zero_le _⟩ (fun H locs hH => ?_)
  refine lv_iload_n X.1.1 X.1.2.1 d_SM_take_187 rfl (lv_at hl 3 rfl) ?_
  refine lv_i2l (v := (Int32.toInt64 k)) X.1.1 X.1.2.1 d_SM_take_188 rfl ?_
  obtain rfl := Option.some.inj hf
  exact sk_lret X hr hlk hH d_SM_take_189
set_option maxHeartbeats 4000000 in
set_option maxRecDepth 100000 in
theorem v_SM_take_116 (X : sk_X p m c b_SM_take 7 s args R_SM D cA A) (hr : meth.sig.returnType = (some .long)) (hlk : meth.locks = false) : ∀ (n : Nat) {u : sk_T} {x : Int32} {t : Int32} {k : Int32} {f : Int32} {y : Int32} {z : Int64 × sk_T} (hf : sk_take3 n u x t k f y = some z) {H : Heap} {locs : List Loc} {ls : Array Slot} (hH : sk_H D A s.heap H locs o q cA u) (hl : lv_has ls 7 [(0, .ref o), (1, .int x), (2, .int t), (3, .int k), (4, .int f), (5, .int y)]), W p l e rm_SM_take s m args below meth c H locs 0 0 (MQ below (sk_Ql D o q cA A z.1 z.2) args s 0 0 A) (F0 m 116 ls []) := by
  intro n
  induction n with
  | zero =>
    intro u x t k f y z hf
    rw [sk_take3] at hf
    cases hf
  | succ n ih =>
    intro u x t k f y z hf H locs ls hH hl
    rw [sk_take3] at hf
    refine lv_iload X.1.1 X.1.2.1 d_SM_take_116 (lv_at hl 5 rfl) ?_
    refine lv_iconst (v := (-1)) X.1.1 X.1.2.1 d_SM_take_118 (by decide) ?_
    refine lv_icmp_eq (tgt := 151) X.1.1 X.1.2.1 d_SM_take_119 (by decide) (fun c1 => ?_) (fun c1 => ?_)
    · replace hf := ip c1 hf
      exact v_SM_take_151 X hr hlk hf hH (lv_sub hl [0, 1, 2, 3, 4] rfl)
    · replace hf := im c1 hf
      refine lv_aload_n X.1.1 X.1.2.1 d_SM_take_122 rfl (lv_at hl 0 rfl) ?_
      refine lv_aload_n X.1.1 X.1.2.1 d_SM_take_123 rfl (lv_at hl 0 rfl) ?_
      refine sk_gf X hH 3 19 (by decide) mf_SM_19 (v := .ref (q 3)) rfl d_SM_take_124 ?_
      refine lv_iload X.1.1 X.1.2.1 d_SM_take_127 (lv_at hl 5 rfl) ?_
      obtain ⟨p2, h3, hf⟩ := ob hf
      refine sk_calli X hH (As := [.ref (q 3), .int y]) (rest := []) (c_SM_get 3 (by decide) h3) (k_SM_get X.1.2.2.2.2 ⟨(Nat.le_of_ble_eq_true rfl), (Nat.le_of_ble_eq_true rfl)⟩) rfl hl.1 rfl (Nat.le_of_ble_eq_true rfl) d_SM_take_129 ⟨Nat.zero_le _, Nat.zero_le _⟩ (fun H locs hH => ?_)
      refine lv_istore (lv' := [(6, .int p2.1), (0, .ref o), (1, .int x), (2, .int t), (3, .int k), (4, .int f), (5, .int y)]) X.1.1 X.1.2.1 d_SM_take_132 hl (by decide) rfl (fun ls hl => ?_)
      refine lv_aload_n X.1.1 X.1.2.1 d_SM_take_134 rfl (lv_at hl 1 rfl) ?_
      refine lv_iload X.1.1 X.1.2.1 d_SM_take_135 (lv_at hl 6 rfl) ?_
      refine lv_iload X.1.1 X.1.2.1 d_SM_take_137 (lv_at hl 5 rfl) ?_
      obtain ⟨p4, h5, hf⟩ := ob hf
      refine sk_calli X hH (As := [.int y, .int f]) (rest := []) (c_SM_insert h5) (k_SM_insert X.1.2.2.2.2 ⟨(Nat.le_of_ble_eq_true rfl), (Nat.le_of_ble_eq_true rfl)⟩) rfl hl.1 rfl (Nat.le_of_ble_eq_true rfl) d_SM_take_139 ⟨Nat.zero_le _, Nat.zero_le _⟩ (fun H locs hH => ?_)
      refine lv_istore (lv' := [(4, .int p4.1), (6, .int p2.1), (0, .ref o), (1, .int x), (2, .int t), (3, .int k), (5, .int y)]) X.1.1 X.1.2.1 d_SM_take_142 hl (by decide) rfl (fun ls hl => ?_)
      refine lv_iload X.1.1 X.1.2.1 d_SM_take_144 (lv_at hl 1 rfl) ?_
      refine lv_istore (lv' := [(5, .int p2.1), (4, .int p4.1), (6, .int p2.1), (0, .ref o), (1, .int x), (2, .int t), (3, .int k)]) X.1.1 X.1.2.1 d_SM_take_146 hl (by decide) rfl (fun ls hl => ?_)
      refine lv_goto (tgt := 116) X.1.1 X.1.2.1 d_SM_take_148 (by decide) ?_
      exact ih hf hH (lv_sub hl [3, 4, 5, 6, 1, 0] rfl)
set_option maxHeartbeats 4000000 in
set_option maxRecDepth 100000 in
theorem v_SM_take_26 (X : sk_X p m c b_SM_take 7 s args R_SM D cA A) (hr : meth.sig.returnType = (some .long)) (hlk : meth.locks = false) {u : sk_T} {x : Int32} {z : Int64 × sk_T} (hf : sk_take2 u x = some z) {H : Heap} {locs : List Loc} {ls : Array Slot} (hH : sk_H D A s.heap H locs o q cA u) (hl : lv_has ls 7 [(0, .ref o), (1, .int x)]) : W p l e rm_SM_take s m args below meth c H locs 0 0 (MQ below (sk_Ql D o q cA A z.1 z.2) args s 0 0 A) (F0 m 26 ls []) := by
  unfold sk_take2 at hf
  refine lv_aload_n X.1.1 X.1.2.1 d_SM_take_26 rfl (lv_at hl 0 rfl) ?_
  refine lv_iload_n X.1.1 X.1.2.1 d_SM_take_27 rfl (lv_at hl 1 rfl) ?_
  refine sk_calli X hH (As := [.int x]) (rest := []) (c_SM_isHeap) (k_SM_isHeap X.1.2.2.2.2 ⟨(Nat.le_of_ble_eq_true rfl), (Nat.le_of_ble_eq_true rfl)⟩) rfl hl.1 rfl (Nat.le_of_ble_eq_true rfl) d_SM_take_28 ⟨Nat.zero_le _, Nat.zero_le _⟩ (fun H locs hH => ?_)
  refine lv_if_eq (tgt := 43) X.1.1 X.1.2.1 d_SM_take_31 (by decide) (fun c1 => ?_) (fun c1 => ?_)
  · replace hf := ip c1 hf
    refine lv_ldc2 (v := sk_MIN) X.1.1 X.1.2.1 X.1.2.2.2.1 (X.1.2.2.2.2 _ mk_SM_101) d_SM_take_43 ?_
    obtain rfl := Option.some.inj hf
    exact sk_lret X hr hlk hH d_SM_take_46
  · replace hf := im c1 hf
    refine lv_aload_n X.1.1 X.1.2.1 d_SM_take_34 rfl (lv_at hl 0 rfl) ?_
    refine sk_gf X hH 9 32 (by decide) mf_SM_32 (v := .ref (q 6)) rfl d_SM_take_35 ?_
    refine lv_iload_n X.1.1 X.1.2.1 d_SM_take_38 rfl (lv_at hl 1 rfl) ?_
    obtain ⟨x2, h3, hf⟩ := ob hf
    refine sk_ld X hH 6 (by decide) h3 d_SM_take_39 ?_
    refine lv_if_ne (tgt := 47) X.1.1 X.1.2.1 d_SM_take_40 (by decide) (fun c4 => ?_) (fun c4 => ?_)
    · replace hf := im c4 hf
      refine lv_aload_n X.1.1 X.1.2.1 d_SM_take_47 rfl (lv_at hl 0 rfl) ?_
      refine lv_iload_n X.1.1 X.1.2.1 d_SM_take_48 rfl (lv_at hl 1 rfl) ?_
      obtain ⟨p5, h6, hf⟩ := ob hf
      refine sk_calli X hH (As := [.int x]) (rest := []) (c_SM_leastTree h6) (k_SM_leastTree X.1.2.2.2.2 ⟨(Nat.le_of_ble_eq_true rfl), (Nat.le_of_ble_eq_true rfl)⟩) rfl hl.1 rfl (Nat.le_of_ble_eq_true rfl) d_SM_take_49 ⟨Nat.zero_le _, Nat.zero_le _⟩ (fun H locs hH => ?_)
      refine lv_istore_n (lv' := [(2, .int p5.1), (0, .ref o), (1, .int x)]) X.1.1 X.1.2.1 d_SM_take_52 rfl hl (by decide) rfl (fun ls hl => ?_)
      refine lv_aload_n X.1.1 X.1.2.1 d_SM_take_53 rfl (lv_at hl 1 rfl) ?_
      refine lv_aload_n X.1.1 X.1.2.1 d_SM_take_54 rfl (lv_at hl 1 rfl) ?_
      refine sk_gf X hH 0 7 (by decide) mf_SM_7 (v := .ref (q 0)) rfl d_SM_take_55 ?_
      refine lv_iload_n X.1.1 X.1.2.1 d_SM_take_58 rfl (lv_at hl 0 rfl) ?_
      obtain ⟨p7, h8, hf⟩ := ob hf
      refine sk_calli X hH (As := [.ref (q 0), .int p5.1]) (rest := []) (c_SM_get 0 (by decide) h8) (k_SM_get X.1.2.2.2.2 ⟨(Nat.le_of_ble_eq_true rfl), (Nat.le_of_ble_eq_true rfl)⟩) rfl hl.1 rfl (Nat.le_of_ble_eq_true rfl) d_SM_take_59 ⟨Nat.zero_le _, Nat.zero_le _⟩ (fun H locs hH => ?_)
      refine lv_istore_n (lv' := [(3, .int p7.1), (2, .int p5.1), (0, .ref o), (1, .int x)]) X.1.1 X.1.2.1 d_SM_take_62 rfl hl (by decide) rfl (fun ls hl => ?_)
      refine lv_aload_n X.1.1 X.1.2.1 d_SM_take_63 rfl (lv_at hl 2 rfl) ?_
      refine lv_iload_n X.1.1 X.1.2.1 d_SM_take_64 rfl (lv_at hl 3 rfl) ?_
      refine lv_iload_n X.1.1 X.1.2.1 d_SM_take_65 rfl (lv_at hl 1 rfl) ?_
      obtain ⟨u9, h10, hf⟩ := ob hf
      refine sk_callv X hH (As := [.int x, .int p5.1]) (rest := []) (c_SM_remove h10) (k_SM_remove X.1.2.2.2.2 ⟨(Nat.le_of_ble_eq_true rfl), (Nat.le_of_ble_eq_true rfl)⟩) rfl hl.1 rfl (Nat.le_of_ble_eq_true rfl) d_SM_take_66 ⟨Nat.zero_le _, Nat.zero_le _⟩ (fun H locs hH => ?_)
      refine lv_aload_n X.1.1 X.1.2.1 d_SM_take_69 rfl (lv_at hl 2 rfl) ?_
      refine lv_aload_n X.1.1 X.1.2.1 d_SM_take_70 rfl (lv_at hl 2 rfl) ?_
      refine lv_aload_n X.1.1 X.1.2.1 d_SM_take_71 rfl (lv_at hl 2 rfl) ?_
      refine lv_aload_n X.1.1 X.1.2.1 d_SM_take_72 rfl (lv_at hl 2 rfl) ?_
      refine sk_gf X hH 8 29 (by decide) mf_SM_29 (v := .ref (q 5)) rfl d_SM_take_73 ?_
      refine lv_iload_n X.1.1 X.1.2.1 d_SM_take_76 rfl (lv_at hl 3 rfl) ?_
      obtain ⟨p11, h12, hf⟩ := ob hf
      refine sk_calli X hH (As := [.ref (q 5), .int x]) (rest := [.ref o, .ref o]) (c_SM_get 5 (by decide) h12) (k_SM_get X.1.2.2.2.2 ⟨(Nat.le_of_ble_eq_true rfl), (Nat.le_of_ble_eq_true rfl)⟩) rfl hl.1 rfl (Nat.le_of_ble_eq_true rfl) d_SM_take_77 ⟨Nat.zero_le _, Nat.zero_le _⟩ (fun H locs hH => ?_)
      obtain ⟨p13, h14, hf⟩ := ob hf
      refine sk_calli X hH (As := [.int p11.1]) (rest := [.ref o]) (c_SM_norm h14) (k_SM_norm X.1.2.2.2.2 ⟨(Nat.le_of_ble_eq_true rfl), (Nat.le_of_ble_eq_true rfl)⟩) rfl hl.1 rfl (Nat.le_of_ble_eq_true rfl) d_SM_take_80 ⟨Nat.zero_le _, Nat.zero_le _⟩ (fun H locs hH => ?_)
      refine lv_aload_n X.1.1 X.1.2.1 d_SM_take_83 rfl (lv_at hl 2 rfl) ?_
      refine lv_aload_n X.1.1 X.1.2.1 d_SM_take_84 rfl (lv_at hl 2 rfl) ?_
      refine lv_aload_n X.1.1 X.1.2.1 d_SM_take_85 rfl (lv_at hl 2 rfl) ?_
      refine lv_aload_n X.1.1 X.1.2.1 d_SM_take_86 rfl (lv_at hl 2 rfl) ?_
      refine sk_gf X hH 2 16 (by decide) mf_SM_16 (v := .ref (q 2)) rfl d_SM_take_87 ?_
      refine lv_iload_n X.1.1 X.1.2.1 d_SM_take_90 rfl (lv_at hl 1 rfl) ?_
      obtain ⟨p15, h16, hf⟩ := ob hf
      refine sk_calli X hH (As := [.ref (q 2), .int p5.1]) (rest := [.ref o, .ref o, .int p13.1, .ref o]) (c_SM_get 2 (by decide) h16) (k_SM_get X.1.2.2.2.2 ⟨(Nat.le_of_ble_eq_true rfl), (Nat.le_of_ble_eq_true rfl)⟩) rfl hl.1 rfl (Nat.le_of_ble_eq_true rfl) d_SM_take_91 ⟨Nat.zero_le _, Nat.zero_le _⟩ (fun H locs hH => ?_)
      obtain ⟨p17, h18, hf⟩ := ob hf
      refine sk_calli X hH (As := [.int p15.1]) (rest := [.ref o, .int p13.1, .ref o]) (c_SM_turned h18) (k_SM_turned X.1.2.2.2.2 ⟨(Nat.le_of_ble_eq_true rfl), (Nat.le_of_ble_eq_true rfl)⟩) rfl hl.1 rfl (Nat.le_of_ble_eq_true rfl) d_SM_take_94 ⟨Nat.zero_le _, Nat.zero_le _⟩ (fun H locs hH => ?_)
      obtain ⟨p19, h20, hf⟩ := ob hf
      refine sk_calli X hH (As := [.int p17.1]) (rest := [.int p13.1, .ref o]) (c_SM_norm h20) (k_SM_norm X.1.2.2.2.2 ⟨(Nat.le_of_ble_eq_true rfl), (Nat.le_of_ble_eq_true rfl)⟩) rfl hl.1 rfl (Nat.le_of_ble_eq_true rfl) d_SM_take_97 ⟨Nat.zero_le _, Nat.zero_le _⟩ (fun H locs hH => ?_)
      obtain ⟨p21, h22, hf⟩ := ob hf
      refine sk_calli X hH (As := [.int p13.1, .int p19.1]) (rest := []) (c_SM_merge h22) (k_SM_merge X.1.2.2.2.2 ⟨(Nat.le_of_ble_eq_true rfl), (Nat.le_of_ble_eq_true rfl)⟩) rfl hl.1 rfl (Nat.le_of_ble_eq_true rfl) d_SM_take_100 ⟨Nat.zero_le _, Nat.zero_le _⟩ (fun H locs hH => ?_)
      refine lv_istore (lv' := [(4, .int p21.1), (3, .int p7.1), (2, .int p5.1), (0, .ref o), (1, .int x)]) X.1.1 X.1.2.1 d_SM_take_103 hl (by decide) rfl (fun ls hl => ?_)
      refine lv_aload_n X.1.1 X.1.2.1 d_SM_take_105 rfl (lv_at hl 3 rfl) ?_
      refine lv_aload_n X.1.1 X.1.2.1 d_SM_take_106 rfl (lv_at hl 3 rfl) ?_
      refine sk_gf X hH 4 22 (by decide) mf_SM_22 (v := .ref (q 4)) rfl d_SM_take_107 ?_
      refine lv_iload_n X.1.1 X.1.2.1 d_SM_take_110 rfl (lv_at hl 2 rfl) ?_
      obtain ⟨p23, h24, hf⟩ := ob hf
      refine sk_calli X hH (As := [.ref (q 4), .int p5.1]) (rest := []) (c_SM_get 4 (by decide) h24) (k_SM_get X.1.2.2.2.2 ⟨(Nat.le_of_ble_eq_true rfl), (Nat.le_of_ble_eq_true rfl)⟩) rfl hl.1 rfl (Nat.le_of_ble_eq_true rfl) d_SM_take_111 ⟨Nat.zero_le _, Nat.zero_le _⟩ (fun H locs hH => ?_)
      refine lv_istore (lv' := [(5, .int p23.1), (4, .int p21.1), (3, .int p7.1), (2, .int p5.1), (0, .ref o), (1, .int x)]) X.1.1 X.1.2.1 d_SM_take_114 hl (by decide) rfl (fun ls hl => ?_)
      exact v_SM_take_116 X hr hlk _ hf hH (lv_sub hl [4, 5, 3, 2, 1, 0] rfl)
    · replace hf := ip c4 hf
      refine lv_ldc2 (v := sk_MIN) X.1.1 X.1.2.1 X.1.2.2.2.1 (X.1.2.2.2.2 _ mk_SM_101) d_SM_take_43 ?_
      obtain rfl := Option.some.inj hf
      exact sk_lret X hr hlk hH d_SM_take_46
set_option maxHeartbeats 4000000 in
set_option maxRecDepth 100000 in
theorem v_SM_take_0 (X : sk_X p m c b_SM_take 7 s args R_SM D cA A) (hr : meth.sig.returnType = (some .long)) (hlk : meth.locks = false) {u : sk_T} {x : Int32} {z : Int64 × sk_T} (hf : sk_take u x = some z) {H : Heap} {locs : List Loc} {ls : Array Slot} (hH : sk_H D A s.heap H locs o q cA u) (hl : lv_has ls 7 [(0, .ref o), (1, .int x)]) : W p l e rm_SM_take s m args below meth c H locs 0 0 (MQ below (sk_Ql D o q cA A z.1 z.2) args s 0 0 A) (F0 m 0 ls []) := by
  unfold sk_take at hf
  refine lv_aload_n X.1.1 X.1.2.1 d_SM_take_0 rfl (lv_at hl 0 rfl) ?_
  refine lv_aload_n X.1.1 X.1.2.1 d_SM_take_1 rfl (lv_at hl 0 rfl) ?_
  refine lv_iload_n X.1.1 X.1.2.1 d_SM_take_2 rfl (lv_at hl 1 rfl) ?_
  refine sk_calli X hH (As := [.int x]) (rest := [.ref o]) (c_SM_isHeap) (k_SM_isHeap X.1.2.2.2.2 ⟨(Nat.le_of_ble_eq_true rfl), (Nat.le_of_ble_eq_true rfl)⟩) rfl hl.1 rfl (Nat.le_of_ble_eq_true rfl) d_SM_take_3 ⟨Nat.zero_le _, Nat.zero_le _⟩ (fun H locs hH => ?_)
  refine lv_if_eq (tgt := 21) X.1.1 X.1.2.1 d_SM_take_6 (by decide) (fun c1 => ?_) (fun c1 => ?_)
  · replace hf := ip c1 hf
    refine lv_ldc (v := sk_MAX) X.1.1 X.1.2.1 X.1.2.2.2.1 (X.1.2.2.2.2 _ mk_SM_78) d_SM_take_21 ?_
    refine sk_callv X hH (As := [.int sk_MAX]) (rest := []) (c_SM_begin) (k_SM_begin X.1.2.2.2.2 ⟨(Nat.le_of_ble_eq_true rfl), (Nat.le_of_ble_eq_true rfl)⟩) rfl hl.1 rfl (Nat.le_of_ble_eq_true rfl) d_SM_take_23 ⟨Nat.zero_le _, Nat.zero_le _⟩ (fun H locs hH => ?_)
    exact v_SM_take_26 X hr hlk hf hH (lv_sub hl [0, 1] rfl)
  · replace hf := im c1 hf
    refine lv_aload_n X.1.1 X.1.2.1 d_SM_take_9 rfl (lv_at hl 0 rfl) ?_
    refine sk_gf X hH 9 32 (by decide) mf_SM_32 (v := .ref (q 6)) rfl d_SM_take_10 ?_
    refine lv_iload_n X.1.1 X.1.2.1 d_SM_take_13 rfl (lv_at hl 1 rfl) ?_
    obtain ⟨x2, h3, hf⟩ := ob hf
    refine sk_ld X hH 6 (by decide) h3 d_SM_take_14 ?_
    refine sk_calls X hH (As := [.int x2]) (rest := [.ref o]) (c_SM_fewFor) (k_SM_fewFor X.1.2.2.2.2 ⟨(Nat.le_of_ble_eq_true rfl), (Nat.le_of_ble_eq_true rfl)⟩) rfl hl.1 rfl (Nat.le_of_ble_eq_true rfl) d_SM_take_15 ⟨Nat.zero_le _, Nat.zero_le _⟩ (fun H locs hH => ?_)
    refine lv_goto (tgt := 23) X.1.1 X.1.2.1 d_SM_take_18 (by decide) ?_
    refine sk_callv X hH (As := [.int (sk_fewFor x2)]) (rest := []) (c_SM_begin) (k_SM_begin X.1.2.2.2.2 ⟨(Nat.le_of_ble_eq_true rfl), (Nat.le_of_ble_eq_true rfl)⟩) rfl hl.1 rfl (Nat.le_of_ble_eq_true rfl) d_SM_take_23 ⟨Nat.zero_le _, Nat.zero_le _⟩ (fun H locs hH => ?_)
    exact v_SM_take_26 X hr hlk hf hH (lv_sub hl [0, 1] rfl)
end V_SM_take
theorem c_SM_take {l : Launch} {D : va_G} {o : Nat} {q : Nat → Nat} {cA : ClassId} {u : sk_T} {x : Int32} {z : Int64 × sk_T} (hf : sk_take u x = some z) : sk_Ml l y_SM_take w_SM_take rm_SM_take D o q cA [.ref o, .int x] u z.1 z.2 :=
  sk_entry (own := R_SM) (fun A => sk_Ql D o q cA A z.1 z.2) (by decide) rfl (Nat.le_of_ble_eq_true rfl) (fun p e s m below meth c A ls X hr hlk hH hl => v_SM_take_0 X hr hlk hf hH hl)
-- SM_meld
def rm_SM_meld : Room := { frames := 4, cells := 0, slots := 0, locals := 101 }
section V_SM_meld
variable {p : Program} {l : Launch} {e : Env} {s : State} {m : MethodId} {args : Array Value} {below : List Frame} {meth : Method} {c : Code} {D : va_G} {A : Nat → Prop} {o : Nat} {q : Nat → Nat} {cA : ClassId} {Q : State → Prop}
set_option maxHeartbeats 4000000 in
set_option maxRecDepth 100000 in
theorem v_SM_meld_49 (X : sk_X p m c b_SM_meld 4 s args R_SM D cA A) (hr : meth.sig.returnType = (some .int)) (hlk : meth.locks = false) {u : sk_T} {a : Int32} {b : Int32} {z : Int32 × sk_T} (hf : sk_meld2 u a b = some z) {H : Heap} {locs : List Loc} {ls : Array Slot} (hH : sk_H D A s.heap H locs o q cA u) (hl : lv_has ls 4 [(0, .ref o), (1, .int a), (2, .int b)]) : W p l e rm_SM_meld s m args below meth c H locs 0 0 (MQ below (sk_Qi D o q cA A z.1 z.2) args s 0 0 A) (F0 m 49 ls []) := by
  unfold sk_meld2 at hf
  refine lv_aload_n X.1.1 X.1.2.1 d_SM_meld_49 rfl (lv_at hl 0 rfl) ?_
  refine lv_aload_n X.1.1 X.1.2.1 d_SM_meld_50 rfl (lv_at hl 0 rfl) ?_
  refine sk_gf X hH 8 29 (by decide) mf_SM_29 (v := .ref (q 5)) rfl d_SM_meld_51 ?_
  refine lv_iload_n X.1.1 X.1.2.1 d_SM_meld_54 rfl (lv_at hl 1 rfl) ?_
  refine lv_aload_n X.1.1 X.1.2.1 d_SM_meld_55 rfl (lv_at hl 0 rfl) ?_
  refine lv_aload_n X.1.1 X.1.2.1 d_SM_meld_56 rfl (lv_at hl 0 rfl) ?_
  refine lv_aload_n X.1.1 X.1.2.1 d_SM_meld_57 rfl (lv_at hl 0 rfl) ?_
  refine lv_aload_n X.1.1 X.1.2.1 d_SM_meld_58 rfl (lv_at hl 0 rfl) ?_
  refine sk_gf X hH 8 29 (by decide) mf_SM_29 (v := .ref (q 5)) rfl d_SM_meld_59 ?_
  refine lv_iload_n X.1.1 X.1.2.1 d_SM_meld_62 rfl (lv_at hl 1 rfl) ?_
  obtain ⟨p1, h2, hf⟩ := ob hf
  refine sk_calli X hH (As := [.ref (q 5), .int a]) (rest := [.ref o, .ref o, .int a, .ref (q 5), .ref o]) (c_SM_get 5 (by decide) h2) (k_SM_get X.1.2.2.2.2 ⟨(Nat.le_of_ble_eq_true rfl), (Nat.le_of_ble_eq_true rfl)⟩) rfl hl.1 rfl (Nat.le_of_ble_eq_true rfl) d_SM_meld_63 ⟨Nat.zero_le _, Nat.zero_le _⟩ (fun H locs hH => ?_)
  obtain ⟨p3, h4, hf⟩ := ob hf
  refine sk_calli X hH (As := [.int p1.1]) (rest := [.ref o, .int a, .ref (q 5), .ref o]) (c_SM_norm h4) (k_SM_norm X.1.2.2.2.2 ⟨(Nat.le_of_ble_eq_true rfl), (Nat.le_of_ble_eq_true rfl)⟩) rfl hl.1 rfl (Nat.le_of_ble_eq_true rfl) d_SM_meld_66 ⟨Nat.zero_le _, Nat.zero_le _⟩ (fun H locs hH => ?_)
  refine lv_aload_n X.1.1 X.1.2.1 d_SM_meld_69 rfl (lv_at hl 0 rfl) ?_
  refine lv_aload_n X.1.1 X.1.2.1 d_SM_meld_70 rfl (lv_at hl 0 rfl) ?_
  refine lv_aload_n X.1.1 X.1.2.1 d_SM_meld_71 rfl (lv_at hl 0 rfl) ?_
  refine sk_gf X hH 8 29 (by decide) mf_SM_29 (v := .ref (q 5)) rfl d_SM_meld_72 ?_
  refine lv_iload_n X.1.1 X.1.2.1 d_SM_meld_75 rfl (lv_at hl 2 rfl) ?_
  obtain ⟨p5, h6, hf⟩ := ob hf
  refine sk_calli X hH (As := [.ref (q 5), .int b]) (rest := [.ref o, .int p3.1, .ref o, .int a, .ref (q 5), .ref o]) (c_SM_get 5 (by decide) h6) (k_SM_get X.1.2.2.2.2 ⟨(Nat.le_of_ble_eq_true rfl), (Nat.le_of_ble_eq_true rfl)⟩) rfl hl.1 rfl (Nat.le_of_ble_eq_true rfl) d_SM_meld_76 ⟨Nat.zero_le _, Nat.zero_le _⟩ (fun H locs hH => ?_)
  obtain ⟨p7, h8, hf⟩ := ob hf
  refine sk_calli X hH (As := [.int p5.1]) (rest := [.int p3.1, .ref o, .int a, .ref (q 5), .ref o]) (c_SM_norm h8) (k_SM_norm X.1.2.2.2.2 ⟨(Nat.le_of_ble_eq_true rfl), (Nat.le_of_ble_eq_true rfl)⟩) rfl hl.1 rfl (Nat.le_of_ble_eq_true rfl) d_SM_meld_79 ⟨Nat.zero_le _, Nat.zero_le _⟩ (fun H locs hH => ?_)
  obtain ⟨p9, h10, hf⟩ := ob hf
  refine sk_calli X hH (As := [.int p3.1, .int p7.1]) (rest := [.int a, .ref (q 5), .ref o]) (c_SM_merge h10) (k_SM_merge X.1.2.2.2.2 ⟨(Nat.le_of_ble_eq_true rfl), (Nat.le_of_ble_eq_true rfl)⟩) rfl hl.1 rfl (Nat.le_of_ble_eq_true rfl) d_SM_meld_82 ⟨Nat.zero_le _, Nat.zero_le _⟩ (fun H locs hH => ?_)
  obtain ⟨u11, h12, hf⟩ := ob hf
  refine sk_callv X hH (As := [.ref (q 5), .int a, .int p9.1]) (rest := []) (c_SM_set 5 (by decide) h12) (k_SM_set X.1.2.2.2.2 ⟨(Nat.le_of_ble_eq_true rfl), (Nat.le_of_ble_eq_true rfl)⟩) rfl hl.1 rfl (Nat.le_of_ble_eq_true rfl) d_SM_meld_85 ⟨Nat.zero_le _, Nat.zero_le _⟩ (fun H locs hH => ?_)
  refine lv_aload_n X.1.1 X.1.2.1 d_SM_meld_88 rfl (lv_at hl 0 rfl) ?_
  refine lv_aload_n X.1.1 X.1.2.1 d_SM_meld_89 rfl (lv_at hl 0 rfl) ?_
  refine sk_gf X hH 8 29 (by decide) mf_SM_29 (v := .ref (q 5)) rfl d_SM_meld_90 ?_
  refine lv_iload_n X.1.1 X.1.2.1 d_SM_meld_93 rfl (lv_at hl 2 rfl) ?_
  refine lv_iconst (v := (-1)) X.1.1 X.1.2.1 d_SM_meld_94 (by decide) ?_
  obtain ⟨u13, h14, hf⟩ := ob hf
  refine sk_callv X hH (As := [.ref (q 5), .int b, .int (-1)]) (rest := []) (c_SM_set 5 (by decide) h14) (k_SM_set X.1.2.2.2.2 ⟨(Nat.le_of_ble_eq_true rfl), (Nat.le_of_ble_eq_true rfl)⟩) rfl hl.1 rfl (Nat.le_of_ble_eq_true rfl) d_SM_meld_95 ⟨Nat.zero_le _, Nat.zero_le _⟩ (fun H locs hH => ?_)
  refine lv_aload_n X.1.1 X.1.2.1 d_SM_meld_98 rfl (lv_at hl 0 rfl) ?_
  refine lv_aload_n X.1.1 X.1.2.1 d_SM_meld_99 rfl (lv_at hl 0 rfl) ?_
  refine sk_gf X hH 9 32 (by decide) mf_SM_32 (v := .ref (q 6)) rfl d_SM_meld_100 ?_
  refine lv_iload_n X.1.1 X.1.2.1 d_SM_meld_103 rfl (lv_at hl 1 rfl) ?_
  obtain ⟨p15, h16, hf⟩ := ob hf
  refine sk_calli X hH (As := [.ref (q 6), .int a]) (rest := []) (c_SM_get 6 (by decide) h16) (k_SM_get X.1.2.2.2.2 ⟨(Nat.le_of_ble_eq_true rfl), (Nat.le_of_ble_eq_true rfl)⟩) rfl hl.1 rfl (Nat.le_of_ble_eq_true rfl) d_SM_meld_104 ⟨Nat.zero_le _, Nat.zero_le _⟩ (fun H locs hH => ?_)
  refine lv_aload_n X.1.1 X.1.2.1 d_SM_meld_107 rfl (lv_at hl 0 rfl) ?_
  refine lv_aload_n X.1.1 X.1.2.1 d_SM_meld_108 rfl (lv_at hl 0 rfl) ?_
  refine sk_gf X hH 9 32 (by decide) mf_SM_32 (v := .ref (q 6)) rfl d_SM_meld_109 ?_
  refine lv_iload_n X.1.1 X.1.2.1 d_SM_meld_112 rfl (lv_at hl 2 rfl) ?_
  obtain ⟨p17, h18, hf⟩ := ob hf
  refine sk_calli X hH (As := [.ref (q 6), .int b]) (rest := [.int p15.1]) (c_SM_get 6 (by decide) h18) (k_SM_get X.1.2.2.2.2 ⟨(Nat.le_of_ble_eq_true rfl), (Nat.le_of_ble_eq_true rfl)⟩) rfl hl.1 rfl (Nat.le_of_ble_eq_true rfl) d_SM_meld_113 ⟨Nat.zero_le _, Nat.zero_le _⟩ (fun H locs hH => ?_)
  refine lv_iadd X.1.1 X.1.2.1 d_SM_meld_116 ?_
  refine lv_istore_n (lv' := [(3, .int (p15.1 + p17.1)), (0, .ref o), (1, .int a), (2, .int b)]) X.1.1 X.1.2.1 d_SM_meld_117 rfl hl (by decide) rfl (fun ls hl => ?_)
  refine lv_aload_n X.1.1 X.1.2.1 d_SM_meld_118 rfl (lv_at hl 1 rfl) ?_
  refine lv_aload_n X.1.1 X.1.2.1 d_SM_meld_119 rfl (lv_at hl 1 rfl) ?_
  refine sk_gf X hH 9 32 (by decide) mf_SM_32 (v := .ref (q 6)) rfl d_SM_meld_120 ?_
  refine lv_iload_n X.1.1 X.1.2.1 d_SM_meld_123 rfl (lv_at hl 2 rfl) ?_
  refine lv_iload_n X.1.1 X.1.2.1 d_SM_meld_124 rfl (lv_at hl 0 rfl) ?_
  obtain ⟨u19, h20, hf⟩ := ob hf
  refine sk_callv X hH (As := [.ref (q 6), .int a, .int (p15.1 + p17.1)]) (rest := []) (c_SM_set 6 (by decide) h20) (k_SM_set X.1.2.2.2.2 ⟨(Nat.le_of_ble_eq_true rfl), (Nat.le_of_ble_eq_true rfl)⟩) rfl hl.1 rfl (Nat.le_of_ble_eq_true rfl) d_SM_meld_125 ⟨Nat.zero_le _, Nat.zero_le _⟩ (fun H locs hH => ?_)
  refine lv_aload_n X.1.1 X.1.2.1 d_SM_meld_128 rfl (lv_at hl 1 rfl) ?_
  refine lv_aload_n X.1.1 X.1.2.1 d_SM_meld_129 rfl (lv_at hl 1 rfl) ?_
  refine sk_gf X hH 9 32 (by decide) mf_SM_32 (v := .ref (q 6)) rfl d_SM_meld_130 ?_
  refine lv_iload_n X.1.1 X.1.2.1 d_SM_meld_133 rfl (lv_at hl 3 rfl) ?_
  refine lv_iconst (v := 0) X.1.1 X.1.2.1 d_SM_meld_134 (by decide) ?_
  obtain ⟨u21, h22, hf⟩ := ob hf
  refine sk_callv X hH (As := [.ref (q 6), .int b, .int 0]) (rest := []) (c_SM_set 6 (by decide) h22) (k_SM_set X.1.2.2.2.2 ⟨(Nat.le_of_ble_eq_true rfl), (Nat.le_of_ble_eq_true rfl)⟩) rfl hl.1 rfl (Nat.le_of_ble_eq_true rfl) d_SM_meld_135 ⟨Nat.zero_le _, Nat.zero_le _⟩ (fun H locs hH => ?_)
  refine lv_iload_n X.1.1 X.1.2.1 d_SM_meld_138 rfl (lv_at hl 0 rfl) ?_
  obtain rfl := Option.some.inj hf
  exact sk_iret X hr hlk hH d_SM_meld_139
set_option maxHeartbeats 4000000 in
set_option maxRecDepth 100000 in
theorem v_SM_meld_21 (X : sk_X p m c b_SM_meld 4 s args R_SM D cA A) (hr : meth.sig.returnType = (some .int)) (hlk : meth.locks = false) {u : sk_T} {z : Int32 × sk_T} (hf : sk_meld3 u = some z) {H : Heap} {locs : List Loc} {ls : Array Slot} (hH : sk_H D A s.heap H locs o q cA u) (hl : lv_has ls 4 [(0, .ref o)]) : W p l e rm_SM_meld s m args below meth c H locs 0 0 (MQ below (sk_Qi D o q cA A z.1 z.2) args s 0 0 A) (F0 m 21 ls []) := by
  unfold sk_meld3 at hf
  refine lv_aload_n X.1.1 X.1.2.1 d_SM_meld_21 rfl (lv_at hl 0 rfl) ?_
  refine lv_ldc (v := sk_MAX) X.1.1 X.1.2.1 X.1.2.2.2.1 (X.1.2.2.2.2 _ mk_SM_78) d_SM_meld_22 ?_
  refine sk_callv X hH (As := [.int sk_MAX]) (rest := []) (c_SM_begin) (k_SM_begin X.1.2.2.2.2 ⟨(Nat.le_of_ble_eq_true rfl), (Nat.le_of_ble_eq_true rfl)⟩) rfl hl.1 rfl (Nat.le_of_ble_eq_true rfl) d_SM_meld_24 ⟨Nat.zero_le _, Nat.zero_le _⟩ (fun H locs hH => ?_)
  refine lv_iconst (v := (-1)) X.1.1 X.1.2.1 d_SM_meld_27 (by decide) ?_
  obtain rfl := Option.some.inj hf
  exact sk_iret X hr hlk hH d_SM_meld_28
set_option maxHeartbeats 4000000 in
set_option maxRecDepth 100000 in
theorem v_SM_meld_0 (X : sk_X p m c b_SM_meld 4 s args R_SM D cA A) (hr : meth.sig.returnType = (some .int)) (hlk : meth.locks = false) {u : sk_T} {a : Int32} {b : Int32} {z : Int32 × sk_T} (hf : sk_meld u a b = some z) {H : Heap} {locs : List Loc} {ls : Array Slot} (hH : sk_H D A s.heap H locs o q cA u) (hl : lv_has ls 4 [(0, .ref o), (1, .int a), (2, .int b)]) : W p l e rm_SM_meld s m args below meth c H locs 0 0 (MQ below (sk_Qi D o q cA A z.1 z.2) args s 0 0 A) (F0 m 0 ls []) := by
  unfold sk_meld at hf
  refine lv_aload_n X.1.1 X.1.2.1 d_SM_meld_0 rfl (lv_at hl 0 rfl) ?_
  refine lv_iload_n X.1.1 X.1.2.1 d_SM_meld_1 rfl (lv_at hl 1 rfl) ?_
  refine sk_calli X hH (As := [.int a]) (rest := []) (c_SM_isHeap) (k_SM_isHeap X.1.2.2.2.2 ⟨(Nat.le_of_ble_eq_true rfl), (Nat.le_of_ble_eq_true rfl)⟩) rfl hl.1 rfl (Nat.le_of_ble_eq_true rfl) d_SM_meld_2 ⟨Nat.zero_le _, Nat.zero_le _⟩ (fun H locs hH => ?_)
  refine lv_if_eq (tgt := 21) X.1.1 X.1.2.1 d_SM_meld_5 (by decide) (fun c1 => ?_) (fun c1 => ?_)
  · replace hf := ip c1 hf
    exact v_SM_meld_21 X hr hlk hf hH (lv_sub hl [0] rfl)
  · replace hf := im c1 hf
    refine lv_aload_n X.1.1 X.1.2.1 d_SM_meld_8 rfl (lv_at hl 0 rfl) ?_
    refine lv_iload_n X.1.1 X.1.2.1 d_SM_meld_9 rfl (lv_at hl 2 rfl) ?_
    refine sk_calli X hH (As := [.int b]) (rest := []) (c_SM_isHeap) (k_SM_isHeap X.1.2.2.2.2 ⟨(Nat.le_of_ble_eq_true rfl), (Nat.le_of_ble_eq_true rfl)⟩) rfl hl.1 rfl (Nat.le_of_ble_eq_true rfl) d_SM_meld_10 ⟨Nat.zero_le _, Nat.zero_le _⟩ (fun H locs hH => ?_)
    refine lv_if_eq (tgt := 21) X.1.1 X.1.2.1 d_SM_meld_13 (by decide) (fun c2 => ?_) (fun c2 => ?_)
    · replace hf := ip c2 hf
      exact v_SM_meld_21 X hr hlk hf hH (lv_sub hl [0] rfl)
    · replace hf := im c2 hf
      refine lv_iload_n X.1.1 X.1.2.1 d_SM_meld_16 rfl (lv_at hl 1 rfl) ?_
      refine lv_iload_n X.1.1 X.1.2.1 d_SM_meld_17 rfl (lv_at hl 2 rfl) ?_
      refine lv_icmp_ne (tgt := 29) X.1.1 X.1.2.1 d_SM_meld_18 (by decide) (fun c3 => ?_) (fun c3 => ?_)
      · replace hf := im c3 hf
        refine lv_aload_n X.1.1 X.1.2.1 d_SM_meld_29 rfl (lv_at hl 0 rfl) ?_
        refine lv_aload_n X.1.1 X.1.2.1 d_SM_meld_30 rfl (lv_at hl 0 rfl) ?_
        refine sk_gf X hH 9 32 (by decide) mf_SM_32 (v := .ref (q 6)) rfl d_SM_meld_31 ?_
        refine lv_iload_n X.1.1 X.1.2.1 d_SM_meld_34 rfl (lv_at hl 1 rfl) ?_
        obtain ⟨x4, h5, hf⟩ := ob hf
        refine sk_ld X hH 6 (by decide) h5 d_SM_meld_35 ?_
        refine lv_aload_n X.1.1 X.1.2.1 d_SM_meld_36 rfl (lv_at hl 0 rfl) ?_
        refine sk_gf X hH 9 32 (by decide) mf_SM_32 (v := .ref (q 6)) rfl d_SM_meld_37 ?_
        refine lv_iload_n X.1.1 X.1.2.1 d_SM_meld_40 rfl (lv_at hl 2 rfl) ?_
        obtain ⟨x6, h7, hf⟩ := ob hf
        refine sk_ld X hH 6 (by decide) h7 d_SM_meld_41 ?_
        refine lv_iadd X.1.1 X.1.2.1 d_SM_meld_42 ?_
        refine sk_calls X hH (As := [.int (x4 + x6)]) (rest := [.ref o]) (c_SM_fewFor) (k_SM_fewFor X.1.2.2.2.2 ⟨(Nat.le_of_ble_eq_true rfl), (Nat.le_of_ble_eq_true rfl)⟩) rfl hl.1 rfl (Nat.le_of_ble_eq_true rfl) d_SM_meld_43 ⟨Nat.zero_le _, Nat.zero_le _⟩ (fun H locs hH => ?_)
        refine sk_callv X hH (As := [.int (sk_fewFor (x4 + x6))]) (rest := []) (c_SM_begin) (k_SM_begin X.1.2.2.2.2 ⟨(Nat.le_of_ble_eq_true rfl), (Nat.le_of_ble_eq_true rfl)⟩) rfl hl.1 rfl (Nat.le_of_ble_eq_true rfl) d_SM_meld_46 ⟨Nat.zero_le _, Nat.zero_le _⟩ (fun H locs hH => ?_)
        exact v_SM_meld_49 X hr hlk hf hH (lv_sub hl [0, 1, 2] rfl)
      · replace hf := ip c3 hf
        exact v_SM_meld_21 X hr hlk hf hH (lv_sub hl [0] rfl)
end V_SM_meld
theorem c_SM_meld {l : Launch} {D : va_G} {o : Nat} {q : Nat → Nat} {cA : ClassId} {u : sk_T} {a : Int32} {b : Int32} {z : Int32 × sk_T} (hf : sk_meld u a b = some z) : sk_Mi l y_SM_meld w_SM_meld rm_SM_meld D o q cA [.ref o, .int a, .int b] u z.1 z.2 :=
  sk_entry (own := R_SM) (fun A => sk_Qi D o q cA A z.1 z.2) (by decide) rfl (Nat.le_of_ble_eq_true rfl) (fun p e s m below meth c A ls X hr hlk hH hl => v_SM_meld_0 X hr hlk hf hH hl)
-- SM_size
def rm_SM_size : Room := { frames := 1, cells := 0, slots := 0, locals := 21 }
section V_SM_size
variable {p : Program} {l : Launch} {e : Env} {s : State} {m : MethodId} {args : Array Value} {below : List Frame} {meth : Method} {c : Code} {D : va_G} {A : Nat → Prop} {o : Nat} {q : Nat → Nat} {cA : ClassId} {Q : State → Prop}
set_option maxHeartbeats 4000000 in
set_option maxRecDepth 100000 in
theorem v_SM_size_6 (X : sk_X p m c b_SM_size 2 s args R_SM D cA A) (hr : meth.sig.returnType = (some .int)) (hlk : meth.locks = false) {u : sk_T} {x : Int32} {z : Int32 × sk_T} (hf : sk_size2 u x = some z) {H : Heap} {locs : List Loc} {ls : Array Slot} (hH : sk_H D A s.heap H locs o q cA u) (hl : lv_has ls 2 [(0, .ref o), (1, .int x)]) : W p l e rm_SM_size s m args below meth c H locs 0 0 (MQ below (sk_Qi D o q cA A z.1 z.2) args s 0 0 A) (F0 m 6 ls []) := by
  unfold sk_size2 at hf
  refine lv_aload_n X.1.1 X.1.2.1 d_SM_size_6 rfl (lv_at hl 0 rfl) ?_
  refine lv_iload_n X.1.1 X.1.2.1 d_SM_size_7 rfl (lv_at hl 1 rfl) ?_
  refine sk_calli X hH (As := [.int x]) (rest := []) (c_SM_isHeap) (k_SM_isHeap X.1.2.2.2.2 ⟨(Nat.le_of_ble_eq_true rfl), (Nat.le_of_ble_eq_true rfl)⟩) rfl hl.1 rfl (Nat.le_of_ble_eq_true rfl) d_SM_size_8 ⟨Nat.zero_le _, Nat.zero_le _⟩ (fun H locs hH => ?_)
  refine lv_if_eq (tgt := 23) X.1.1 X.1.2.1 d_SM_size_11 (by decide) (fun c1 => ?_) (fun c1 => ?_)
  · replace hf := ip c1 hf
    refine lv_iconst (v := (-1)) X.1.1 X.1.2.1 d_SM_size_23 (by decide) ?_
    obtain rfl := Option.some.inj hf
    exact sk_iret X hr hlk hH d_SM_size_24
  · replace hf := im c1 hf
    refine lv_aload_n X.1.1 X.1.2.1 d_SM_size_14 rfl (lv_at hl 0 rfl) ?_
    refine sk_gf X hH 9 32 (by decide) mf_SM_32 (v := .ref (q 6)) rfl d_SM_size_15 ?_
    refine lv_iload_n X.1.1 X.1.2.1 d_SM_size_18 rfl (lv_at hl 1 rfl) ?_
    obtain ⟨x2, h3, hf⟩ := ob hf
    refine sk_ld X hH 6 (by decide) h3 d_SM_size_19 ?_
    refine lv_goto (tgt := 24) X.1.1 X.1.2.1 d_SM_size_20 (by decide) ?_
    obtain rfl := Option.some.inj hf
    exact sk_iret X hr hlk hH d_SM_size_24
set_option maxHeartbeats 4000000 in
set_option maxRecDepth 100000 in
theorem v_SM_size_0 (X : sk_X p m c b_SM_size 2 s args R_SM D cA A) (hr : meth.sig.returnType = (some .int)) (hlk : meth.locks = false) {u : sk_T} {x : Int32} {z : Int32 × sk_T} (hf : sk_size u x = some z) {H : Heap} {locs : List Loc} {ls : Array Slot} (hH : sk_H D A s.heap H locs o q cA u) (hl : lv_has ls 2 [(0, .ref o), (1, .int x)]) : W p l e rm_SM_size s m args below meth c H locs 0 0 (MQ below (sk_Qi D o q cA A z.1 z.2) args s 0 0 A) (F0 m 0 ls []) := by
  unfold sk_size at hf
  refine lv_aload_n X.1.1 X.1.2.1 d_SM_size_0 rfl (lv_at hl 0 rfl) ?_
  refine lv_ldc (v := sk_MAX) X.1.1 X.1.2.1 X.1.2.2.2.1 (X.1.2.2.2.2 _ mk_SM_78) d_SM_size_1 ?_
  refine sk_callv X hH (As := [.int sk_MAX]) (rest := []) (c_SM_begin) (k_SM_begin X.1.2.2.2.2 ⟨(Nat.le_of_ble_eq_true rfl), (Nat.le_of_ble_eq_true rfl)⟩) rfl hl.1 rfl (Nat.le_of_ble_eq_true rfl) d_SM_size_3 ⟨Nat.zero_le _, Nat.zero_le _⟩ (fun H locs hH => ?_)
  exact v_SM_size_6 X hr hlk hf hH (lv_sub hl [0, 1] rfl)
end V_SM_size
theorem c_SM_size {l : Launch} {D : va_G} {o : Nat} {q : Nat → Nat} {cA : ClassId} {u : sk_T} {x : Int32} {z : Int32 × sk_T} (hf : sk_size u x = some z) : sk_Mi l y_SM_size w_SM_size rm_SM_size D o q cA [.ref o, .int x] u z.1 z.2 :=
  sk_entry (own := R_SM) (fun A => sk_Qi D o q cA A z.1 z.2) (by decide) rfl (Nat.le_of_ble_eq_true rfl) (fun p e s m below meth c A ls X hr hlk hH hl => v_SM_size_0 X hr hlk hf hH hl)
-- SM_await
def rm_SM_await : Room := { frames := 0, cells := 0, slots := 0, locals := 0 }
section V_SM_await
variable {p : Program} {l : Launch} {e : Env} {s : State} {m : MethodId} {args : Array Value} {below : List Frame} {meth : Method} {c : Code} {D : va_G} {A : Nat → Prop} {o : Nat} {q : Nat → Nat} {cA : ClassId} {Q : State → Prop}
set_option maxHeartbeats 4000000 in
set_option maxRecDepth 100000 in
theorem v_SM_await_2 (X : sk_X p m c b_SM_await 3 s args R_SM D cA A) (hr : meth.sig.returnType = none) (hlk : meth.locks = false) : ∀ (n : Nat) {u : sk_T} {t : Int32} {z : sk_T} (hf : sk_awL n u t = some z) {H : Heap} {locs : List Loc} {ls : Array Slot} (hH : sk_H D A s.heap H locs o q cA u) (hl : lv_has ls 3 [(0, .ref o), (2, .int t)]), W p l e rm_SM_await s m args below meth c H locs 0 0 (MQ below (sk_Qv D o q cA A z) args s 0 0 A) (F0 m 2 ls []) := by
  intro n
  induction n with
  | zero =>
    intro u t z hf
    rw [sk_awL] at hf
    cases hf
  | succ n ih =>
    intro u t z hf H locs ls hH hl
    rw [sk_awL] at hf
    refine lv_iload_n X.1.1 X.1.2.1 d_SM_await_2 rfl (lv_at hl 1 rfl) ?_
    refine lv_iconst (v := (-1)) X.1.1 X.1.2.1 d_SM_await_3 (by decide) ?_
    refine lv_icmp_eq (tgt := 34) X.1.1 X.1.2.1 d_SM_await_4 (by decide) (fun c1 => ?_) (fun c1 => ?_)
    · replace hf := ip c1 hf
      obtain rfl := Option.some.inj hf
      exact sk_vret X hr hlk hH d_SM_await_34
    · replace hf := im c1 hf
      refine lv_aload_n X.1.1 X.1.2.1 d_SM_await_7 rfl (lv_at hl 0 rfl) ?_
      refine sk_gf X hH 13 38 (by decide) mf_SM_38 (v := .ref (q 8)) rfl d_SM_await_8 ?_
      refine lv_aload_n X.1.1 X.1.2.1 d_SM_await_11 rfl (lv_at hl 0 rfl) ?_
      refine lv_dup X.1.1 X.1.2.1 d_SM_await_12 rfl ?_
      refine sk_gf X hH 14 119 (by decide) mf_SM_119 (v := .int (u.2 5)) rfl d_SM_await_13 ?_
      refine lv_dup_x1 X.1.1 X.1.2.1 d_SM_await_16 rfl rfl ?_
      refine lv_iconst (v := 1) X.1.1 X.1.2.1 d_SM_await_17 (by decide) ?_
      refine lv_iadd X.1.1 X.1.2.1 d_SM_await_18 ?_
      refine sk_pf X hH 14 5 119 (by decide) mf_SM_119 rfl (by decide +kernel) rfl d_SM_await_19 (fun H locs hH => ?_)
      refine lv_iload_n X.1.1 X.1.2.1 d_SM_await_22 rfl (lv_at hl 1 rfl) ?_
      obtain ⟨u2, h3, hf⟩ := ob hf
      refine sk_st X hH 8 (by decide) h3 d_SM_await_23 (fun H locs hH => ?_)
      refine lv_aload_n X.1.1 X.1.2.1 d_SM_await_24 rfl (lv_at hl 0 rfl) ?_
      refine sk_gf X hH 3 19 (by decide) mf_SM_19 (v := .ref (q 3)) rfl d_SM_await_25 ?_
      refine lv_iload_n X.1.1 X.1.2.1 d_SM_await_28 rfl (lv_at hl 1 rfl) ?_
      obtain ⟨x4, h5, hf⟩ := ob hf
      refine sk_ld X hH 3 (by decide) h5 d_SM_await_29 ?_
      refine lv_istore_n (lv' := [(2, .int x4), (0, .ref o)]) X.1.1 X.1.2.1 d_SM_await_30 rfl hl (by decide) rfl (fun ls hl => ?_)
      refine lv_goto (tgt := 2) X.1.1 X.1.2.1 d_SM_await_31 (by decide) ?_
      exact ih hf hH (lv_sub hl [1, 0] rfl)
set_option maxHeartbeats 4000000 in
set_option maxRecDepth 100000 in
theorem v_SM_await_0 (X : sk_X p m c b_SM_await 3 s args R_SM D cA A) (hr : meth.sig.returnType = none) (hlk : meth.locks = false) {u : sk_T} {f : Int32} {z : sk_T} (hf : sk_await u f = some z) {H : Heap} {locs : List Loc} {ls : Array Slot} (hH : sk_H D A s.heap H locs o q cA u) (hl : lv_has ls 3 [(0, .ref o), (1, .int f)]) : W p l e rm_SM_await s m args below meth c H locs 0 0 (MQ below (sk_Qv D o q cA A z) args s 0 0 A) (F0 m 0 ls []) := by
  unfold sk_await at hf
  refine lv_iload_n X.1.1 X.1.2.1 d_SM_await_0 rfl (lv_at hl 1 rfl) ?_
  refine lv_istore_n (lv' := [(2, .int f), (0, .ref o), (1, .int f)]) X.1.1 X.1.2.1 d_SM_await_1 rfl hl (by decide) rfl (fun ls hl => ?_)
  exact v_SM_await_2 X hr hlk _ hf hH (lv_sub hl [1, 0] rfl)
end V_SM_await
theorem c_SM_await {l : Launch} {D : va_G} {o : Nat} {q : Nat → Nat} {cA : ClassId} {u : sk_T} {f : Int32} {z : sk_T} (hf : sk_await u f = some z) : sk_Mv l y_SM_await w_SM_await rm_SM_await D o q cA [.ref o, .int f] u z :=
  sk_entry (own := R_SM) (fun A => sk_Qv D o q cA A z) (by decide) rfl (Nat.le_of_ble_eq_true rfl) (fun p e s m below meth c A ls X hr hlk hH hl => v_SM_await_0 X hr hlk hf hH hl)
theorem k_SM_await {R : Room} {s : State} {args : Array Value} (ht : ∀ w ∈ lw_big, w.before args s = true) (hR : rm_SM_await.frames + 1 ≤ R.frames ∧ 8 + (3 + 11) + rm_SM_await.locals ≤ R.locals) : CallW R s args R_SM R_SM 125 y_SM_await b_SM_await 3 none w_SM_await rm_SM_await 0 0 1 := cwV 1 ht g_SM_SM_await e_SM_await rfl rfl (by decide +kernel) hR
-- SM_walk
def rm_SM_walk : Room := { frames := 1, cells := 0, slots := 0, locals := 22 }
section V_SM_walk
variable {p : Program} {l : Launch} {e : Env} {s : State} {m : MethodId} {args : Array Value} {below : List Frame} {meth : Method} {c : Code} {D : va_G} {A : Nat → Prop} {o : Nat} {q : Nat → Nat} {cA : ClassId} {Q : State → Prop}
set_option maxHeartbeats 4000000 in
set_option maxRecDepth 100000 in
theorem v_SM_walk_97 (X : sk_X p m c b_SM_walk 4 s args R_SM D cA A) (hr : meth.sig.returnType = none) (hlk : meth.locks = false) {u : sk_T} {y : Int32} {k : Int32} {z : sk_T} (hf : sk_wk3 u y k = some z) {H : Heap} {locs : List Loc} {ls : Array Slot} (hH : sk_H D A s.heap H locs o q cA u) (hl : lv_has ls 4 [(0, .ref o), (2, .int y), (3, .int k)]) (kk : ∀ (H : Heap) (locs : List Loc) (ls : Array Slot), sk_H D A s.heap H locs o q cA z → lv_has ls 4 [(0, .ref o), (2, .int y)] → W p l e rm_SM_walk s m args below meth c H locs 0 0 Q (F0 m 109 ls [])) : W p l e rm_SM_walk s m args below meth c H locs 0 0 Q (F0 m 97 ls []) := by
  unfold sk_wk3 at hf
  refine lv_aload_n X.1.1 X.1.2.1 d_SM_walk_97 rfl (lv_at hl 0 rfl) ?_
  refine sk_gf X hH 12 35 (by decide) mf_SM_35 (v := .ref (q 7)) rfl d_SM_walk_98 ?_
  refine lv_iload_n X.1.1 X.1.2.1 d_SM_walk_101 rfl (lv_at hl 2 rfl) ?_
  refine lv_aload_n X.1.1 X.1.2.1 d_SM_walk_102 rfl (lv_at hl 0 rfl) ?_
  refine sk_gf X hH 0 7 (by decide) mf_SM_7 (v := .ref (q 0)) rfl d_SM_walk_103 ?_
  refine lv_iload_n X.1.1 X.1.2.1 d_SM_walk_106 rfl (lv_at hl 1 rfl) ?_
  obtain ⟨x1, h2, hf⟩ := ob hf
  refine sk_ld X hH 0 (by decide) h2 d_SM_walk_107 ?_
  obtain ⟨u3, h4, hf⟩ := ob hf
  refine sk_st X hH 7 (by decide) h4 d_SM_walk_108 (fun H locs hH => ?_)
  obtain rfl := Option.some.inj hf
  exact kk _ _ _ hH (lv_sub hl [0, 1] rfl)
set_option maxHeartbeats 4000000 in
set_option maxRecDepth 100000 in
theorem v_SM_walk_56 (X : sk_X p m c b_SM_walk 4 s args R_SM D cA A) (hr : meth.sig.returnType = none) (hlk : meth.locks = false) : ∀ (n : Nat) {u : sk_T} {y : Int32} {k : Int32} {z : sk_T} (hf : sk_wk2 n u y k = some z) {H : Heap} {locs : List Loc} {ls : Array Slot} (hH : sk_H D A s.heap H locs o q cA u) (hl : lv_has ls 4 [(0, .ref o), (2, .int y), (3, .int k)]) (kk : ∀ (H : Heap) (locs : List Loc) (ls : Array Slot), sk_H D A s.heap H locs o q cA z → lv_has ls 4 [(0, .ref o), (2, .int y)] → W p l e rm_SM_walk s m args below meth c H locs 0 0 Q (F0 m 109 ls [])), W p l e rm_SM_walk s m args below meth c H locs 0 0 Q (F0 m 56 ls []) := by
  intro n
  induction n with
  | zero =>
    intro u y k z hf
    rw [sk_wk2] at hf
    cases hf
  | succ n ih =>
    intro u y k z hf H locs ls hH hl kk
    rw [sk_wk2] at hf
    refine lv_iload_n X.1.1 X.1.2.1 d_SM_walk_56 rfl (lv_at hl 2 rfl) ?_
    refine lv_if_le (tgt := 97) X.1.1 X.1.2.1 d_SM_walk_57 (by decide) (fun c1 => ?_) (fun c1 => ?_)
    · replace hf := ip c1 hf
      exact v_SM_walk_97 X hr hlk hf hH (lv_sub hl [0, 1, 2] rfl) kk
    · replace hf := im c1 hf
      refine lv_aload_n X.1.1 X.1.2.1 d_SM_walk_60 rfl (lv_at hl 0 rfl) ?_
      refine sk_gf X hH 12 35 (by decide) mf_SM_35 (v := .ref (q 7)) rfl d_SM_walk_61 ?_
      refine lv_iload_n X.1.1 X.1.2.1 d_SM_walk_64 rfl (lv_at hl 2 rfl) ?_
      refine lv_iconst (v := 1) X.1.1 X.1.2.1 d_SM_walk_65 (by decide) ?_
      refine lv_isub X.1.1 X.1.2.1 d_SM_walk_66 ?_
      obtain ⟨x2, h3, hf⟩ := ob hf
      refine sk_ld X hH 7 (by decide) h3 d_SM_walk_67 ?_
      refine lv_aload_n X.1.1 X.1.2.1 d_SM_walk_68 rfl (lv_at hl 0 rfl) ?_
      refine sk_gf X hH 0 7 (by decide) mf_SM_7 (v := .ref (q 0)) rfl d_SM_walk_69 ?_
      refine lv_iload_n X.1.1 X.1.2.1 d_SM_walk_72 rfl (lv_at hl 1 rfl) ?_
      obtain ⟨x4, h5, hf⟩ := ob hf
      refine sk_ld X hH 0 (by decide) h5 d_SM_walk_73 ?_
      refine lv_icmp_le (tgt := 97) X.1.1 X.1.2.1 d_SM_walk_74 (by decide) (fun c6 => ?_) (fun c6 => ?_)
      · replace hf := ip c6 hf
        exact v_SM_walk_97 X hr hlk hf hH (lv_sub hl [0, 1, 2] rfl) kk
      · replace hf := im c6 hf
        refine lv_aload_n X.1.1 X.1.2.1 d_SM_walk_77 rfl (lv_at hl 0 rfl) ?_
        refine sk_gf X hH 12 35 (by decide) mf_SM_35 (v := .ref (q 7)) rfl d_SM_walk_78 ?_
        refine lv_iload_n X.1.1 X.1.2.1 d_SM_walk_81 rfl (lv_at hl 2 rfl) ?_
        refine lv_aload_n X.1.1 X.1.2.1 d_SM_walk_82 rfl (lv_at hl 0 rfl) ?_
        refine sk_gf X hH 12 35 (by decide) mf_SM_35 (v := .ref (q 7)) rfl d_SM_walk_83 ?_
        refine lv_iload_n X.1.1 X.1.2.1 d_SM_walk_86 rfl (lv_at hl 2 rfl) ?_
        refine lv_iconst (v := 1) X.1.1 X.1.2.1 d_SM_walk_87 (by decide) ?_
        refine lv_isub X.1.1 X.1.2.1 d_SM_walk_88 ?_
        obtain ⟨x7, h8, hf⟩ := ob hf
        refine sk_ld X hH 7 (by decide) h8 d_SM_walk_89 ?_
        obtain ⟨u9, h10, hf⟩ := ob hf
        refine sk_st X hH 7 (by decide) h10 d_SM_walk_90 (fun H locs hH => ?_)
        refine lv_iinc (v := (k + (-1))) (lv' := [(3, .int (k + (-1))), (0, .ref o), (2, .int y)]) X.1.1 X.1.2.1 d_SM_walk_91 hl (k := 2) rfl (congrArg (fun w => k + w) (by decide)) (by decide) rfl (fun ls hl => ?_)
        refine lv_goto (tgt := 56) X.1.1 X.1.2.1 d_SM_walk_94 (by decide) ?_
        exact ih hf hH (lv_sub hl [1, 2, 0] rfl) kk
set_option maxHeartbeats 4000000 in
set_option maxRecDepth 100000 in
theorem v_SM_walk_20 (X : sk_X p m c b_SM_walk 4 s args R_SM D cA A) (hr : meth.sig.returnType = none) (hlk : meth.locks = false) : ∀ (n : Nat) {u : sk_T} {z : sk_T} (hf : sk_wkL n u = some z) {H : Heap} {locs : List Loc} {ls : Array Slot} (hH : sk_H D A s.heap H locs o q cA u) (hl : lv_has ls 4 [(0, .ref o)]), W p l e rm_SM_walk s m args below meth c H locs 0 0 (MQ below (sk_Qv D o q cA A z) args s 0 0 A) (F0 m 20 ls []) := by
  intro n
  induction n with
  | zero =>
    intro u z hf
    rw [sk_wkL] at hf
    cases hf
  | succ n ih =>
    intro u z hf H locs ls hH hl
    rw [sk_wkL] at hf
    refine lv_aload_n X.1.1 X.1.2.1 d_SM_walk_20 rfl (lv_at hl 0 rfl) ?_
    refine sk_gf X hH 14 119 (by decide) mf_SM_119 (v := .int (u.2 5)) rfl d_SM_walk_21 ?_
    refine lv_if_le (tgt := 132) X.1.1 X.1.2.1 d_SM_walk_24 (by decide) (fun c1 => ?_) (fun c1 => ?_)
    · replace hf := ip c1 hf
      obtain rfl := Option.some.inj hf
      exact sk_vret X hr hlk hH d_SM_walk_132
    · replace hf := im c1 hf
      refine lv_aload_n X.1.1 X.1.2.1 d_SM_walk_27 rfl (lv_at hl 0 rfl) ?_
      refine sk_gf X hH 13 38 (by decide) mf_SM_38 (v := .ref (q 8)) rfl d_SM_walk_28 ?_
      refine lv_aload_n X.1.1 X.1.2.1 d_SM_walk_31 rfl (lv_at hl 0 rfl) ?_
      refine lv_dup X.1.1 X.1.2.1 d_SM_walk_32 rfl ?_
      refine sk_gf X hH 14 119 (by decide) mf_SM_119 (v := .int (u.2 5)) rfl d_SM_walk_33 ?_
      refine lv_iconst (v := 1) X.1.1 X.1.2.1 d_SM_walk_36 (by decide) ?_
      refine lv_isub X.1.1 X.1.2.1 d_SM_walk_37 ?_
      refine lv_dup_x1 X.1.1 X.1.2.1 d_SM_walk_38 rfl rfl ?_
      refine sk_pf X hH 14 5 119 (by decide) mf_SM_119 rfl (by decide +kernel) rfl d_SM_walk_39 (fun H locs hH => ?_)
      obtain ⟨x2, h3, hf⟩ := ob hf
      refine sk_ld X hH 8 (by decide) h3 d_SM_walk_42 ?_
      refine lv_istore_n (lv' := [(2, .int x2), (0, .ref o)]) X.1.1 X.1.2.1 d_SM_walk_43 rfl hl (by decide) rfl (fun ls hl => ?_)
      refine lv_aload_n X.1.1 X.1.2.1 d_SM_walk_44 rfl (lv_at hl 1 rfl) ?_
      refine lv_dup X.1.1 X.1.2.1 d_SM_walk_45 rfl ?_
      refine sk_gf X hH 15 122 (by decide) mf_SM_122 (v := .int ((sk_sF u 5 ((u.2 5) - 1)).2 6)) rfl d_SM_walk_46 ?_
      refine lv_dup_x1 X.1.1 X.1.2.1 d_SM_walk_49 rfl rfl ?_
      refine lv_iconst (v := 1) X.1.1 X.1.2.1 d_SM_walk_50 (by decide) ?_
      refine lv_iadd X.1.1 X.1.2.1 d_SM_walk_51 ?_
      refine sk_pf X hH 15 6 122 (by decide) mf_SM_122 rfl (by decide +kernel) rfl d_SM_walk_52 (fun H locs hH => ?_)
      refine lv_istore_n (lv' := [(3, .int ((sk_sF u 5 ((u.2 5) - 1)).2 6)), (2, .int x2), (0, .ref o)]) X.1.1 X.1.2.1 d_SM_walk_55 rfl hl (by decide) rfl (fun ls hl => ?_)
      obtain ⟨u4, h5, hf⟩ := ob hf
      refine v_SM_walk_56 X hr hlk _ h5 hH (lv_sub hl [2, 1, 0] rfl) (fun H locs ls hH hl => ?_)
      refine lv_aload_n X.1.1 X.1.2.1 d_SM_walk_109 rfl (lv_at hl 0 rfl) ?_
      refine lv_aload_n X.1.1 X.1.2.1 d_SM_walk_110 rfl (lv_at hl 0 rfl) ?_
      refine sk_gf X hH 2 16 (by decide) mf_SM_16 (v := .ref (q 2)) rfl d_SM_walk_111 ?_
      refine lv_iload_n X.1.1 X.1.2.1 d_SM_walk_114 rfl (lv_at hl 1 rfl) ?_
      obtain ⟨x6, h7, hf⟩ := ob hf
      refine sk_ld X hH 2 (by decide) h7 d_SM_walk_115 ?_
      obtain ⟨u8, h9, hf⟩ := ob hf
      refine sk_callv X hH (As := [.int x6]) (rest := []) (c_SM_await h9) (k_SM_await X.1.2.2.2.2 ⟨(Nat.le_of_ble_eq_true rfl), (Nat.le_of_ble_eq_true rfl)⟩) rfl hl.1 rfl (Nat.le_of_ble_eq_true rfl) d_SM_walk_116 ⟨Nat.zero_le _, Nat.zero_le _⟩ (fun H locs hH => ?_)
      refine lv_aload_n X.1.1 X.1.2.1 d_SM_walk_119 rfl (lv_at hl 0 rfl) ?_
      refine lv_aload_n X.1.1 X.1.2.1 d_SM_walk_120 rfl (lv_at hl 0 rfl) ?_
      refine sk_gf X hH 4 22 (by decide) mf_SM_22 (v := .ref (q 4)) rfl d_SM_walk_121 ?_
      refine lv_iload_n X.1.1 X.1.2.1 d_SM_walk_124 rfl (lv_at hl 1 rfl) ?_
      obtain ⟨x10, h11, hf⟩ := ob hf
      refine sk_ld X hH 4 (by decide) h11 d_SM_walk_125 ?_
      obtain ⟨u12, h13, hf⟩ := ob hf
      refine sk_callv X hH (As := [.int x10]) (rest := []) (c_SM_await h13) (k_SM_await X.1.2.2.2.2 ⟨(Nat.le_of_ble_eq_true rfl), (Nat.le_of_ble_eq_true rfl)⟩) rfl hl.1 rfl (Nat.le_of_ble_eq_true rfl) d_SM_walk_126 ⟨Nat.zero_le _, Nat.zero_le _⟩ (fun H locs hH => ?_)
      refine lv_goto (tgt := 20) X.1.1 X.1.2.1 d_SM_walk_129 (by decide) ?_
      exact ih hf hH (lv_sub hl [0] rfl)
set_option maxHeartbeats 4000000 in
set_option maxRecDepth 100000 in
theorem v_SM_walk_0 (X : sk_X p m c b_SM_walk 4 s args R_SM D cA A) (hr : meth.sig.returnType = none) (hlk : meth.locks = false) {u : sk_T} {x : Int32} {z : sk_T} (hf : sk_walk u x = some z) {H : Heap} {locs : List Loc} {ls : Array Slot} (hH : sk_H D A s.heap H locs o q cA u) (hl : lv_has ls 4 [(0, .ref o), (1, .int x)]) : W p l e rm_SM_walk s m args below meth c H locs 0 0 (MQ below (sk_Qv D o q cA A z) args s 0 0 A) (F0 m 0 ls []) := by
  unfold sk_walk at hf
  refine lv_aload_n X.1.1 X.1.2.1 d_SM_walk_0 rfl (lv_at hl 0 rfl) ?_
  refine lv_iconst (v := 0) X.1.1 X.1.2.1 d_SM_walk_1 (by decide) ?_
  refine sk_pf X hH 15 6 122 (by decide) mf_SM_122 rfl (by decide +kernel) rfl d_SM_walk_2 (fun H locs hH => ?_)
  refine lv_aload_n X.1.1 X.1.2.1 d_SM_walk_5 rfl (lv_at hl 0 rfl) ?_
  refine lv_iconst (v := 0) X.1.1 X.1.2.1 d_SM_walk_6 (by decide) ?_
  refine sk_pf X hH 14 5 119 (by decide) mf_SM_119 rfl (by decide +kernel) rfl d_SM_walk_7 (fun H locs hH => ?_)
  refine lv_aload_n X.1.1 X.1.2.1 d_SM_walk_10 rfl (lv_at hl 0 rfl) ?_
  refine lv_aload_n X.1.1 X.1.2.1 d_SM_walk_11 rfl (lv_at hl 0 rfl) ?_
  refine sk_gf X hH 8 29 (by decide) mf_SM_29 (v := .ref (q 5)) rfl d_SM_walk_12 ?_
  refine lv_iload_n X.1.1 X.1.2.1 d_SM_walk_15 rfl (lv_at hl 1 rfl) ?_
  obtain ⟨x1, h2, hf⟩ := ob hf
  refine sk_ld X hH 5 (by decide) h2 d_SM_walk_16 ?_
  obtain ⟨u3, h4, hf⟩ := ob hf
  refine sk_callv X hH (As := [.int x1]) (rest := []) (c_SM_await h4) (k_SM_await X.1.2.2.2.2 ⟨(Nat.le_of_ble_eq_true rfl), (Nat.le_of_ble_eq_true rfl)⟩) rfl hl.1 rfl (Nat.le_of_ble_eq_true rfl) d_SM_walk_17 ⟨Nat.zero_le _, Nat.zero_le _⟩ (fun H locs hH => ?_)
  exact v_SM_walk_20 X hr hlk _ hf hH (lv_sub hl [0] rfl)
end V_SM_walk
theorem c_SM_walk {l : Launch} {D : va_G} {o : Nat} {q : Nat → Nat} {cA : ClassId} {u : sk_T} {x : Int32} {z : sk_T} (hf : sk_walk u x = some z) : sk_Mv l y_SM_walk w_SM_walk rm_SM_walk D o q cA [.ref o, .int x] u z :=
  sk_entry (own := R_SM) (fun A => sk_Qv D o q cA A z) (by decide) rfl (Nat.le_of_ble_eq_true rfl) (fun p e s m below meth c A ls X hr hlk hH hl => v_SM_walk_0 X hr hlk hf hH hl)
theorem k_SM_walk {R : Room} {s : State} {args : Array Value} (ht : ∀ w ∈ lw_big, w.before args s = true) (hR : rm_SM_walk.frames + 1 ≤ R.frames ∧ 8 + (4 + 11) + rm_SM_walk.locals ≤ R.locals) : CallW R s args R_SM R_SM 128 y_SM_walk b_SM_walk 4 none w_SM_walk rm_SM_walk 0 0 1 := cwV 1 ht g_SM_SM_walk e_SM_walk rfl rfl (by decide +kernel) hR
-- SM_key
def rm_SM_key : Room := { frames := 2, cells := 0, slots := 0, locals := 45 }
section V_SM_key
variable {p : Program} {l : Launch} {e : Env} {s : State} {m : MethodId} {args : Array Value} {below : List Frame} {meth : Method} {c : Code} {D : va_G} {A : Nat → Prop} {o : Nat} {q : Nat → Nat} {cA : ClassId} {Q : State → Prop}
set_option maxHeartbeats 4000000 in
set_option maxRecDepth 100000 in
theorem v_SM_key_6 (X : sk_X p m c b_SM_key 3 s args R_SM D cA A) (hr : meth.sig.returnType = (some .long)) (hlk : meth.locks = false) {u : sk_T} {x : Int32} {k : Int32} {z : Int64 × sk_T} (hf : sk_key2 u x k = some z) {H : Heap} {locs : List Loc} {ls : Array Slot} (hH : sk_H D A s.heap H locs o q cA u) (hl : lv_has ls 3 [(0, .ref o), (1, .int x), (2, .int k)]) : W p l e rm_SM_key s m args below meth c H locs 0 0 (MQ below (sk_Ql D o q cA A z.1 z.2) args s 0 0 A) (F0 m 6 ls []) := by
  unfold sk_key2 at hf
  refine lv_aload_n X.1.1 X.1.2.1 d_SM_key_6 rfl (lv_at hl 0 rfl) ?_
  refine lv_iload_n X.1.1 X.1.2.1 d_SM_key_7 rfl (lv_at hl 1 rfl) ?_
  refine sk_calli X hH (As := [.int x]) (rest := []) (c_SM_isHeap) (k_SM_isHeap X.1.2.2.2.2 ⟨(Nat.le_of_ble_eq_true rfl), (Nat.le_of_ble_eq_true rfl)⟩) rfl hl.1 rfl (Nat.le_of_ble_eq_true rfl) d_SM_key_8 ⟨Nat.zero_le _, Nat.zero_le _⟩ (fun H locs hH => ?_)
  refine lv_if_eq (tgt := 28) X.1.1 X.1.2.1 d_SM_key_11 (by decide) (fun c1 => ?_) (fun c1 => ?_)
  · replace hf := ip c1 hf
    refine lv_ldc2 (v := sk_MIN) X.1.1 X.1.2.1 X.1.2.2.2.1 (X.1.2.2.2.2 _ mk_SM_101) d_SM_key_28 ?_
    obtain rfl := Option.some.inj hf
    exact sk_lret X hr hlk hH d_SM_key_31
  · replace hf := im c1 hf
    refine lv_iload_n X.1.1 X.1.2.1 d_SM_key_14 rfl (lv_at hl 2 rfl) ?_
    refine lv_if_lt (tgt := 28) X.1.1 X.1.2.1 d_SM_key_15 (by decide) (fun c2 => ?_) (fun c2 => ?_)
    · replace hf := ip c2 hf
      refine lv_ldc2 (v := sk_MIN) X.1.1 X.1.2.1 X.1.2.2.2.1 (X.1.2.2.2.2 _ mk_SM_101) d_SM_key_28 ?_
      obtain rfl := Option.some.inj hf
      exact sk_lret X hr hlk hH d_SM_key_31
    · replace hf := im c2 hf
      refine lv_iload_n X.1.1 X.1.2.1 d_SM_key_18 rfl (lv_at hl 2 rfl) ?_
      refine lv_aload_n X.1.1 X.1.2.1 d_SM_key_19 rfl (lv_at hl 0 rfl) ?_
      refine sk_gf X hH 9 32 (by decide) mf_SM_32 (v := .ref (q 6)) rfl d_SM_key_20 ?_
      refine lv_iload_n X.1.1 X.1.2.1 d_SM_key_23 rfl (lv_at hl 1 rfl) ?_
      obtain ⟨x3, h4, hf⟩ := ob hf
      refine sk_ld X hH 6 (by decide) h4 d_SM_key_24 ?_
      refine lv_icmp_lt (tgt := 32) X.1.1 X.1.2.1 d_SM_key_25 (by decide) (fun c5 => ?_) (fun c5 => ?_)
      · replace hf := ip c5 hf
        refine lv_aload_n X.1.1 X.1.2.1 d_SM_key_32 rfl (lv_at hl 0 rfl) ?_
        refine lv_iload_n X.1.1 X.1.2.1 d_SM_key_33 rfl (lv_at hl 1 rfl) ?_
        obtain ⟨u6, h7, hf⟩ := ob hf
        refine sk_callv X hH (As := [.int x]) (rest := []) (c_SM_walk h7) (k_SM_walk X.1.2.2.2.2 ⟨(Nat.le_of_ble_eq_true rfl), (Nat.le_of_ble_eq_true rfl)⟩) rfl hl.1 rfl (Nat.le_of_ble_eq_true rfl) d_SM_key_34 ⟨Nat.zero_le _, Nat.zero_le _⟩ (fun H locs hH => ?_)
        refine lv_aload_n X.1.1 X.1.2.1 d_SM_key_37 rfl (lv_at hl 0 rfl) ?_
        refine sk_gf X hH 12 35 (by decide) mf_SM_35 (v := .ref (q 7)) rfl d_SM_key_38 ?_
        refine lv_iload_n X.1.1 X.1.2.1 d_SM_key_41 rfl (lv_at hl 2 rfl) ?_
        obtain ⟨x8, h9, hf⟩ := ob hf
        refine sk_ld X hH 7 (by decide) h9 d_SM_key_42 ?_
        refine lv_i2l (v := (Int32.toInt64 x8)) X.1.1 X.1.2.1 d_SM_key_43 rfl ?_
        obtain rfl := Option.some.inj hf
        exact sk_lret X hr hlk hH d_SM_key_44
      · replace hf := im c5 hf
        refine lv_ldc2 (v := sk_MIN) X.1.1 X.1.2.1 X.1.2.2.2.1 (X.1.2.2.2.2 _ mk_SM_101) d_SM_key_28 ?_
        obtain rfl := Option.some.inj hf
        exact sk_lret X hr hlk hH d_SM_key_31
set_option maxHeartbeats 4000000 in
set_option maxRecDepth 100000 in
theorem v_SM_key_0 (X : sk_X p m c b_SM_key 3 s args R_SM D cA A) (hr : meth.sig.returnType = (some .long)) (hlk : meth.locks = false) {u : sk_T} {x : Int32} {k : Int32} {z : Int64 × sk_T} (hf : sk_key u x k = some z) {H : Heap} {locs : List Loc} {ls : Array Slot} (hH : sk_H D A s.heap H locs o q cA u) (hl : lv_has ls 3 [(0, .ref o), (1, .int x), (2, .int k)]) : W p l e rm_SM_key s m args below meth c H locs 0 0 (MQ below (sk_Ql D o q cA A z.1 z.2) args s 0 0 A) (F0 m 0 ls []) := by
  unfold sk_key at hf
  refine lv_aload_n X.1.1 X.1.2.1 d_SM_key_0 rfl (lv_at hl 0 rfl) ?_
  refine lv_ldc (v := sk_MAX) X.1.1 X.1.2.1 X.1.2.2.2.1 (X.1.2.2.2.2 _ mk_SM_78) d_SM_key_1 ?_
  refine sk_callv X hH (As := [.int sk_MAX]) (rest := []) (c_SM_begin) (k_SM_begin X.1.2.2.2.2 ⟨(Nat.le_of_ble_eq_true rfl), (Nat.le_of_ble_eq_true rfl)⟩) rfl hl.1 rfl (Nat.le_of_ble_eq_true rfl) d_SM_key_3 ⟨Nat.zero_le _, Nat.zero_le _⟩ (fun H locs hH => ?_)
  exact v_SM_key_6 X hr hlk hf hH (lv_sub hl [0, 1, 2] rfl)
end V_SM_key
theorem c_SM_key {l : Launch} {D : va_G} {o : Nat} {q : Nat → Nat} {cA : ClassId} {u : sk_T} {x : Int32} {k : Int32} {z : Int64 × sk_T} (hf : sk_key u x k = some z) : sk_Ml l y_SM_key w_SM_key rm_SM_key D o q cA [.ref o, .int x, .int k] u z.1 z.2 :=
  sk_entry (own := R_SM) (fun A => sk_Ql D o q cA A z.1 z.2) (by decide) rfl (Nat.le_of_ble_eq_true rfl) (fun p e s m below meth c A ls X hr hlk hH hl => v_SM_key_0 X hr hlk hf hH hl)
-- SM_sum
def rm_SM_sum : Room := { frames := 2, cells := 0, slots := 0, locals := 45 }
section V_SM_sum
variable {p : Program} {l : Launch} {e : Env} {s : State} {m : MethodId} {args : Array Value} {below : List Frame} {meth : Method} {c : Code} {D : va_G} {A : Nat → Prop} {o : Nat} {q : Nat → Nat} {cA : ClassId} {Q : State → Prop}
set_option maxHeartbeats 4000000 in
set_option maxRecDepth 100000 in
theorem v_SM_sum_29 (X : sk_X p m c b_SM_sum 5 s args R_SM D cA A) (hr : meth.sig.returnType = (some .long)) (hlk : meth.locks = false) : ∀ (n : Nat) {u : sk_T} {a : Int64} {k : Int32} {z : Int64 × sk_T} (hf : sk_sumL n u a k = some z) {H : Heap} {locs : List Loc} {ls : Array Slot} (hH : sk_H D A s.heap H locs o q cA u) (hl : lv_has ls 5 [(0, .ref o), (2, .long a), (4, .int k)]), W p l e rm_SM_sum s m args below meth c H locs 0 0 (MQ below (sk_Ql D o q cA A z.1 z.2) args s 0 0 A) (F0 m 29 ls []) := by
  intro n
  induction n with
  | zero =>
    intro u a k z hf
    rw [sk_sumL] at hf
    cases hf
  | succ n ih =>
    intro u a k z hf H locs ls hH hl
    rw [sk_sumL] at hf
    refine lv_iload X.1.1 X.1.2.1 d_SM_sum_29 (lv_at hl 2 rfl) ?_
    refine lv_aload_n X.1.1 X.1.2.1 d_SM_sum_31 rfl (lv_at hl 0 rfl) ?_
    refine sk_gf X hH 15 122 (by decide) mf_SM_122 (v := .int (u.2 6)) rfl d_SM_sum_32 ?_
    refine lv_icmp_ge (tgt := 55) X.1.1 X.1.2.1 d_SM_sum_35 (by decide) (fun c1 => ?_) (fun c1 => ?_)
    · replace hf := ip c1 hf
      refine lv_lload_n X.1.1 X.1.2.1 d_SM_sum_55 rfl (lv_at hl 1 rfl) ?_
      obtain rfl := Option.some.inj hf
      exact sk_lret X hr hlk hH d_SM_sum_56
    · replace hf := im c1 hf
      refine lv_lload_n X.1.1 X.1.2.1 d_SM_sum_38 rfl (lv_at hl 1 rfl) ?_
      refine lv_aload_n X.1.1 X.1.2.1 d_SM_sum_39 rfl (lv_at hl 0 rfl) ?_
      refine sk_gf X hH 12 35 (by decide) mf_SM_35 (v := .ref (q 7)) rfl d_SM_sum_40 ?_
      refine lv_iload X.1.1 X.1.2.1 d_SM_sum_43 (lv_at hl 2 rfl) ?_
      obtain ⟨x2, h3, hf⟩ := ob hf
      refine sk_ld X hH 7 (by decide) h3 d_SM_sum_45 ?_
      refine lv_i2l (v := (Int32.toInt64 x2)) X.1.1 X.1.2.1 d_SM_sum_46 rfl ?_
      refine lv_ladd X.1.1 X.1.2.1 d_SM_sum_47 ?_
      refine lv_lstore_n (lv' := [(2, .long (a + (Int32.toInt64 x2))), (0, .ref o), (4, .int k)]) X.1.1 X.1.2.1 d_SM_sum_48 rfl hl (by decide) rfl (fun ls hl => ?_)
      refine lv_iinc (v := (k + 1)) (lv' := [(4, .int (k + 1)), (2, .long (a + (Int32.toInt64 x2))), (0, .ref o)]) X.1.1 X.1.2.1 d_SM_sum_49 hl (k := 2) rfl (congrArg (fun w => k + w) (by decide)) (by decide) rfl (fun ls hl => ?_)
      refine lv_goto (tgt := 29) X.1.1 X.1.2.1 d_SM_sum_52 (by decide) ?_
      exact ih hf hH (lv_sub hl [2, 1, 0] rfl)
set_option maxHeartbeats 4000000 in
set_option maxRecDepth 100000 in
theorem v_SM_sum_11 (X : sk_X p m c b_SM_sum 5 s args R_SM D cA A) (hr : meth.sig.returnType = (some .long)) (hlk : meth.locks = false) {u : sk_T} {x : Int32} {z : Int64 × sk_T} (hf : sk_sum2 u x = some z) {H : Heap} {locs : List Loc} {ls : Array Slot} (hH : sk_H D A s.heap H locs o q cA u) (hl : lv_has ls 5 [(0, .ref o), (1, .int x)]) : W p l e rm_SM_sum s m args below meth c H locs 0 0 (MQ below (sk_Ql D o q cA A z.1 z.2) args s 0 0 A) (F0 m 11 ls []) := by
  unfold sk_sum2 at hf
  refine lv_aload_n X.1.1 X.1.2.1 d_SM_sum_11 rfl (lv_at hl 0 rfl) ?_
  refine lv_iload_n X.1.1 X.1.2.1 d_SM_sum_12 rfl (lv_at hl 1 rfl) ?_
  refine sk_calli X hH (As := [.int x]) (rest := []) (c_SM_isHeap) (k_SM_isHeap X.1.2.2.2.2 ⟨(Nat.le_of_ble_eq_true rfl), (Nat.le_of_ble_eq_true rfl)⟩) rfl hl.1 rfl (Nat.le_of_ble_eq_true rfl) d_SM_sum_13 ⟨Nat.zero_le _, Nat.zero_le _⟩ (fun H locs hH => ?_)
  refine lv_if_eq (tgt := 24) X.1.1 X.1.2.1 d_SM_sum_16 (by decide) (fun c1 => ?_) (fun c1 => ?_)
  · replace hf := ip c1 hf
    refine lv_lconst (v := 0) X.1.1 X.1.2.1 d_SM_sum_24 (by decide) ?_
    refine lv_lstore_n (lv' := [(2, .long 0), (0, .ref o), (1, .int x)]) X.1.1 X.1.2.1 d_SM_sum_25 rfl hl (by decide) rfl (fun ls hl => ?_)
    refine lv_iconst (v := 0) X.1.1 X.1.2.1 d_SM_sum_26 (by decide) ?_
    refine lv_istore (lv' := [(4, .int 0), (2, .long 0), (0, .ref o), (1, .int x)]) X.1.1 X.1.2.1 d_SM_sum_27 hl (by decide) rfl (fun ls hl => ?_)
    exact v_SM_sum_29 X hr hlk _ hf hH (lv_sub hl [2, 1, 0] rfl)
  · replace hf := im c1 hf
    refine lv_aload_n X.1.1 X.1.2.1 d_SM_sum_19 rfl (lv_at hl 0 rfl) ?_
    refine lv_iload_n X.1.1 X.1.2.1 d_SM_sum_20 rfl (lv_at hl 1 rfl) ?_
    obtain ⟨u2, h3, hf⟩ := ob hf
    refine sk_callv X hH (As := [.int x]) (rest := []) (c_SM_walk h3) (k_SM_walk X.1.2.2.2.2 ⟨(Nat.le_of_ble_eq_true rfl), (Nat.le_of_ble_eq_true rfl)⟩) rfl hl.1 rfl (Nat.le_of_ble_eq_true rfl) d_SM_sum_21 ⟨Nat.zero_le _, Nat.zero_le _⟩ (fun H locs hH => ?_)
    refine lv_lconst (v := 0) X.1.1 X.1.2.1 d_SM_sum_24 (by decide) ?_
    refine lv_lstore_n (lv' := [(2, .long 0), (0, .ref o), (1, .int x)]) X.1.1 X.1.2.1 d_SM_sum_25 rfl hl (by decide) rfl (fun ls hl => ?_)
    refine lv_iconst (v := 0) X.1.1 X.1.2.1 d_SM_sum_26 (by decide) ?_
    refine lv_istore (lv' := [(4, .int 0), (2, .long 0), (0, .ref o), (1, .int x)]) X.1.1 X.1.2.1 d_SM_sum_27 hl (by decide) rfl (fun ls hl => ?_)
    exact v_SM_sum_29 X hr hlk _ hf hH (lv_sub hl [2, 1, 0] rfl)
set_option maxHeartbeats 4000000 in
set_option maxRecDepth 100000 in
theorem v_SM_sum_0 (X : sk_X p m c b_SM_sum 5 s args R_SM D cA A) (hr : meth.sig.returnType = (some .long)) (hlk : meth.locks = false) {u : sk_T} {x : Int32} {z : Int64 × sk_T} (hf : sk_sum u x = some z) {H : Heap} {locs : List Loc} {ls : Array Slot} (hH : sk_H D A s.heap H locs o q cA u) (hl : lv_has ls 5 [(0, .ref o), (1, .int x)]) : W p l e rm_SM_sum s m args below meth c H locs 0 0 (MQ below (sk_Ql D o q cA A z.1 z.2) args s 0 0 A) (F0 m 0 ls []) := by
  unfold sk_sum at hf
  refine lv_aload_n X.1.1 X.1.2.1 d_SM_sum_0 rfl (lv_at hl 0 rfl) ?_
  refine lv_ldc (v := sk_MAX) X.1.1 X.1.2.1 X.1.2.2.2.1 (X.1.2.2.2.2 _ mk_SM_78) d_SM_sum_1 ?_
  refine sk_callv X hH (As := [.int sk_MAX]) (rest := []) (c_SM_begin) (k_SM_begin X.1.2.2.2.2 ⟨(Nat.le_of_ble_eq_true rfl), (Nat.le_of_ble_eq_true rfl)⟩) rfl hl.1 rfl (Nat.le_of_ble_eq_true rfl) d_SM_sum_3 ⟨Nat.zero_le _, Nat.zero_le _⟩ (fun H locs hH => ?_)
  refine lv_aload_n X.1.1 X.1.2.1 d_SM_sum_6 rfl (lv_at hl 0 rfl) ?_
  refine lv_iconst (v := 0) X.1.1 X.1.2.1 d_SM_sum_7 (by decide) ?_
  refine sk_pf X hH 15 6 122 (by decide) mf_SM_122 rfl (by decide +kernel) rfl d_SM_sum_8 (fun H locs hH => ?_)
  exact v_SM_sum_11 X hr hlk hf hH (lv_sub hl [0, 1] rfl)
end V_SM_sum
theorem c_SM_sum {l : Launch} {D : va_G} {o : Nat} {q : Nat → Nat} {cA : ClassId} {u : sk_T} {x : Int32} {z : Int64 × sk_T} (hf : sk_sum u x = some z) : sk_Ml l y_SM_sum w_SM_sum rm_SM_sum D o q cA [.ref o, .int x] u z.1 z.2 :=
  sk_entry (own := R_SM) (fun A => sk_Ql D o q cA A z.1 z.2) (by decide) rfl (Nat.le_of_ble_eq_true rfl) (fun p e s m below meth c A ls X hr hlk hH hl => v_SM_sum_0 X hr hlk hf hH hl)
-- SM_free
def rm_SM_free : Room := { frames := 1, cells := 0, slots := 0, locals := 21 }
section V_SM_free
variable {p : Program} {l : Launch} {e : Env} {s : State} {m : MethodId} {args : Array Value} {below : List Frame} {meth : Method} {c : Code} {D : va_G} {A : Nat → Prop} {o : Nat} {q : Nat → Nat} {cA : ClassId} {Q : State → Prop}
set_option maxHeartbeats 4000000 in
set_option maxRecDepth 100000 in
theorem v_SM_free_0 (X : sk_X p m c b_SM_free 1 s args R_SM D cA A) (hr : meth.sig.returnType = (some .int)) (hlk : meth.locks = false) {u : sk_T} {z : Int32 × sk_T} (hf : sk_free u = some z) {H : Heap} {locs : List Loc} {ls : Array Slot} (hH : sk_H D A s.heap H locs o q cA u) (hl : lv_has ls 1 [(0, .ref o)]) : W p l e rm_SM_free s m args below meth c H locs 0 0 (MQ below (sk_Qi D o q cA A z.1 z.2) args s 0 0 A) (F0 m 0 ls []) := by
  unfold sk_free at hf
  refine lv_aload_n X.1.1 X.1.2.1 d_SM_free_0 rfl (lv_at hl 0 rfl) ?_
  refine lv_ldc (v := sk_MAX) X.1.1 X.1.2.1 X.1.2.2.2.1 (X.1.2.2.2.2 _ mk_SM_78) d_SM_free_1 ?_
  refine sk_callv X hH (As := [.int sk_MAX]) (rest := []) (c_SM_begin) (k_SM_begin X.1.2.2.2.2 ⟨(Nat.le_of_ble_eq_true rfl), (Nat.le_of_ble_eq_true rfl)⟩) rfl hl.1 rfl (Nat.le_of_ble_eq_true rfl) d_SM_free_3 ⟨Nat.zero_le _, Nat.zero_le _⟩ (fun H locs hH => ?_)
  refine lv_aload_n X.1.1 X.1.2.1 d_SM_free_6 rfl (lv_at hl 0 rfl) ?_
  refine sk_gf X hH 6 25 (by decide) mf_SM_25 (v := .int ((sk_begin u sk_MAX).2 1)) rfl d_SM_free_7 ?_
  obtain rfl := Option.some.inj hf
  exact sk_iret X hr hlk hH d_SM_free_10
end V_SM_free
theorem c_SM_free {l : Launch} {D : va_G} {o : Nat} {q : Nat → Nat} {cA : ClassId} {u : sk_T} {z : Int32 × sk_T} (hf : sk_free u = some z) : sk_Mi l y_SM_free w_SM_free rm_SM_free D o q cA [.ref o] u z.1 z.2 :=
  sk_entry (own := R_SM) (fun A => sk_Qi D o q cA A z.1 z.2) (by decide) rfl (Nat.le_of_ble_eq_true rfl) (fun p e s m below meth c A ls X hr hlk hH hl => v_SM_free_0 X hr hlk hf hH hl)
-- SM_few
def rm_SM_few : Room := { frames := 0, cells := 0, slots := 0, locals := 0 }
section V_SM_few
variable {p : Program} {l : Launch} {e : Env} {s : State} {m : MethodId} {args : Array Value} {below : List Frame} {meth : Method} {c : Code} {D : va_G} {A : Nat → Prop} {o : Nat} {q : Nat → Nat} {cA : ClassId} {Q : State → Prop}
set_option maxHeartbeats 4000000 in
set_option maxRecDepth 100000 in
theorem v_SM_few_0 (X : sk_X p m c b_SM_few 1 s args R_SM D cA A) (hr : meth.sig.returnType = (some .boolean)) (hlk : meth.locks = false) {u : sk_T} {z : Int32} (hf : sk_few u = z) {H : Heap} {locs : List Loc} {ls : Array Slot} (hH : sk_H D A s.heap H locs o q cA u) (hl : lv_has ls 1 [(0, .ref o)]) : W p l e rm_SM_few s m args below meth c H locs 0 0 (MQ below (sk_Qi D o q cA A z u) args s 0 0 A) (F0 m 0 ls []) := by
  unfold sk_few at hf
  refine lv_aload_n X.1.1 X.1.2.1 d_SM_few_0 rfl (lv_at hl 0 rfl) ?_
  refine sk_gf X hH 10 44 (by decide) mf_SM_44 (v := .int (u.2 3)) rfl d_SM_few_1 ?_
  refine lv_aload_n X.1.1 X.1.2.1 d_SM_few_4 rfl (lv_at hl 0 rfl) ?_
  refine sk_gf X hH 11 47 (by decide) mf_SM_47 (v := .int (u.2 4)) rfl d_SM_few_5 ?_
  refine lv_icmp_gt (tgt := 15) X.1.1 X.1.2.1 d_SM_few_8 (by decide) (fun c1 => ?_) (fun c1 => ?_)
  · replace hf := ip c1 hf
    refine lv_iconst (v := 0) X.1.1 X.1.2.1 d_SM_few_15 (by decide) ?_
    obtain rfl := hf
    exact sk_zret X hr hlk hH rfl d_SM_few_16
  · replace hf := im c1 hf
    refine lv_iconst (v := 1) X.1.1 X.1.2.1 d_SM_few_11 (by decide) ?_
    refine lv_goto (tgt := 16) X.1.1 X.1.2.1 d_SM_few_12 (by decide) ?_
    obtain rfl := hf
    exact sk_zret X hr hlk hH rfl d_SM_few_16
end V_SM_few
theorem c_SM_few {l : Launch} {D : va_G} {o : Nat} {q : Nat → Nat} {cA : ClassId} {u : sk_T} : sk_Mi l y_SM_few w_SM_few rm_SM_few D o q cA [.ref o] u (sk_few u) u :=
  sk_entry (own := R_SM) (fun A => sk_Qi D o q cA A (sk_few u) u) (by decide) rfl (Nat.le_of_ble_eq_true rfl) (fun p e s m below meth c A ls X hr hlk hH hl => v_SM_few_0 X hr hlk rfl hH hl)
end
section
/-! THE WORLD OF SkewMeldsModel: the object at h, its three rows (the third of booleans) -/
def md_fs (q : Nat → Nat) (F : Nat → Int32) : List Value := [.int (F 0), .int (F 1), .ref (q 0), .ref (q 1), .ref (q 2)]
def md_ws (h : Nat) (q : Nat → Nat) (cA cB : ClassId) (u : sk_T) : va_W := [(h, .inr (1, md_fs q u.2)), (q 0, .inl (cA, 200, .inl (u.1 0))), (q 1, .inl (cA, 200, .inl (u.1 1))), (q 2, .inl (cB, 200, .inl (u.1 2)))]
def md_H (D : va_G) (A : Nat → Prop) (H0 H : Heap) (locs : List Loc) (h : Nat) (q : Nat → Nat) (cA cB : ClassId) (u : sk_T) : Prop := va_P D classes (md_ws h q cA cB u) H ∧ va_D A (md_ws h q cA cB u) ∧ va_S A H0 H locs
def md_X (p : Program) (m : MethodId) (c : Code) (cc : ByteArray) (nL : Nat) (s : State) (args : Array Value) (own : String) (D : va_G) (cA cB : ClassId) (A : Nat → Prop) : Prop := CallFix p m c cc nL s args lw_big own ∧ va_K D classes [(cA, .int), (cB, .boolean)] s ∧ ∀ x, s.heap.size ≤ x → A x
def md_Pre (D : va_G) (h : Nat) (q : Nat → Nat) (cA cB : ClassId) (u : sk_T) (sz : Nat) : State → Prop := fun U => U.heap.size = sz ∧ va_P D classes (md_ws h q cA cB u) U.heap ∧ va_K D classes [(cA, .int), (cB, .boolean)] U ∧ va_D (fun _ => True) (md_ws h q cA cB u)
def md_Pst (D : va_G) (h : Nat) (q : Nat → Nat) (cA cB : ClassId) (A : Nat → Prop) (u : sk_T) (t : State) : Prop := va_P D classes (md_ws h q cA cB u) t.heap ∧ va_D A (md_ws h q cA cB u)
abbrev md_Qi (D : va_G) (h : Nat) (q : Nat → Nat) (cA cB : ClassId) (A : Nat → Prop) (r : Int32) (u : sk_T) : Array Value → State → Outcome → State → Prop := va_Qi (fun r1 u1 => r1 = r ∧ u1 = u) (md_Pst D h q cA cB A) A
abbrev md_Ql (D : va_G) (h : Nat) (q : Nat → Nat) (cA cB : ClassId) (A : Nat → Prop) (r : Int64) (u : sk_T) : Array Value → State → Outcome → State → Prop := va_Ql (fun r1 u1 => r1 = r ∧ u1 = u) (md_Pst D h q cA cB A) A
abbrev md_Qv (D : va_G) (h : Nat) (q : Nat → Nat) (cA cB : ClassId) (A : Nat → Prop) (u : sk_T) : Array Value → State → Outcome → State → Prop := va_Qv (fun u1 => u1 = u) (md_Pst D h q cA cB A) A
abbrev md_Mi (l : Launch) (y : MethodName) (ws : List Cond) (rm : Room) (D : va_G) (h : Nat) (q : Nat → Nat) (cA cB : ClassId) (av : List Value) (u : sk_T) (r : Int32) (u' : sk_T) : Prop := ∀ sz : Nat, Met l y ws rm (va_Pc av (md_Pre D h q cA cB u sz)) (md_Qi D h q cA cB (va_A (md_ws h q cA cB u) sz) r u') 0 0 (va_A (md_ws h q cA cB u) sz)
abbrev md_Ml (l : Launch) (y : MethodName) (ws : List Cond) (rm : Room) (D : va_G) (h : Nat) (q : Nat → Nat) (cA cB : ClassId) (av : List Value) (u : sk_T) (r : Int64) (u' : sk_T) : Prop := ∀ sz : Nat, Met l y ws rm (va_Pc av (md_Pre D h q cA cB u sz)) (md_Ql D h q cA cB (va_A (md_ws h q cA cB u) sz) r u') 0 0 (va_A (md_ws h q cA cB u) sz)
abbrev md_Mv (l : Launch) (y : MethodName) (ws : List Cond) (rm : Room) (D : va_G) (h : Nat) (q : Nat → Nat) (cA cB : ClassId) (av : List Value) (u : sk_T) (u' : sk_T) : Prop := ∀ sz : Nat, Met l y ws rm (va_Pc av (md_Pre D h q cA cB u sz)) (md_Qv D h q cA cB (va_A (md_ws h q cA cB u) sz) u') 0 0 (va_A (md_ws h q cA cB u) sz)
theorem md_blind {D : va_G} {h : Nat} {q : Nat → Nat} {cA cB : ClassId} {u : sk_T} {sz : Nat} {av : List Value} : FrameBlind (va_Pc av (md_Pre D h q cA cB u sz)) := by
  intro a U g mk hq
  obtain ⟨q0, q1, qP, qK, qD⟩ := hq
  exact ⟨q0, q1, qP, va_K.moved (u := U) (U := U.calling g mk a) (Vm.Alike.refl U.vm) qK, qD⟩
theorem md_at {h : Nat} {q : Nat → Nat} {cA cB : ClassId} {u : sk_T} {k : Nat} (hk : k < 2) : (md_ws h q cA cB u)[k + 1]? = some (q k, .inl (cA, 200, .inl (u.1 k))) :=
  match k, hk with
  | 0, _ => rfl
  | 1, _ => rfl
theorem md_upA {h : Nat} {q : Nat → Nat} {cA cB : ClassId} {u : sk_T} {k : Nat} (hk : k < 2) (g : Nat → Int32) : (md_ws h q cA cB u).set (k + 1) (q k, .inl (cA, 200, .inl g)) = md_ws h q cA cB (va_up u.1 k g, u.2) :=
  match k, hk with
  | 0, _ => rfl
  | 1, _ => rfl
section MDR
variable {p : Program} {l : Launch} {e : Env} {R : Room} {s : State} {m : MethodId} {args : Array Value} {below : List Frame} {meth : Method} {c : Code} {H : Heap} {locs : List Loc} {cells slots : Nat} {Q : State → Prop}
variable {cc : ByteArray} {nL pc : Nat} {ls : Array Slot} {rest st : List Value} {D : va_G} {A : Nat → Prop} {h : Nat} {q : Nat → Nat} {cA cB : ClassId} {u u' : sk_T} {own : String}
theorem md_gf (X : md_X p m c cc nL s args R_MD D cA cB A) (hH : md_H D A s.heap H locs h q cA cB u) (f idx : Nat) (hf : f < 5) (hlink : Cond.fieldLink R_MD idx (F_MD f).1 (F_MD f).2.1 (F_MD f).2.2.1 ∈ lw_big) {v : Value} (hv : (md_fs q u.2)[f]? = some v) (hdg : decode cc pc = .ok (.getfield idx, 3))
    (kk : W p l e R s m args below meth c H locs cells slots Q (F0 m (pc + 3) ls (v :: rest))) : W p l e R s m args below meth c H locs cells slots Q (F0 m pc ls (.ref h :: rest)) :=
  va_get (D := D) (ci := 1) (C := R_MD) (T := F_MD) (N := 5) (ws := md_ws h q cA cB u) (fs := md_fs q u.2) X.1.1 X.1.2.1 X.1.2.2.2.2 i_MD X.1.2.2.2.1 X.2.1 hH.1 0 rfl rfl f hf (X.1.2.2.2.2 _ hlink) (fun _ h9 => h9) hv hdg kk
theorem md_pf (X : md_X p m c cc nL s args R_MD D cA cB A) (hH : md_H D A s.heap H locs h q cA cB u) (f k idx : Nat) (hf : f < 5) (hlink : Cond.fieldLink R_MD idx (F_MD f).1 (F_MD f).2.1 (F_MD f).2.2.1 ∈ lw_big) (hfin : (F_MD f).2.2.2 = false) (hd : parseFieldDescriptor (F_MD f).2.2.1 = some .int) {v : Int32} (hset : (md_fs q u.2).set f (.int v) = md_fs q (upd u.2 k v)) (hdg : decode cc pc = .ok (.putfield idx, 3))
    (kk : ∀ (H1 : Heap) (locs1 : List Loc), md_H D A s.heap H1 locs1 h q cA cB (sk_sF u k v) → W p l e R s m args below meth c H1 locs1 cells slots Q (F0 m (pc + 3) ls rest)) : W p l e R s m args below meth c H locs cells slots Q (F0 m pc ls (.int v :: .ref h :: rest)) := by
  have e0 : (md_ws h q cA cB u).set 0 (h, .inr (1, (md_fs q u.2).set f (.int v))) = md_ws h q cA cB (sk_sF u k v) := by
    rw [hset]
    rfl
  refine va_put (D := D) (ci := 1) (v := .int v) (ty := .int) (C := R_MD) (T := F_MD) (N := 5) (ws := md_ws h q cA cB u) (fs := md_fs q u.2) X.1.1 X.1.2.1 X.1.2.2.2.2 i_MD t_MD t_MD_ok n_MD X.1.2.2.2.1 X.2.1 hH.1 hH.2.1 hH.2.2 0 rfl rfl f hf (X.1.2.2.2.2 _ hlink) (fun _ h9 => h9) hfin hd rfl rfl hf hdg (fun H1 locs1 hP hD hS => ?_)
  rw [e0] at hP hD
  exact kk H1 locs1 ⟨hP, hD, hS⟩
theorem md_ld (X : md_X p m c cc nL s args own D cA cB A) (hH : md_H D A s.heap H locs h q cA cB u) (k : Nat) (hk : k < 2) {i x : Int32} (h1 : md_rd u k i = some x) (hdg : decode cc pc = .ok (.iaload, 1))
    (kk : W p l e R s m args below meth c H locs cells slots Q (F0 m (pc + 1) ls (.int x :: rest))) : W p l e R s m args below meth c H locs cells slots Q (F0 m pc ls (.int i :: .ref (q k) :: rest)) := by
  unfold md_rd at h1
  by_cases hi : i < 0 ∨ 200 ≤ i.toNatClampNeg
  · rw [if_pos hi] at h1
    cases h1
  · rw [if_neg hi] at h1
    cases h1
    exact va_iald X.1.1 X.1.2.1 X.2.1 hH.1 (k + 1) 0 (md_at hk) rfl hi hdg kk
theorem md_ldz (X : md_X p m c cc nL s args own D cA cB A) (hH : md_H D A s.heap H locs h q cA cB u) {i x : Int32} (h1 : md_rd u 2 i = some x) (hdg : decode cc pc = .ok (.baload, 1))
    (kk : W p l e R s m args below meth c H locs cells slots Q (F0 m (pc + 1) ls (.int x :: rest))) : W p l e R s m args below meth c H locs cells slots Q (F0 m pc ls (.int i :: .ref (q 2) :: rest)) := by
  unfold md_rd at h1
  by_cases hi : i < 0 ∨ 200 ≤ i.toNatClampNeg
  · rw [if_pos hi] at h1
    cases h1
  · rw [if_neg hi] at h1
    cases h1
    exact va_zald X.1.1 X.1.2.1 X.2.1 hH.1 3 1 rfl rfl hi hdg kk
theorem md_st (X : md_X p m c cc nL s args own D cA cB A) (hH : md_H D A s.heap H locs h q cA cB u) (k : Nat) (hk : k < 2) {i x : Int32} (h1 : md_wr u k i x = some u') (hdg : decode cc pc = .ok (.iastore, 1))
    (kk : ∀ (H1 : Heap) (locs1 : List Loc), md_H D A s.heap H1 locs1 h q cA cB u' → W p l e R s m args below meth c H1 locs1 cells slots Q (F0 m (pc + 1) ls rest)) : W p l e R s m args below meth c H locs cells slots Q (F0 m pc ls (.int x :: .int i :: .ref (q k) :: rest)) := by
  unfold md_wr at h1
  by_cases hi : i < 0 ∨ 200 ≤ i.toNatClampNeg
  · rw [if_pos hi] at h1
    cases h1
  · rw [if_neg hi] at h1
    cases h1
    refine va_iast X.1.1 X.1.2.1 X.2.1 hH.1 hH.2.1 hH.2.2 (k + 1) 0 (md_at hk) rfl hi hdg (fun H1 locs1 hP hD hS => ?_)
    rw [md_upA hk] at hP hD
    exact kk H1 locs1 ⟨hP, hD, hS⟩
theorem md_stz (X : md_X p m c cc nL s args own D cA cB A) (hH : md_H D A s.heap H locs h q cA cB u) {i x : Int32} (hx : vp_nar .boolean x = x) (h1 : md_wr u 2 i x = some u') (hdg : decode cc pc = .ok (.bastore, 1))
    (kk : ∀ (H1 : Heap) (locs1 : List Loc), md_H D A s.heap H1 locs1 h q cA cB u' → W p l e R s m args below meth c H1 locs1 cells slots Q (F0 m (pc + 1) ls rest)) : W p l e R s m args below meth c H locs cells slots Q (F0 m pc ls (.int x :: .int i :: .ref (q 2) :: rest)) := by
  unfold md_wr at h1
  by_cases hi : i < 0 ∨ 200 ≤ i.toNatClampNeg
  · rw [if_pos hi] at h1
    cases h1
  · rw [if_neg hi] at h1
    cases h1
    refine va_zast X.1.1 X.1.2.1 X.2.1 hH.1 hH.2.1 hH.2.2 3 1 rfl rfl hi hdg (fun H1 locs1 hP hD hS => ?_)
    rw [hx] at hP hD
    exact kk H1 locs1 ⟨hP, hD, hS⟩
theorem md_fr (X : md_X p m c cc nL s args own D cA cB A) (hH : md_H D A s.heap H locs h q cA cB u) : ∀ x, va_A (md_ws h q cA cB u) H.size x → A x := by
  intro x hx
  rcases hx with ⟨k, e, hk⟩ | hx
  · exact hH.2.1.2 k (x, e) hk
  · exact X.2.2 x (Nat.le_trans hH.2.2.1 hx)
section MDC
variable {y : MethodName} {ws : List Cond} {rm : Room} {As : List Value} {idx maxL n : Nat} {bytes : ByteArray} {ret : Option FieldType}
theorem md_calli (X : md_X p m c cc nL s args R_MD D cA cB A) (hH : md_H D A s.heap H locs h q cA cB u) {r : Int32} (hM : md_Mi l y ws rm D h q cA cB (.ref h :: As) u r u') (cw : CallW R s args R_MD R_MD idx y bytes maxL ret ws rm 0 0 n) (hn : As.length = n) (hsz : ls.size = nL) (hst : st = As.reverse ++ .ref h :: rest) (hcat : (rest.map fun v => v.category).sum ≤ 8) (hdg : decode cc pc = .ok (.invokevirtual idx, 3)) (hcs : cells ≤ R.cells ∧ slots ≤ R.slots)
    (kk : ∀ (H1 : Heap) (locs1 : List Loc), md_H D A s.heap H1 locs1 h q cA cB u' → W p l e R s m args below meth c H1 locs1 cells slots Q (F0 m (pc + 3) ls (.int r :: rest))) : W p l e R s m args below meth c H locs cells slots Q (F0 m pc ls st) := by
  have hF := md_fr X hH
  subst hst
  refine va_calli (va_runV (As := As) (rest := rest) X.1 (hM H.size) cw ⟨md_blind, va_recv X.2.1 hH.1 (ci := 1) (q0 := 0) rfl rfl, fun U hU hW => ⟨rfl, by rw [hU], by rw [hU]; exact hH.1, va_K.moved hW.alike X.2.1, hH.2.1.weaken (fun _ _ _ _ => trivial)⟩⟩ rfl hn hsz rfl (lv_room hcat) hdg hcs) hH.2.2 (fun x _ hx => hF x hx) hF (fun r1 u1 t H1 locs1 ht hvm hw hB hz1 hk1 hS1 => ?_)
  obtain ⟨rfl, rfl⟩ := hw
  exact kk H1 locs1 ⟨by rw [← ht]; exact hB.1, hB.2.weaken (fun k x _ hx => hF x.1 hx), hS1⟩
theorem md_calll (X : md_X p m c cc nL s args R_MD D cA cB A) (hH : md_H D A s.heap H locs h q cA cB u) {r : Int64} (hM : md_Ml l y ws rm D h q cA cB (.ref h :: As) u r u') (cw : CallW R s args R_MD R_MD idx y bytes maxL ret ws rm 0 0 n) (hn : As.length = n) (hsz : ls.size = nL) (hst : st = As.reverse ++ .ref h :: rest) (hcat : (rest.map fun v => v.category).sum ≤ 8) (hdg : decode cc pc = .ok (.invokevirtual idx, 3)) (hcs : cells ≤ R.cells ∧ slots ≤ R.slots)
    (kk : ∀ (H1 : Heap) (locs1 : List Loc), md_H D A s.heap H1 locs1 h q cA cB u' → W p l e R s m args below meth c H1 locs1 cells slots Q (F0 m (pc + 3) ls (.long r :: rest))) : W p l e R s m args below meth c H locs cells slots Q (F0 m pc ls st) := by
  have hF := md_fr X hH
  subst hst
  refine va_calll (va_runV (As := As) (rest := rest) X.1 (hM H.size) cw ⟨md_blind, va_recv X.2.1 hH.1 (ci := 1) (q0 := 0) rfl rfl, fun U hU hW => ⟨rfl, by rw [hU], by rw [hU]; exact hH.1, va_K.moved hW.alike X.2.1, hH.2.1.weaken (fun _ _ _ _ => trivial)⟩⟩ rfl hn hsz rfl (lv_room hcat) hdg hcs) hH.2.2 (fun x _ hx => hF x hx) hF (fun r1 u1 t H1 locs1 ht hvm hw hB hz1 hk1 hS1 => ?_)
  obtain ⟨rfl, rfl⟩ := hw
  exact kk H1 locs1 ⟨by rw [← ht]; exact hB.1, hB.2.weaken (fun k x _ hx => hF x.1 hx), hS1⟩
theorem md_callv (X : md_X p m c cc nL s args R_MD D cA cB A) (hH : md_H D A s.heap H locs h q cA cB u) (hM : md_Mv l y ws rm D h q cA cB (.ref h :: As) u u') (cw : CallW R s args R_MD R_MD idx y bytes maxL ret ws rm 0 0 n) (hn : As.length = n) (hsz : ls.size = nL) (hst : st = As.reverse ++ .ref h :: rest) (hcat : (rest.map fun v => v.category).sum ≤ 8) (hdg : decode cc pc = .ok (.invokevirtual idx, 3)) (hcs : cells ≤ R.cells ∧ slots ≤ R.slots)
    (kk : ∀ (H1 : Heap) (locs1 : List Loc), md_H D A s.heap H1 locs1 h q cA cB u' → W p l e R s m args below meth c H1 locs1 cells slots Q (F0 m (pc + 3) ls rest)) : W p l e R s m args below meth c H locs cells slots Q (F0 m pc ls st) := by
  have hF := md_fr X hH
  subst hst
  refine va_callv (va_runV (As := As) (rest := rest) X.1 (hM H.size) cw ⟨md_blind, va_recv X.2.1 hH.1 (ci := 1) (q0 := 0) rfl rfl, fun U hU hW => ⟨rfl, by rw [hU], by rw [hU]; exact hH.1, va_K.moved hW.alike X.2.1, hH.2.1.weaken (fun _ _ _ _ => trivial)⟩⟩ rfl hn hsz rfl (lv_room hcat) hdg hcs) hH.2.2 (fun x _ hx => hF x hx) hF (fun u1 t H1 locs1 ht hvm hw hB hz1 hk1 hS1 => ?_)
  obtain rfl := hw
  exact kk H1 locs1 ⟨by rw [← ht]; exact hB.1, hB.2.weaken (fun k x _ hx => hF x.1 hx), hS1⟩
theorem md_calls (X : md_X p m c cc nL s args own D cA cB A) (hH : md_H D A s.heap H locs h q cA cB u) {r : Int32} (hM : md_Mi l y ws rm D h q cA cB As u r u') (cw : CallB R s args own idx y bytes maxL ret ws rm 0 0 n ∧ (Cond.static y).before args s = true) (hn : As.length = n) (hsz : ls.size = nL) (hst : st = As.reverse ++ rest) (hcat : (rest.map fun v => v.category).sum ≤ 8) (hdg : decode cc pc = .ok (.invokestatic idx, 3)) (hcs : cells ≤ R.cells ∧ slots ≤ R.slots)
    (kk : ∀ (H1 : Heap) (locs1 : List Loc), md_H D A s.heap H1 locs1 h q cA cB u' → W p l e R s m args below meth c H1 locs1 cells slots Q (F0 m (pc + 3) ls (.int r :: rest))) : W p l e R s m args below meth c H locs cells slots Q (F0 m pc ls st) := by
  have hF := md_fr X hH
  subst hst
  refine va_calli (va_runS (As := As) (rest := rest) X.1 (hM H.size) cw ⟨md_blind, fun U hU hW => ⟨rfl, by rw [hU], by rw [hU]; exact hH.1, va_K.moved hW.alike X.2.1, hH.2.1.weaken (fun _ _ _ _ => trivial)⟩⟩ rfl hn hsz rfl (lv_room hcat) hdg hcs) hH.2.2 (fun x _ hx => hF x hx) hF (fun r1 u1 t H1 locs1 ht hvm hw hB hz1 hk1 hS1 => ?_)
  obtain ⟨rfl, rfl⟩ := hw
  exact kk H1 locs1 ⟨by rw [← ht]; exact hB.1, hB.2.weaken (fun k x _ hx => hF x.1 hx), hS1⟩
end MDC
theorem md_iret (X : md_X p m c cc nL s args own D cA cB A) (hr : meth.sig.returnType = some .int) (hlk : meth.locks = false) (hH : md_H D A s.heap H locs h q cA cB u) {v : Int32} (hdg : decode cc pc = .ok (.ireturn, 1)) : W p l e R s m args below meth c H locs 0 0 (MQ below (md_Qi D h q cA cB A v u) args s 0 0 A) (F0 m pc ls [.int v]) :=
  W.iret (v := v) X.1.1 X.1.2.1 hr (fun t ht hW => ⟨⟨v, u, rfl, ⟨rfl, rfl⟩, by rw [ht]; exact hH.1, hH.2.1⟩, hH.2.2.F ht⟩) hH.2.2.2.2 hdg hlk
theorem md_zret (X : md_X p m c cc nL s args own D cA cB A) (hr : meth.sig.returnType = some .boolean) (hlk : meth.locks = false) (hH : md_H D A s.heap H locs h q cA cB u) {v : Int32} (hv : narrow .boolean (.int v) = .int v) (hdg : decode cc pc = .ok (.ireturn, 1)) : W p l e R s m args below meth c H locs 0 0 (MQ below (md_Qi D h q cA cB A v u) args s 0 0 A) (F0 m pc ls [.int v]) :=
  W.zret (v := v) X.1.1 X.1.2.1 hr hv (fun t ht hW => ⟨⟨v, u, rfl, ⟨rfl, rfl⟩, by rw [ht]; exact hH.1, hH.2.1⟩, hH.2.2.F ht⟩) hH.2.2.2.2 hdg hlk
theorem md_lret (X : md_X p m c cc nL s args own D cA cB A) (hr : meth.sig.returnType = some .long) (hlk : meth.locks = false) (hH : md_H D A s.heap H locs h q cA cB u) {v : Int64} (hdg : decode cc pc = .ok (.lreturn, 1)) : W p l e R s m args below meth c H locs 0 0 (MQ below (md_Ql D h q cA cB A v u) args s 0 0 A) (F0 m pc ls [.long v]) :=
  W.lret (v := v) X.1.1 X.1.2.1 hr (fun t ht hW => ⟨⟨v, u, rfl, ⟨rfl, rfl⟩, by rw [ht]; exact hH.1, hH.2.1⟩, hH.2.2.F ht⟩) hH.2.2.2.2 hdg hlk
theorem md_vret (X : md_X p m c cc nL s args own D cA cB A) (hr : meth.sig.returnType = none) (hlk : meth.locks = false) (hH : md_H D A s.heap H locs h q cA cB u) (hdg : decode cc pc = .ok (.return_, 1)) : W p l e R s m args below meth c H locs 0 0 (MQ below (md_Qv D h q cA cB A u) args s 0 0 A) (F0 m pc ls []) :=
  W.vret X.1.1 X.1.2.1 hr (fun t ht hW => ⟨⟨u, rfl, rfl, by rw [ht]; exact hH.1, hH.2.1⟩, hH.2.2.F ht⟩) hH.2.2.2.2 hdg hlk
end MDR
theorem md_entry {l : Launch} {y : MethodName} {cc : ByteArray} {maxL : Nat} {ret : Option FieldType} {rm : Room} {D : va_G} {h : Nat} {q : Nat → Nat} {cA cB : ClassId} {u : sk_T} {av : List Value} {own : String} (Qc : (Nat → Prop) → Array Value → State → Outcome → State → Prop) (hy : plainName y.cls = true) (ho : y.cls = own) (hlen : (lg_sl av).length ≤ maxL)
    (body : ∀ (p : Program) (e : Env) (s : State) (m : MethodId) (below : List Frame) (meth : Method) (c : Code) (A : Nat → Prop) (ls : Array Slot), md_X p m c cc maxL s av.toArray own D cA cB A → meth.sig.returnType = ret → meth.locks = false → md_H D A s.heap s.heap [] h q cA cB u → lv_has ls maxL (lv_args 0 av) → W p l e rm s m av.toArray below meth c s.heap [] 0 0 (MQ below (Qc A) av.toArray s 0 0 A) (F0 m 0 ls [])) :
    ∀ sz : Nat, Met l y (.code y cc maxL ret :: lw_big) rm (va_Pc av (md_Pre D h q cA cB u sz)) (Qc (va_A (md_ws h q cA cB u) sz)) 0 0 (va_A (md_ws h q cA cB u) sz) := by
  intro sz
  refine Met.ofW (cc := cc) (maxL := maxL) (ret := ret) hy rfl ?_
  intro p e s m args below meth c s₁ B hml hv
  obtain ⟨rfl, hsz, hP, hK, hD0⟩ := hv
  subst hsz
  subst ho
  have hts := atoms_spec (ws := .code y cc maxL ret :: lw_big) B.pre
  have hl := lv_entry av (n := maxL) hlen
  rw [lg_entry_eq]
  exact body p e s m below meth c _ _ ⟨⟨B.exec, B.bytes, hml, findClass_of_methodNamed B.named, fun w hw => hts w (List.mem_cons_of_mem _ hw)⟩, hK, fun x hx => Or.inr hx⟩ B.returns B.notSynchronized ⟨hP, hD0.self, va_S.rf⟩ hl
end
section
/-! printed by gen.py: walks of MD_isHeap, MD_heap, MD_sizeOf, MD_add, MD_placeOf, MD_untell, MD_least, MD_take, MD_meld, MD_size, MD_key, MD_sum, MD_free, MD_few -/
-- MD_isHeap
def rm_MD_isHeap : Room := { frames := 0, cells := 0, slots := 0, locals := 0 }
section V_MD_isHeap
variable {p : Program} {l : Launch} {e : Env} {s : State} {m : MethodId} {args : Array Value} {below : List Frame} {meth : Method} {c : Code} {D : va_G} {A : Nat → Prop} {o : Nat} {q : Nat → Nat} {cA cB : ClassId} {Q : State → Prop}
set_option maxHeartbeats 4000000 in
set_option maxRecDepth 100000 in
theorem v_MD_isHeap_0 (X : md_X p m c b_MD_isHeap 2 s args R_MD D cA cB A) (hr : meth.sig.returnType = (some .boolean)) (hlk : meth.locks = false) {u : sk_T} {x : Int32} {z : Int32} (hf : md_isHeap u x = z) {H : Heap} {locs : List Loc} {ls : Array Slot} (hH : md_H D A s.heap H locs o q cA cB u) (hl : lv_has ls 2 [(0, .ref o), (1, .int x)]) : W p l e rm_MD_isHeap s m args below meth c H locs 0 0 (MQ below (md_Qi D o q cA cB A z u) args s 0 0 A) (F0 m 0 ls []) := by
  unfold md_isHeap at hf
  refine lv_iload_n X.1.1 X.1.2.1 d_MD_isHeap_0 rfl (lv_at hl 1 rfl) ?_
  refine lv_if_lt (tgt := 16) X.1.1 X.1.2.1 d_MD_isHeap_1 (by decide) (fun c1 => ?_) (fun c1 => ?_)
  · replace hf := ip c1 hf
    refine lv_iconst (v := 0) X.1.1 X.1.2.1 d_MD_isHeap_16 (by decide) ?_
    obtain rfl := hf
    exact md_zret X hr hlk hH rfl d_MD_isHeap_17
  · replace hf := im c1 hf
    refine lv_iload_n X.1.1 X.1.2.1 d_MD_isHeap_4 rfl (lv_at hl 1 rfl) ?_
    refine lv_aload_n X.1.1 X.1.2.1 d_MD_isHeap_5 rfl (lv_at hl 0 rfl) ?_
    refine md_gf X hH 0 20 (by decide) mf_MD_20 (v := .int (u.2 0)) rfl d_MD_isHeap_6 ?_
    refine lv_icmp_ge (tgt := 16) X.1.1 X.1.2.1 d_MD_isHeap_9 (by decide) (fun c2 => ?_) (fun c2 => ?_)
    · replace hf := ip c2 hf
      refine lv_iconst (v := 0) X.1.1 X.1.2.1 d_MD_isHeap_16 (by decide) ?_
      obtain rfl := hf
      exact md_zret X hr hlk hH rfl d_MD_isHeap_17
    · replace hf := im c2 hf
      refine lv_iconst (v := 1) X.1.1 X.1.2.1 d_MD_isHeap_12 (by decide) ?_
      refine lv_goto (tgt := 17) X.1.1 X.1.2.1 d_MD_isHeap_13 (by decide) ?_
      obtain rfl := hf
      exact md_zret X hr hlk hH rfl d_MD_isHeap_17
end V_MD_isHeap
theorem c_MD_isHeap {l : Launch} {D : va_G} {o : Nat} {q : Nat → Nat} {cA cB : ClassId} {u : sk_T} {x : Int32} : md_Mi l y_MD_isHeap w_MD_isHeap rm_MD_isHeap D o q cA cB [.ref o, .int x] u (md_isHeap u x) u :=
  md_entry (own := R_MD) (fun A => md_Qi D o q cA cB A (md_isHeap u x) u) (by decide) rfl (Nat.le_of_ble_eq_true rfl) (fun p e s m below meth c A ls X hr hlk hH hl => v_MD_isHeap_0 X hr hlk rfl hH hl)
theorem k_MD_isHeap {R : Room} {s : State} {args : Array Value} (ht : ∀ w ∈ lw_big, w.before args s = true) (hR : rm_MD_isHeap.frames + 1 ≤ R.frames ∧ 8 + (2 + 11) + rm_MD_isHeap.locals ≤ R.locals) : CallW R s args R_MD R_MD 27 y_MD_isHeap b_MD_isHeap 2 (some .boolean) w_MD_isHeap rm_MD_isHeap 0 0 1 := cwV 1 ht g_MD_MD_isHeap e_MD_isHeap rfl rfl (by decide +kernel) hR
-- MD_heap
def rm_MD_heap : Room := { frames := 0, cells := 0, slots := 0, locals := 0 }
section V_MD_heap
variable {p : Program} {l : Launch} {e : Env} {s : State} {m : MethodId} {args : Array Value} {below : List Frame} {meth : Method} {c : Code} {D : va_G} {A : Nat → Prop} {o : Nat} {q : Nat → Nat} {cA cB : ClassId} {Q : State → Prop}
set_option maxHeartbeats 4000000 in
set_option maxRecDepth 100000 in
theorem v_MD_heap_0 (X : md_X p m c b_MD_heap 1 s args R_MD D cA cB A) (hr : meth.sig.returnType = (some .int)) (hlk : meth.locks = false) {u : sk_T} {z : Int32 × sk_T} (hf : md_heap u = some z) {H : Heap} {locs : List Loc} {ls : Array Slot} (hH : md_H D A s.heap H locs o q cA cB u) (hl : lv_has ls 1 [(0, .ref o)]) : W p l e rm_MD_heap s m args below meth c H locs 0 0 (MQ below (md_Qi D o q cA cB A z.1 z.2) args s 0 0 A) (F0 m 0 ls []) := by
  unfold md_heap at hf
  refine lv_aload_n X.1.1 X.1.2.1 d_MD_heap_0 rfl (lv_at hl 0 rfl) ?_
  refine md_gf X hH 0 20 (by decide) mf_MD_20 (v := .int (u.2 0)) rfl d_MD_heap_1 ?_
  refine lv_bipush (v := 8) X.1.1 X.1.2.1 d_MD_heap_4 (by decide) ?_
  refine lv_icmp_ne (tgt := 11) X.1.1 X.1.2.1 d_MD_heap_6 (by decide) (fun c1 => ?_) (fun c1 => ?_)
  · replace hf := im c1 hf
    refine lv_aload_n X.1.1 X.1.2.1 d_MD_heap_11 rfl (lv_at hl 0 rfl) ?_
    refine lv_dup X.1.1 X.1.2.1 d_MD_heap_12 rfl ?_
    refine md_gf X hH 0 20 (by decide) mf_MD_20 (v := .int (u.2 0)) rfl d_MD_heap_13 ?_
    refine lv_iconst (v := 1) X.1.1 X.1.2.1 d_MD_heap_16 (by decide) ?_
    refine lv_iadd X.1.1 X.1.2.1 d_MD_heap_17 ?_
    refine md_pf X hH 0 0 20 (by decide) mf_MD_20 rfl (by decide +kernel) rfl d_MD_heap_18 (fun H locs hH => ?_)
    refine lv_aload_n X.1.1 X.1.2.1 d_MD_heap_21 rfl (lv_at hl 0 rfl) ?_
    refine md_gf X hH 0 20 (by decide) mf_MD_20 (v := .int ((sk_sF u 0 ((u.2 0) + 1)).2 0)) rfl d_MD_heap_22 ?_
    refine lv_iconst (v := 1) X.1.1 X.1.2.1 d_MD_heap_25 (by decide) ?_
    refine lv_isub X.1.1 X.1.2.1 d_MD_heap_26 ?_
    obtain rfl := Option.some.inj hf
    exact md_iret X hr hlk hH d_MD_heap_27
  · replace hf := ip c1 hf
    refine lv_iconst (v := (-1)) X.1.1 X.1.2.1 d_MD_heap_9 (by decide) ?_
    obtain rfl := Option.some.inj hf
    exact md_iret X hr hlk hH d_MD_heap_10
end V_MD_heap
theorem c_MD_heap {l : Launch} {D : va_G} {o : Nat} {q : Nat → Nat} {cA cB : ClassId} {u : sk_T} {z : Int32 × sk_T} (hf : md_heap u = some z) : md_Mi l y_MD_heap w_MD_heap rm_MD_heap D o q cA cB [.ref o] u z.1 z.2 :=
  md_entry (own := R_MD) (fun A => md_Qi D o q cA cB A z.1 z.2) (by decide) rfl (Nat.le_of_ble_eq_true rfl) (fun p e s m below meth c A ls X hr hlk hH hl => v_MD_heap_0 X hr hlk hf hH hl)
-- MD_sizeOf
def rm_MD_sizeOf : Room := { frames := 0, cells := 0, slots := 0, locals := 0 }
section V_MD_sizeOf
variable {p : Program} {l : Launch} {e : Env} {s : State} {m : MethodId} {args : Array Value} {below : List Frame} {meth : Method} {c : Code} {D : va_G} {A : Nat → Prop} {o : Nat} {q : Nat → Nat} {cA cB : ClassId} {Q : State → Prop}
set_option maxHeartbeats 4000000 in
set_option maxRecDepth 100000 in
theorem v_MD_sizeOf_4 (X : md_X p m c b_MD_sizeOf 4 s args R_MD D cA cB A) (hr : meth.sig.returnType = (some .int)) (hlk : meth.locks = false) : ∀ (n : Nat) {u : sk_T} {x : Int32} {a : Int32} {k : Int32} {z : Int32} (hf : md_soL n u x a k = some z) {H : Heap} {locs : List Loc} {ls : Array Slot} (hH : md_H D A s.heap H locs o q cA cB u) (hl : lv_has ls 4 [(0, .ref o), (1, .int x), (2, .int a), (3, .int k)]), W p l e rm_MD_sizeOf s m args below meth c H locs 0 0 (MQ below (md_Qi D o q cA cB A z u) args s 0 0 A) (F0 m 4 ls []) := by
  intro n
  induction n with
  | zero =>
    intro u x a k z hf
    rw [md_soL] at hf
    cases hf
  | succ n ih =>
    intro u x a k z hf H locs ls hH hl
    rw [md_soL] at hf
    refine lv_iload_n X.1.1 X.1.2.1 d_MD_sizeOf_4 rfl (lv_at hl 3 rfl) ?_
    refine lv_aload_n X.1.1 X.1.2.1 d_MD_sizeOf_5 rfl (lv_at hl 0 rfl) ?_
    refine md_gf X hH 1 24 (by decide) mf_MD_24 (v := .int (u.2 1)) rfl d_MD_sizeOf_6 ?_
    refine lv_icmp_ge (tgt := 36) X.1.1 X.1.2.1 d_MD_sizeOf_9 (by decide) (fun c1 => ?_) (fun c1 => ?_)
    · replace hf := ip c1 hf
      refine lv_iload_n X.1.1 X.1.2.1 d_MD_sizeOf_36 rfl (lv_at hl 2 rfl) ?_
      obtain rfl := Option.some.inj hf
      exact md_iret X hr hlk hH d_MD_sizeOf_37
    · replace hf := im c1 hf
      refine lv_iload_n X.1.1 X.1.2.1 d_MD_sizeOf_12 rfl (lv_at hl 2 rfl) ?_
      refine lv_aload_n X.1.1 X.1.2.1 d_MD_sizeOf_13 rfl (lv_at hl 0 rfl) ?_
      refine md_gf X hH 2 7 (by decide) mf_MD_7 (v := .ref (q 0)) rfl d_MD_sizeOf_14 ?_
      refine lv_iload_n X.1.1 X.1.2.1 d_MD_sizeOf_17 rfl (lv_at hl 3 rfl) ?_
      obtain ⟨x2, h3, hf⟩ := ob hf
      refine md_ld X hH 0 (by decide) h3 d_MD_sizeOf_18 ?_
      refine lv_iload_n X.1.1 X.1.2.1 d_MD_sizeOf_19 rfl (lv_at hl 1 rfl) ?_
      refine lv_icmp_ne (tgt := 27) X.1.1 X.1.2.1 d_MD_sizeOf_20 (by decide) (fun c4 => ?_) (fun c4 => ?_)
      · replace hf := im c4 hf
        refine lv_iconst (v := 0) X.1.1 X.1.2.1 d_MD_sizeOf_27 (by decide) ?_
        refine lv_iadd X.1.1 X.1.2.1 d_MD_sizeOf_28 ?_
        refine lv_istore_n (lv' := [(2, .int (a + 0)), (0, .ref o), (1, .int x), (3, .int k)]) X.1.1 X.1.2.1 d_MD_sizeOf_29 rfl hl (by decide) rfl (fun ls hl => ?_)
        refine lv_iinc (v := (k + 1)) (lv' := [(3, .int (k + 1)), (2, .int (a + 0)), (0, .ref o), (1, .int x)]) X.1.1 X.1.2.1 d_MD_sizeOf_30 hl (k := 3) rfl (congrArg (fun w => k + w) (by decide)) (by decide) rfl (fun ls hl => ?_)
        refine lv_goto (tgt := 4) X.1.1 X.1.2.1 d_MD_sizeOf_33 (by decide) ?_
        exact ih hf hH (lv_sub hl [2, 3, 1, 0] rfl)
      · replace hf := ip c4 hf
        refine lv_iconst (v := 1) X.1.1 X.1.2.1 d_MD_sizeOf_23 (by decide) ?_
        refine lv_goto (tgt := 28) X.1.1 X.1.2.1 d_MD_sizeOf_24 (by decide) ?_
        refine lv_iadd X.1.1 X.1.2.1 d_MD_sizeOf_28 ?_
        refine lv_istore_n (lv' := [(2, .int (a + 1)), (0, .ref o), (1, .int x), (3, .int k)]) X.1.1 X.1.2.1 d_MD_sizeOf_29 rfl hl (by decide) rfl (fun ls hl => ?_)
        refine lv_iinc (v := (k + 1)) (lv' := [(3, .int (k + 1)), (2, .int (a + 1)), (0, .ref o), (1, .int x)]) X.1.1 X.1.2.1 d_MD_sizeOf_30 hl (k := 3) rfl (congrArg (fun w => k + w) (by decide)) (by decide) rfl (fun ls hl => ?_)
        refine lv_goto (tgt := 4) X.1.1 X.1.2.1 d_MD_sizeOf_33 (by decide) ?_
        exact ih hf hH (lv_sub hl [2, 3, 1, 0] rfl)
set_option maxHeartbeats 4000000 in
set_option maxRecDepth 100000 in
theorem v_MD_sizeOf_0 (X : md_X p m c b_MD_sizeOf 4 s args R_MD D cA cB A) (hr : meth.sig.returnType = (some .int)) (hlk : meth.locks = false) {u : sk_T} {x : Int32} {z : Int32} (hf : md_sizeOf u x = some z) {H : Heap} {locs : List Loc} {ls : Array Slot} (hH : md_H D A s.heap H locs o q cA cB u) (hl : lv_has ls 4 [(0, .ref o), (1, .int x)]) : W p l e rm_MD_sizeOf s m args below meth c H locs 0 0 (MQ below (md_Qi D o q cA cB A z u) args s 0 0 A) (F0 m 0 ls []) := by
  unfold md_sizeOf at hf
  refine lv_iconst (v := 0) X.1.1 X.1.2.1 d_MD_sizeOf_0 (by decide) ?_
  refine lv_istore_n (lv' := [(2, .int 0), (0, .ref o), (1, .int x)]) X.1.1 X.1.2.1 d_MD_sizeOf_1 rfl hl (by decide) rfl (fun ls hl => ?_)
  refine lv_iconst (v := 0) X.1.1 X.1.2.1 d_MD_sizeOf_2 (by decide) ?_
  refine lv_istore_n (lv' := [(3, .int 0), (2, .int 0), (0, .ref o), (1, .int x)]) X.1.1 X.1.2.1 d_MD_sizeOf_3 rfl hl (by decide) rfl (fun ls hl => ?_)
  exact v_MD_sizeOf_4 X hr hlk _ hf hH (lv_sub hl [2, 3, 1, 0] rfl)
end V_MD_sizeOf
theorem c_MD_sizeOf {l : Launch} {D : va_G} {o : Nat} {q : Nat → Nat} {cA cB : ClassId} {u : sk_T} {x : Int32} {z : Int32} (hf : md_sizeOf u x = some z) : md_Mi l y_MD_sizeOf w_MD_sizeOf rm_MD_sizeOf D o q cA cB [.ref o, .int x] u z u :=
  md_entry (own := R_MD) (fun A => md_Qi D o q cA cB A z u) (by decide) rfl (Nat.le_of_ble_eq_true rfl) (fun p e s m below meth c A ls X hr hlk hH hl => v_MD_sizeOf_0 X hr hlk hf hH hl)
theorem k_MD_sizeOf {R : Room} {s : State} {args : Array Value} (ht : ∀ w ∈ lw_big, w.before args s = true) (hR : rm_MD_sizeOf.frames + 1 ≤ R.frames ∧ 8 + (4 + 11) + rm_MD_sizeOf.locals ≤ R.locals) : CallW R s args R_MD R_MD 31 y_MD_sizeOf b_MD_sizeOf 4 (some .int) w_MD_sizeOf rm_MD_sizeOf 0 0 1 := cwV 1 ht g_MD_MD_sizeOf e_MD_sizeOf rfl rfl (by decide +kernel) hR
-- MD_add
def rm_MD_add : Room := { frames := 1, cells := 0, slots := 0, locals := 23 }
section V_MD_add
variable {p : Program} {l : Launch} {e : Env} {s : State} {m : MethodId} {args : Array Value} {below : List Frame} {meth : Method} {c : Code} {D : va_G} {A : Nat → Prop} {o : Nat} {q : Nat → Nat} {cA cB : ClassId} {Q : State → Prop}
set_option maxHeartbeats 4000000 in
set_option maxRecDepth 100000 in
theorem v_MD_add_0 (X : md_X p m c b_MD_add 3 s args R_MD D cA cB A) (hr : meth.sig.returnType = (some .int)) (hlk : meth.locks = false) {u : sk_T} {x : Int32} {y : Int32} {z : Int32 × sk_T} (hf : md_add u x y = some z) {H : Heap} {locs : List Loc} {ls : Array Slot} (hH : md_H D A s.heap H locs o q cA cB u) (hl : lv_has ls 3 [(0, .ref o), (1, .int x), (2, .int y)]) : W p l e rm_MD_add s m args below meth c H locs 0 0 (MQ below (md_Qi D o q cA cB A z.1 z.2) args s 0 0 A) (F0 m 0 ls []) := by
  unfold md_add at hf
  refine lv_aload_n X.1.1 X.1.2.1 d_MD_add_0 rfl (lv_at hl 0 rfl) ?_
  refine lv_iload_n X.1.1 X.1.2.1 d_MD_add_1 rfl (lv_at hl 1 rfl) ?_
  refine md_calli X hH (As := [.int x]) (rest := []) (c_MD_isHeap) (k_MD_isHeap X.1.2.2.2.2 ⟨(Nat.le_of_ble_eq_true rfl), (Nat.le_of_ble_eq_true rfl)⟩) rfl hl.1 rfl (Nat.le_of_ble_eq_true rfl) d_MD_add_2 ⟨Nat.zero_le _, Nat.zero_le _⟩ (fun H locs hH => ?_)
  refine lv_if_ne (tgt := 10) X.1.1 X.1.2.1 d_MD_add_5 (by decide) (fun c1 => ?_) (fun c1 => ?_)
  · replace hf := im c1 hf
    refine lv_aload_n X.1.1 X.1.2.1 d_MD_add_10 rfl (lv_at hl 0 rfl) ?_
    refine md_gf X hH 1 24 (by decide) mf_MD_24 (v := .int (u.2 1)) rfl d_MD_add_11 ?_
    refine lv_sipush (v := 200) X.1.1 X.1.2.1 d_MD_add_14 (by decide) ?_
    refine lv_icmp_ne (tgt := 23) X.1.1 X.1.2.1 d_MD_add_17 (by decide) (fun c2 => ?_) (fun c2 => ?_)
    · replace hf := im c2 hf
      refine lv_aload_n X.1.1 X.1.2.1 d_MD_add_23 rfl (lv_at hl 0 rfl) ?_
      refine md_gf X hH 2 7 (by decide) mf_MD_7 (v := .ref (q 0)) rfl d_MD_add_24 ?_
      refine lv_aload_n X.1.1 X.1.2.1 d_MD_add_27 rfl (lv_at hl 0 rfl) ?_
      refine md_gf X hH 1 24 (by decide) mf_MD_24 (v := .int (u.2 1)) rfl d_MD_add_28 ?_
      refine lv_iload_n X.1.1 X.1.2.1 d_MD_add_31 rfl (lv_at hl 1 rfl) ?_
      obtain ⟨u3, h4, hf⟩ := ob hf
      refine md_st X hH 0 (by decide) h4 d_MD_add_32 (fun H locs hH => ?_)
      refine lv_aload_n X.1.1 X.1.2.1 d_MD_add_33 rfl (lv_at hl 0 rfl) ?_
      refine md_gf X hH 3 13 (by decide) mf_MD_13 (v := .ref (q 1)) rfl d_MD_add_34 ?_
      refine lv_aload_n X.1.1 X.1.2.1 d_MD_add_37 rfl (lv_at hl 0 rfl) ?_
      refine md_gf X hH 1 24 (by decide) mf_MD_24 (v := .int (u3.2 1)) rfl d_MD_add_38 ?_
      refine lv_iload_n X.1.1 X.1.2.1 d_MD_add_41 rfl (lv_at hl 2 rfl) ?_
      obtain ⟨u5, h6, hf⟩ := ob hf
      refine md_st X hH 1 (by decide) h6 d_MD_add_42 (fun H locs hH => ?_)
      refine lv_aload_n X.1.1 X.1.2.1 d_MD_add_43 rfl (lv_at hl 0 rfl) ?_
      refine lv_dup X.1.1 X.1.2.1 d_MD_add_44 rfl ?_
      refine md_gf X hH 1 24 (by decide) mf_MD_24 (v := .int (u5.2 1)) rfl d_MD_add_45 ?_
      refine lv_iconst (v := 1) X.1.1 X.1.2.1 d_MD_add_48 (by decide) ?_
      refine lv_iadd X.1.1 X.1.2.1 d_MD_add_49 ?_
      refine md_pf X hH 1 1 24 (by decide) mf_MD_24 rfl (by decide +kernel) rfl d_MD_add_50 (fun H locs hH => ?_)
      refine lv_aload_n X.1.1 X.1.2.1 d_MD_add_53 rfl (lv_at hl 0 rfl) ?_
      refine lv_iload_n X.1.1 X.1.2.1 d_MD_add_54 rfl (lv_at hl 1 rfl) ?_
      obtain ⟨x7, h8, hf⟩ := ob hf
      refine md_calli X hH (As := [.int x]) (rest := []) (c_MD_sizeOf h8) (k_MD_sizeOf X.1.2.2.2.2 ⟨(Nat.le_of_ble_eq_true rfl), (Nat.le_of_ble_eq_true rfl)⟩) rfl hl.1 rfl (Nat.le_of_ble_eq_true rfl) d_MD_add_55 ⟨Nat.zero_le _, Nat.zero_le _⟩ (fun H locs hH => ?_)
      obtain rfl := Option.some.inj hf
      exact md_iret X hr hlk hH d_MD_add_58
    · replace hf := ip c2 hf
      refine lv_bipush (v := (-2)) X.1.1 X.1.2.1 d_MD_add_20 (by decide) ?_
      obtain rfl := Option.some.inj hf
      exact md_iret X hr hlk hH d_MD_add_22
  · replace hf := ip c1 hf
    refine lv_iconst (v := (-1)) X.1.1 X.1.2.1 d_MD_add_8 (by decide) ?_
    obtain rfl := Option.some.inj hf
    exact md_iret X hr hlk hH d_MD_add_9
end V_MD_add
theorem c_MD_add {l : Launch} {D : va_G} {o : Nat} {q : Nat → Nat} {cA cB : ClassId} {u : sk_T} {x : Int32} {y : Int32} {z : Int32 × sk_T} (hf : md_add u x y = some z) : md_Mi l y_MD_add w_MD_add rm_MD_add D o q cA cB [.ref o, .int x, .int y] u z.1 z.2 :=
  md_entry (own := R_MD) (fun A => md_Qi D o q cA cB A z.1 z.2) (by decide) rfl (Nat.le_of_ble_eq_true rfl) (fun p e s m below meth c A ls X hr hlk hH hl => v_MD_add_0 X hr hlk hf hH hl)
-- MD_placeOf
def rm_MD_placeOf : Room := { frames := 0, cells := 0, slots := 0, locals := 0 }
section V_MD_placeOf
variable {p : Program} {l : Launch} {e : Env} {s : State} {m : MethodId} {args : Array Value} {below : List Frame} {meth : Method} {c : Code} {D : va_G} {A : Nat → Prop} {o : Nat} {q : Nat → Nat} {cA cB : ClassId} {Q : State → Prop}
set_option maxHeartbeats 4000000 in
set_option maxRecDepth 100000 in
theorem v_MD_placeOf_4 (X : md_X p m c b_MD_placeOf 4 s args R_MD D cA cB A) (hr : meth.sig.returnType = (some .int)) (hlk : meth.locks = false) : ∀ (n : Nat) {u : sk_T} {x : Int32} {b : Int32} {k : Int32} {z : Int32} (hf : md_poL n u x b k = some z) {H : Heap} {locs : List Loc} {ls : Array Slot} (hH : md_H D A s.heap H locs o q cA cB u) (hl : lv_has ls 4 [(0, .ref o), (1, .int x), (2, .int b), (3, .int k)]), W p l e rm_MD_placeOf s m args below meth c H locs 0 0 (MQ below (md_Qi D o q cA cB A z u) args s 0 0 A) (F0 m 4 ls []) := by
  intro n
  induction n with
  | zero =>
    intro u x b k z hf
    rw [md_poL] at hf
    cases hf
  | succ n ih =>
    intro u x b k z hf H locs ls hH hl
    rw [md_poL] at hf
    refine lv_iload_n X.1.1 X.1.2.1 d_MD_placeOf_4 rfl (lv_at hl 3 rfl) ?_
    refine lv_aload_n X.1.1 X.1.2.1 d_MD_placeOf_5 rfl (lv_at hl 0 rfl) ?_
    refine md_gf X hH 1 24 (by decide) mf_MD_24 (v := .int (u.2 1)) rfl d_MD_placeOf_6 ?_
    refine lv_icmp_ge (tgt := 62) X.1.1 X.1.2.1 d_MD_placeOf_9 (by decide) (fun c1 => ?_) (fun c1 => ?_)
    · replace hf := ip c1 hf
      refine lv_iload_n X.1.1 X.1.2.1 d_MD_placeOf_62 rfl (lv_at hl 2 rfl) ?_
      obtain rfl := Option.some.inj hf
      exact md_iret X hr hlk hH d_MD_placeOf_63
    · replace hf := im c1 hf
      refine lv_aload_n X.1.1 X.1.2.1 d_MD_placeOf_12 rfl (lv_at hl 0 rfl) ?_
      refine md_gf X hH 2 7 (by decide) mf_MD_7 (v := .ref (q 0)) rfl d_MD_placeOf_13 ?_
      refine lv_iload_n X.1.1 X.1.2.1 d_MD_placeOf_16 rfl (lv_at hl 3 rfl) ?_
      obtain ⟨x2, h3, hf⟩ := ob hf
      refine md_ld X hH 0 (by decide) h3 d_MD_placeOf_17 ?_
      refine lv_iload_n X.1.1 X.1.2.1 d_MD_placeOf_18 rfl (lv_at hl 1 rfl) ?_
      refine lv_icmp_ne (tgt := 54) X.1.1 X.1.2.1 d_MD_placeOf_19 (by decide) (fun c4 => ?_) (fun c4 => ?_)
      · replace hf := im c4 hf
        refine lv_iload_n X.1.1 X.1.2.1 d_MD_placeOf_54 rfl (lv_at hl 2 rfl) ?_
        refine lv_istore_n (lv' := [(2, .int b), (0, .ref o), (1, .int x), (3, .int k)]) X.1.1 X.1.2.1 d_MD_placeOf_55 rfl hl (by decide) rfl (fun ls hl => ?_)
        refine lv_iinc (v := (k + 1)) (lv' := [(3, .int (k + 1)), (2, .int b), (0, .ref o), (1, .int x)]) X.1.1 X.1.2.1 d_MD_placeOf_56 hl (k := 3) rfl (congrArg (fun w => k + w) (by decide)) (by decide) rfl (fun ls hl => ?_)
        refine lv_goto (tgt := 4) X.1.1 X.1.2.1 d_MD_placeOf_59 (by decide) ?_
        exact ih hf hH (lv_sub hl [2, 3, 1, 0] rfl)
      · replace hf := ip c4 hf
        refine lv_aload_n X.1.1 X.1.2.1 d_MD_placeOf_22 rfl (lv_at hl 0 rfl) ?_
        refine md_gf X hH 4 16 (by decide) mf_MD_16 (v := .ref (q 2)) rfl d_MD_placeOf_23 ?_
        refine lv_iload_n X.1.1 X.1.2.1 d_MD_placeOf_26 rfl (lv_at hl 3 rfl) ?_
        obtain ⟨x5, h6, hf⟩ := ob hf
        refine md_ldz X hH h6 d_MD_placeOf_27 ?_
        refine lv_if_ne (tgt := 54) X.1.1 X.1.2.1 d_MD_placeOf_28 (by decide) (fun c7 => ?_) (fun c7 => ?_)
        · replace hf := im c7 hf
          refine lv_iload_n X.1.1 X.1.2.1 d_MD_placeOf_54 rfl (lv_at hl 2 rfl) ?_
          refine lv_istore_n (lv' := [(2, .int b), (0, .ref o), (1, .int x), (3, .int k)]) X.1.1 X.1.2.1 d_MD_placeOf_55 rfl hl (by decide) rfl (fun ls hl => ?_)
          refine lv_iinc (v := (k + 1)) (lv' := [(3, .int (k + 1)), (2, .int b), (0, .ref o), (1, .int x)]) X.1.1 X.1.2.1 d_MD_placeOf_56 hl (k := 3) rfl (congrArg (fun w => k + w) (by decide)) (by decide) rfl (fun ls hl => ?_)
          refine lv_goto (tgt := 4) X.1.1 X.1.2.1 d_MD_placeOf_59 (by decide) ?_
          exact ih hf hH (lv_sub hl [2, 3, 1, 0] rfl)
        · replace hf := ip c7 hf
          refine lv_iload_n X.1.1 X.1.2.1 d_MD_placeOf_31 rfl (lv_at hl 2 rfl) ?_
          refine lv_if_lt (tgt := 50) X.1.1 X.1.2.1 d_MD_placeOf_32 (by decide) (fun c8 => ?_) (fun c8 => ?_)
          · replace hf := ip c8 hf
            refine lv_iload_n X.1.1 X.1.2.1 d_MD_placeOf_50 rfl (lv_at hl 3 rfl) ?_
            refine lv_goto (tgt := 55) X.1.1 X.1.2.1 d_MD_placeOf_51 (by decide) ?_
            refine lv_istore_n (lv' := [(2, .int k), (0, .ref o), (1, .int x), (3, .int k)]) X.1.1 X.1.2.1 d_MD_placeOf_55 rfl hl (by decide) rfl (fun ls hl => ?_)
            refine lv_iinc (v := (k + 1)) (lv' := [(3, .int (k + 1)), (2, .int k), (0, .ref o), (1, .int x)]) X.1.1 X.1.2.1 d_MD_placeOf_56 hl (k := 3) rfl (congrArg (fun w => k + w) (by decide)) (by decide) rfl (fun ls hl => ?_)
            refine lv_goto (tgt := 4) X.1.1 X.1.2.1 d_MD_placeOf_59 (by decide) ?_
            exact ih hf hH (lv_sub hl [2, 3, 1, 0] rfl)
          · replace hf := im c8 hf
            refine lv_aload_n X.1.1 X.1.2.1 d_MD_placeOf_35 rfl (lv_at hl 0 rfl) ?_
            refine md_gf X hH 3 13 (by decide) mf_MD_13 (v := .ref (q 1)) rfl d_MD_placeOf_36 ?_
            refine lv_iload_n X.1.1 X.1.2.1 d_MD_placeOf_39 rfl (lv_at hl 3 rfl) ?_
            obtain ⟨x9, h10, hf⟩ := ob hf
            refine md_ld X hH 1 (by decide) h10 d_MD_placeOf_40 ?_
            refine lv_aload_n X.1.1 X.1.2.1 d_MD_placeOf_41 rfl (lv_at hl 0 rfl) ?_
            refine md_gf X hH 3 13 (by decide) mf_MD_13 (v := .ref (q 1)) rfl d_MD_placeOf_42 ?_
            refine lv_iload_n X.1.1 X.1.2.1 d_MD_placeOf_45 rfl (lv_at hl 2 rfl) ?_
            obtain ⟨x11, h12, hf⟩ := ob hf
            refine md_ld X hH 1 (by decide) h12 d_MD_placeOf_46 ?_
            refine lv_icmp_ge (tgt := 54) X.1.1 X.1.2.1 d_MD_placeOf_47 (by decide) (fun c13 => ?_) (fun c13 => ?_)
            · replace hf := ip c13 hf
              refine lv_iload_n X.1.1 X.1.2.1 d_MD_placeOf_54 rfl (lv_at hl 2 rfl) ?_
              refine lv_istore_n (lv' := [(2, .int b), (0, .ref o), (1, .int x), (3, .int k)]) X.1.1 X.1.2.1 d_MD_placeOf_55 rfl hl (by decide) rfl (fun ls hl => ?_)
              refine lv_iinc (v := (k + 1)) (lv' := [(3, .int (k + 1)), (2, .int b), (0, .ref o), (1, .int x)]) X.1.1 X.1.2.1 d_MD_placeOf_56 hl (k := 3) rfl (congrArg (fun w => k + w) (by decide)) (by decide) rfl (fun ls hl => ?_)
              refine lv_goto (tgt := 4) X.1.1 X.1.2.1 d_MD_placeOf_59 (by decide) ?_
              exact ih hf hH (lv_sub hl [2, 3, 1, 0] rfl)
            · replace hf := im c13 hf
              refine lv_iload_n X.1.1 X.1.2.1 d_MD_placeOf_50 rfl (lv_at hl 3 rfl) ?_
              refine lv_goto (tgt := 55) X.1.1 X.1.2.1 d_MD_placeOf_51 (by decide) ?_
              refine lv_istore_n (lv' := [(2, .int k), (0, .ref o), (1, .int x), (3, .int k)]) X.1.1 X.1.2.1 d_MD_placeOf_55 rfl hl (by decide) rfl (fun ls hl => ?_)
              refine lv_iinc (v := (k + 1)) (lv' := [(3, .int (k + 1)), (2, .int k), (0, .ref o), (1, .int x)]) X.1.1 X.1.2.1 d_MD_placeOf_56 hl (k := 3) rfl (congrArg (fun w => k + w) (by decide)) (by decide) rfl (fun ls hl => ?_)
              refine lv_goto (tgt := 4) X.1.1 X.1.2.1 d_MD_placeOf_59 (by decide) ?_
              exact ih hf hH (lv_sub hl [2, 3, 1, 0] rfl)
set_option maxHeartbeats 4000000 in
set_option maxRecDepth 100000 in
theorem v_MD_placeOf_0 (X : md_X p m c b_MD_placeOf 4 s args R_MD D cA cB A) (hr : meth.sig.returnType = (some .int)) (hlk : meth.locks = false) {u : sk_T} {x : Int32} {z : Int32} (hf : md_placeOf u x = some z) {H : Heap} {locs : List Loc} {ls : Array Slot} (hH : md_H D A s.heap H locs o q cA cB u) (hl : lv_has ls 4 [(0, .ref o), (1, .int x)]) : W p l e rm_MD_placeOf s m args below meth c H locs 0 0 (MQ below (md_Qi D o q cA cB A z u) args s 0 0 A) (F0 m 0 ls []) := by
  unfold md_placeOf at hf
  refine lv_iconst (v := (-1)) X.1.1 X.1.2.1 d_MD_placeOf_0 (by decide) ?_
  refine lv_istore_n (lv' := [(2, .int (-1)), (0, .ref o), (1, .int x)]) X.1.1 X.1.2.1 d_MD_placeOf_1 rfl hl (by decide) rfl (fun ls hl => ?_)
  refine lv_iconst (v := 0) X.1.1 X.1.2.1 d_MD_placeOf_2 (by decide) ?_
  refine lv_istore_n (lv' := [(3, .int 0), (2, .int (-1)), (0, .ref o), (1, .int x)]) X.1.1 X.1.2.1 d_MD_placeOf_3 rfl hl (by decide) rfl (fun ls hl => ?_)
  exact v_MD_placeOf_4 X hr hlk _ hf hH (lv_sub hl [2, 3, 1, 0] rfl)
end V_MD_placeOf
theorem c_MD_placeOf {l : Launch} {D : va_G} {o : Nat} {q : Nat → Nat} {cA cB : ClassId} {u : sk_T} {x : Int32} {z : Int32} (hf : md_placeOf u x = some z) : md_Mi l y_MD_placeOf w_MD_placeOf rm_MD_placeOf D o q cA cB [.ref o, .int x] u z u :=
  md_entry (own := R_MD) (fun A => md_Qi D o q cA cB A z u) (by decide) rfl (Nat.le_of_ble_eq_true rfl) (fun p e s m below meth c A ls X hr hlk hH hl => v_MD_placeOf_0 X hr hlk hf hH hl)
theorem k_MD_placeOf {R : Room} {s : State} {args : Array Value} (ht : ∀ w ∈ lw_big, w.before args s = true) (hR : rm_MD_placeOf.frames + 1 ≤ R.frames ∧ 8 + (4 + 11) + rm_MD_placeOf.locals ≤ R.locals) : CallW R s args R_MD R_MD 38 y_MD_placeOf b_MD_placeOf 4 (some .int) w_MD_placeOf rm_MD_placeOf 0 0 1 := cwV 1 ht g_MD_MD_placeOf e_MD_placeOf rfl rfl (by decide +kernel) hR
-- MD_untell
def rm_MD_untell : Room := { frames := 0, cells := 0, slots := 0, locals := 0 }
section V_MD_untell
variable {p : Program} {l : Launch} {e : Env} {s : State} {m : MethodId} {args : Array Value} {below : List Frame} {meth : Method} {c : Code} {D : va_G} {A : Nat → Prop} {o : Nat} {q : Nat → Nat} {cA cB : ClassId} {Q : State → Prop}
set_option maxHeartbeats 4000000 in
set_option maxRecDepth 100000 in
theorem v_MD_untell_2 (X : md_X p m c b_MD_untell 2 s args R_MD D cA cB A) (hr : meth.sig.returnType = none) (hlk : meth.locks = false) : ∀ (n : Nat) {u : sk_T} {k : Int32} {z : sk_T} (hf : md_unL n u k = some z) {H : Heap} {locs : List Loc} {ls : Array Slot} (hH : md_H D A s.heap H locs o q cA cB u) (hl : lv_has ls 2 [(0, .ref o), (1, .int k)]), W p l e rm_MD_untell s m args below meth c H locs 0 0 (MQ below (md_Qv D o q cA cB A z) args s 0 0 A) (F0 m 2 ls []) := by
  intro n
  induction n with
  | zero =>
    intro u k z hf
    rw [md_unL] at hf
    cases hf
  | succ n ih =>
    intro u k z hf H locs ls hH hl
    rw [md_unL] at hf
    refine lv_iload_n X.1.1 X.1.2.1 d_MD_untell_2 rfl (lv_at hl 1 rfl) ?_
    refine lv_sipush (v := 200) X.1.1 X.1.2.1 d_MD_untell_3 (by decide) ?_
    refine lv_icmp_ge (tgt := 22) X.1.1 X.1.2.1 d_MD_untell_6 (by decide) (fun c1 => ?_) (fun c1 => ?_)
    · replace hf := ip c1 hf
      obtain rfl := Option.some.inj hf
      exact md_vret X hr hlk hH d_MD_untell_22
    · replace hf := im c1 hf
      refine lv_aload_n X.1.1 X.1.2.1 d_MD_untell_9 rfl (lv_at hl 0 rfl) ?_
      refine md_gf X hH 4 16 (by decide) mf_MD_16 (v := .ref (q 2)) rfl d_MD_untell_10 ?_
      refine lv_iload_n X.1.1 X.1.2.1 d_MD_untell_13 rfl (lv_at hl 1 rfl) ?_
      refine lv_iconst (v := 0) X.1.1 X.1.2.1 d_MD_untell_14 (by decide) ?_
      obtain ⟨u2, h3, hf⟩ := ob hf
      refine md_stz X hH (by decide) h3 d_MD_untell_15 (fun H locs hH => ?_)
      refine lv_iinc (v := (k + 1)) (lv' := [(1, .int (k + 1)), (0, .ref o)]) X.1.1 X.1.2.1 d_MD_untell_16 hl (k := 1) rfl (congrArg (fun w => k + w) (by decide)) (by decide) rfl (fun ls hl => ?_)
      refine lv_goto (tgt := 2) X.1.1 X.1.2.1 d_MD_untell_19 (by decide) ?_
      exact ih hf hH (lv_sub hl [1, 0] rfl)
set_option maxHeartbeats 4000000 in
set_option maxRecDepth 100000 in
theorem v_MD_untell_0 (X : md_X p m c b_MD_untell 2 s args R_MD D cA cB A) (hr : meth.sig.returnType = none) (hlk : meth.locks = false) {u : sk_T} {z : sk_T} (hf : md_untell u = some z) {H : Heap} {locs : List Loc} {ls : Array Slot} (hH : md_H D A s.heap H locs o q cA cB u) (hl : lv_has ls 2 [(0, .ref o)]) : W p l e rm_MD_untell s m args below meth c H locs 0 0 (MQ below (md_Qv D o q cA cB A z) args s 0 0 A) (F0 m 0 ls []) := by
  unfold md_untell at hf
  refine lv_iconst (v := 0) X.1.1 X.1.2.1 d_MD_untell_0 (by decide) ?_
  refine lv_istore_n (lv' := [(1, .int 0), (0, .ref o)]) X.1.1 X.1.2.1 d_MD_untell_1 rfl hl (by decide) rfl (fun ls hl => ?_)
  exact v_MD_untell_2 X hr hlk _ hf hH (lv_sub hl [1, 0] rfl)
end V_MD_untell
theorem c_MD_untell {l : Launch} {D : va_G} {o : Nat} {q : Nat → Nat} {cA cB : ClassId} {u : sk_T} {z : sk_T} (hf : md_untell u = some z) : md_Mv l y_MD_untell w_MD_untell rm_MD_untell D o q cA cB [.ref o] u z :=
  md_entry (own := R_MD) (fun A => md_Qv D o q cA cB A z) (by decide) rfl (Nat.le_of_ble_eq_true rfl) (fun p e s m below meth c A ls X hr hlk hH hl => v_MD_untell_0 X hr hlk hf hH hl)
theorem k_MD_untell {R : Room} {s : State} {args : Array Value} (ht : ∀ w ∈ lw_big, w.before args s = true) (hR : rm_MD_untell.frames + 1 ≤ R.frames ∧ 8 + (2 + 11) + rm_MD_untell.locals ≤ R.locals) : CallW R s args R_MD R_MD 35 y_MD_untell b_MD_untell 2 none w_MD_untell rm_MD_untell 0 0 0 := cwV 0 ht g_MD_MD_untell e_MD_untell rfl rfl (by decide +kernel) hR
-- MD_least
def rm_MD_least : Room := { frames := 1, cells := 0, slots := 0, locals := 23 }
section V_MD_least
variable {p : Program} {l : Launch} {e : Env} {s : State} {m : MethodId} {args : Array Value} {below : List Frame} {meth : Method} {c : Code} {D : va_G} {A : Nat → Prop} {o : Nat} {q : Nat → Nat} {cA cB : ClassId} {Q : State → Prop}
set_option maxHeartbeats 4000000 in
set_option maxRecDepth 100000 in
theorem v_MD_least_22 (X : md_X p m c b_MD_least 3 s args R_MD D cA cB A) (hr : meth.sig.returnType = (some .long)) (hlk : meth.locks = false) {u : sk_T} {y : Int32} {z : Int64 × sk_T} (hf : md_least2 u y = some z) {H : Heap} {locs : List Loc} {ls : Array Slot} (hH : md_H D A s.heap H locs o q cA cB u) (hl : lv_has ls 3 [(0, .ref o), (2, .int y)]) : W p l e rm_MD_least s m args below meth c H locs 0 0 (MQ below (md_Ql D o q cA cB A z.1 z.2) args s 0 0 A) (F0 m 22 ls []) := by
  unfold md_least2 at hf
  refine lv_iload_n X.1.1 X.1.2.1 d_MD_least_22 rfl (lv_at hl 1 rfl) ?_
  refine lv_if_ge (tgt := 32) X.1.1 X.1.2.1 d_MD_least_23 (by decide) (fun c1 => ?_) (fun c1 => ?_)
  · replace hf := ip c1 hf
    refine lv_aload_n X.1.1 X.1.2.1 d_MD_least_32 rfl (lv_at hl 0 rfl) ?_
    refine md_gf X hH 3 13 (by decide) mf_MD_13 (v := .ref (q 1)) rfl d_MD_least_33 ?_
    refine lv_iload_n X.1.1 X.1.2.1 d_MD_least_36 rfl (lv_at hl 1 rfl) ?_
    obtain ⟨x2, h3, hf⟩ := ob hf
    refine md_ld X hH 1 (by decide) h3 d_MD_least_37 ?_
    refine lv_i2l (v := (Int32.toInt64 x2)) X.1.1 X.1.2.1 d_MD_least_38 rfl ?_
    obtain rfl := Option.some.inj hf
    exact md_lret X hr hlk hH d_MD_least_39
  · replace hf := im c1 hf
    refine lv_ldc2 (v := sk_MIN) X.1.1 X.1.2.1 X.1.2.2.2.1 (X.1.2.2.2.2 _ mk_MD_41) d_MD_least_26 ?_
    refine lv_goto (tgt := 39) X.1.1 X.1.2.1 d_MD_least_29 (by decide) ?_
    obtain rfl := Option.some.inj hf
    exact md_lret X hr hlk hH d_MD_least_39
set_option maxHeartbeats 4000000 in
set_option maxRecDepth 100000 in
theorem v_MD_least_0 (X : md_X p m c b_MD_least 3 s args R_MD D cA cB A) (hr : meth.sig.returnType = (some .long)) (hlk : meth.locks = false) {u : sk_T} {x : Int32} {z : Int64 × sk_T} (hf : md_least u x = some z) {H : Heap} {locs : List Loc} {ls : Array Slot} (hH : md_H D A s.heap H locs o q cA cB u) (hl : lv_has ls 3 [(0, .ref o), (1, .int x)]) : W p l e rm_MD_least s m args below meth c H locs 0 0 (MQ below (md_Ql D o q cA cB A z.1 z.2) args s 0 0 A) (F0 m 0 ls []) := by
  unfold md_least at hf
  refine lv_aload_n X.1.1 X.1.2.1 d_MD_least_0 rfl (lv_at hl 0 rfl) ?_
  obtain ⟨u1, h2, hf⟩ := ob hf
  refine md_callv X hH (As := []) (rest := []) (c_MD_untell h2) (k_MD_untell X.1.2.2.2.2 ⟨(Nat.le_of_ble_eq_true rfl), (Nat.le_of_ble_eq_true rfl)⟩) rfl hl.1 rfl (Nat.le_of_ble_eq_true rfl) d_MD_least_1 ⟨Nat.zero_le _, Nat.zero_le _⟩ (fun H locs hH => ?_)
  refine lv_aload_n X.1.1 X.1.2.1 d_MD_least_4 rfl (lv_at hl 0 rfl) ?_
  refine lv_iload_n X.1.1 X.1.2.1 d_MD_least_5 rfl (lv_at hl 1 rfl) ?_
  refine md_calli X hH (As := [.int x]) (rest := []) (c_MD_isHeap) (k_MD_isHeap X.1.2.2.2.2 ⟨(Nat.le_of_ble_eq_true rfl), (Nat.le_of_ble_eq_true rfl)⟩) rfl hl.1 rfl (Nat.le_of_ble_eq_true rfl) d_MD_least_6 ⟨Nat.zero_le _, Nat.zero_le _⟩ (fun H locs hH => ?_)
  refine lv_if_eq (tgt := 20) X.1.1 X.1.2.1 d_MD_least_9 (by decide) (fun c3 => ?_) (fun c3 => ?_)
  · replace hf := ip c3 hf
    refine lv_iconst (v := (-1)) X.1.1 X.1.2.1 d_MD_least_20 (by decide) ?_
    refine lv_istore_n (lv' := [(2, .int (-1)), (0, .ref o), (1, .int x)]) X.1.1 X.1.2.1 d_MD_least_21 rfl hl (by decide) rfl (fun ls hl => ?_)
    exact v_MD_least_22 X hr hlk hf hH (lv_sub hl [1, 0] rfl)
  · replace hf := im c3 hf
    refine lv_aload_n X.1.1 X.1.2.1 d_MD_least_12 rfl (lv_at hl 0 rfl) ?_
    refine lv_iload_n X.1.1 X.1.2.1 d_MD_least_13 rfl (lv_at hl 1 rfl) ?_
    obtain ⟨x4, h5, hf⟩ := ob hf
    refine md_calli X hH (As := [.int x]) (rest := []) (c_MD_placeOf h5) (k_MD_placeOf X.1.2.2.2.2 ⟨(Nat.le_of_ble_eq_true rfl), (Nat.le_of_ble_eq_true rfl)⟩) rfl hl.1 rfl (Nat.le_of_ble_eq_true rfl) d_MD_least_14 ⟨Nat.zero_le _, Nat.zero_le _⟩ (fun H locs hH => ?_)
    refine lv_goto (tgt := 21) X.1.1 X.1.2.1 d_MD_least_17 (by decide) ?_
    refine lv_istore_n (lv' := [(2, .int x4), (0, .ref o), (1, .int x)]) X.1.1 X.1.2.1 d_MD_least_21 rfl hl (by decide) rfl (fun ls hl => ?_)
    exact v_MD_least_22 X hr hlk hf hH (lv_sub hl [1, 0] rfl)
end V_MD_least
theorem c_MD_least {l : Launch} {D : va_G} {o : Nat} {q : Nat → Nat} {cA cB : ClassId} {u : sk_T} {x : Int32} {z : Int64 × sk_T} (hf : md_least u x = some z) : md_Ml l y_MD_least w_MD_least rm_MD_least D o q cA cB [.ref o, .int x] u z.1 z.2 :=
  md_entry (own := R_MD) (fun A => md_Ql D o q cA cB A z.1 z.2) (by decide) rfl (Nat.le_of_ble_eq_true rfl) (fun p e s m below meth c A ls X hr hlk hH hl => v_MD_least_0 X hr hlk hf hH hl)
-- MD_take
def rm_MD_take : Room := { frames := 1, cells := 0, slots := 0, locals := 23 }
section V_MD_take
variable {p : Program} {l : Launch} {e : Env} {s : State} {m : MethodId} {args : Array Value} {below : List Frame} {meth : Method} {c : Code} {D : va_G} {A : Nat → Prop} {o : Nat} {q : Nat → Nat} {cA cB : ClassId} {Q : State → Prop}
set_option maxHeartbeats 4000000 in
set_option maxRecDepth 100000 in
theorem v_MD_take_22 (X : md_X p m c b_MD_take 5 s args R_MD D cA cB A) (hr : meth.sig.returnType = (some .long)) (hlk : meth.locks = false) {u : sk_T} {y : Int32} {z : Int64 × sk_T} (hf : md_take2 u y = some z) {H : Heap} {locs : List Loc} {ls : Array Slot} (hH : md_H D A s.heap H locs o q cA cB u) (hl : lv_has ls 5 [(0, .ref o), (2, .int y)]) : W p l e rm_MD_take s m args below meth c H locs 0 0 (MQ below (md_Ql D o q cA cB A z.1 z.2) args s 0 0 A) (F0 m 22 ls []) := by
  unfold md_take2 at hf
  refine lv_iload_n X.1.1 X.1.2.1 d_MD_take_22 rfl (lv_at hl 1 rfl) ?_
  refine lv_if_ge (tgt := 30) X.1.1 X.1.2.1 d_MD_take_23 (by decide) (fun c1 => ?_) (fun c1 => ?_)
  · replace hf := ip c1 hf
    refine lv_aload_n X.1.1 X.1.2.1 d_MD_take_30 rfl (lv_at hl 0 rfl) ?_
    refine md_gf X hH 3 13 (by decide) mf_MD_13 (v := .ref (q 1)) rfl d_MD_take_31 ?_
    refine lv_iload_n X.1.1 X.1.2.1 d_MD_take_34 rfl (lv_at hl 1 rfl) ?_
    obtain ⟨x2, h3, hf⟩ := ob hf
    refine md_ld X hH 1 (by decide) h3 d_MD_take_35 ?_
    refine lv_i2l (v := (Int32.toInt64 x2)) X.1.1 X.1.2.1 d_MD_take_36 rfl ?_
    refine lv_lstore_n (lv' := [(3, .long (Int32.toInt64 x2)), (0, .ref o), (2, .int y)]) X.1.1 X.1.2.1 d_MD_take_37 rfl hl (by decide) rfl (fun ls hl => ?_)
    refine lv_aload_n X.1.1 X.1.2.1 d_MD_take_38 rfl (lv_at hl 1 rfl) ?_
    refine lv_dup X.1.1 X.1.2.1 d_MD_take_39 rfl ?_
    refine md_gf X hH 1 24 (by decide) mf_MD_24 (v := .int (u.2 1)) rfl d_MD_take_40 ?_
    refine lv_iconst (v := 1) X.1.1 X.1.2.1 d_MD_take_43 (by decide) ?_
    refine lv_isub X.1.1 X.1.2.1 d_MD_take_44 ?_
    refine md_pf X hH 1 1 24 (by decide) mf_MD_24 rfl (by decide +kernel) rfl d_MD_take_45 (fun H locs hH => ?_)
    refine lv_aload_n X.1.1 X.1.2.1 d_MD_take_48 rfl (lv_at hl 1 rfl) ?_
    refine md_gf X hH 2 7 (by decide) mf_MD_7 (v := .ref (q 0)) rfl d_MD_take_49 ?_
    refine lv_iload_n X.1.1 X.1.2.1 d_MD_take_52 rfl (lv_at hl 2 rfl) ?_
    refine lv_aload_n X.1.1 X.1.2.1 d_MD_take_53 rfl (lv_at hl 1 rfl) ?_
    refine md_gf X hH 2 7 (by decide) mf_MD_7 (v := .ref (q 0)) rfl d_MD_take_54 ?_
    refine lv_aload_n X.1.1 X.1.2.1 d_MD_take_57 rfl (lv_at hl 1 rfl) ?_
    refine md_gf X hH 1 24 (by decide) mf_MD_24 (v := .int ((sk_sF u 1 ((u.2 1) - 1)).2 1)) rfl d_MD_take_58 ?_
    obtain ⟨x4, h5, hf⟩ := ob hf
    refine md_ld X hH 0 (by decide) h5 d_MD_take_61 ?_
    obtain ⟨u6, h7, hf⟩ := ob hf
    refine md_st X hH 0 (by decide) h7 d_MD_take_62 (fun H locs hH => ?_)
    refine lv_aload_n X.1.1 X.1.2.1 d_MD_take_63 rfl (lv_at hl 1 rfl) ?_
    refine md_gf X hH 3 13 (by decide) mf_MD_13 (v := .ref (q 1)) rfl d_MD_take_64 ?_
    refine lv_iload_n X.1.1 X.1.2.1 d_MD_take_67 rfl (lv_at hl 2 rfl) ?_
    refine lv_aload_n X.1.1 X.1.2.1 d_MD_take_68 rfl (lv_at hl 1 rfl) ?_
    refine md_gf X hH 3 13 (by decide) mf_MD_13 (v := .ref (q 1)) rfl d_MD_take_69 ?_
    refine lv_aload_n X.1.1 X.1.2.1 d_MD_take_72 rfl (lv_at hl 1 rfl) ?_
    refine md_gf X hH 1 24 (by decide) mf_MD_24 (v := .int (u6.2 1)) rfl d_MD_take_73 ?_
    obtain ⟨x8, h9, hf⟩ := ob hf
    refine md_ld X hH 1 (by decide) h9 d_MD_take_76 ?_
    obtain ⟨u10, h11, hf⟩ := ob hf
    refine md_st X hH 1 (by decide) h11 d_MD_take_77 (fun H locs hH => ?_)
    refine lv_lload_n X.1.1 X.1.2.1 d_MD_take_78 rfl (lv_at hl 0 rfl) ?_
    obtain rfl := Option.some.inj hf
    exact md_lret X hr hlk hH d_MD_take_79
  · replace hf := im c1 hf
    refine lv_ldc2 (v := sk_MIN) X.1.1 X.1.2.1 X.1.2.2.2.1 (X.1.2.2.2.2 _ mk_MD_41) d_MD_take_26 ?_
    obtain rfl := Option.some.inj hf
    exact md_lret X hr hlk hH d_MD_take_29
set_option maxHeartbeats 4000000 in
set_option maxRecDepth 100000 in
theorem v_MD_take_0 (X : md_X p m c b_MD_take 5 s args R_MD D cA cB A) (hr : meth.sig.returnType = (some .long)) (hlk : meth.locks = false) {u : sk_T} {x : Int32} {z : Int64 × sk_T} (hf : md_take u x = some z) {H : Heap} {locs : List Loc} {ls : Array Slot} (hH : md_H D A s.heap H locs o q cA cB u) (hl : lv_has ls 5 [(0, .ref o), (1, .int x)]) : W p l e rm_MD_take s m args below meth c H locs 0 0 (MQ below (md_Ql D o q cA cB A z.1 z.2) args s 0 0 A) (F0 m 0 ls []) := by
  unfold md_take at hf
  refine lv_aload_n X.1.1 X.1.2.1 d_MD_take_0 rfl (lv_at hl 0 rfl) ?_
  obtain ⟨u1, h2, hf⟩ := ob hf
  refine md_callv X hH (As := []) (rest := []) (c_MD_untell h2) (k_MD_untell X.1.2.2.2.2 ⟨(Nat.le_of_ble_eq_true rfl), (Nat.le_of_ble_eq_true rfl)⟩) rfl hl.1 rfl (Nat.le_of_ble_eq_true rfl) d_MD_take_1 ⟨Nat.zero_le _, Nat.zero_le _⟩ (fun H locs hH => ?_)
  refine lv_aload_n X.1.1 X.1.2.1 d_MD_take_4 rfl (lv_at hl 0 rfl) ?_
  refine lv_iload_n X.1.1 X.1.2.1 d_MD_take_5 rfl (lv_at hl 1 rfl) ?_
  refine md_calli X hH (As := [.int x]) (rest := []) (c_MD_isHeap) (k_MD_isHeap X.1.2.2.2.2 ⟨(Nat.le_of_ble_eq_true rfl), (Nat.le_of_ble_eq_true rfl)⟩) rfl hl.1 rfl (Nat.le_of_ble_eq_true rfl) d_MD_take_6 ⟨Nat.zero_le _, Nat.zero_le _⟩ (fun H locs hH => ?_)
  refine lv_if_eq (tgt := 20) X.1.1 X.1.2.1 d_MD_take_9 (by decide) (fun c3 => ?_) (fun c3 => ?_)
  · replace hf := ip c3 hf
    refine lv_iconst (v := (-1)) X.1.1 X.1.2.1 d_MD_take_20 (by decide) ?_
    refine lv_istore_n (lv' := [(2, .int (-1)), (0, .ref o), (1, .int x)]) X.1.1 X.1.2.1 d_MD_take_21 rfl hl (by decide) rfl (fun ls hl => ?_)
    exact v_MD_take_22 X hr hlk hf hH (lv_sub hl [1, 0] rfl)
  · replace hf := im c3 hf
    refine lv_aload_n X.1.1 X.1.2.1 d_MD_take_12 rfl (lv_at hl 0 rfl) ?_
    refine lv_iload_n X.1.1 X.1.2.1 d_MD_take_13 rfl (lv_at hl 1 rfl) ?_
    obtain ⟨x4, h5, hf⟩ := ob hf
    refine md_calli X hH (As := [.int x]) (rest := []) (c_MD_placeOf h5) (k_MD_placeOf X.1.2.2.2.2 ⟨(Nat.le_of_ble_eq_true rfl), (Nat.le_of_ble_eq_true rfl)⟩) rfl hl.1 rfl (Nat.le_of_ble_eq_true rfl) d_MD_take_14 ⟨Nat.zero_le _, Nat.zero_le _⟩ (fun H locs hH => ?_)
    refine lv_goto (tgt := 21) X.1.1 X.1.2.1 d_MD_take_17 (by decide) ?_
    refine lv_istore_n (lv' := [(2, .int x4), (0, .ref o), (1, .int x)]) X.1.1 X.1.2.1 d_MD_take_21 rfl hl (by decide) rfl (fun ls hl => ?_)
    exact v_MD_take_22 X hr hlk hf hH (lv_sub hl [1, 0] rfl)
end V_MD_take
theorem c_MD_take {l : Launch} {D : va_G} {o : Nat} {q : Nat → Nat} {cA cB : ClassId} {u : sk_T} {x : Int32} {z : Int64 × sk_T} (hf : md_take u x = some z) : md_Ml l y_MD_take w_MD_take rm_MD_take D o q cA cB [.ref o, .int x] u z.1 z.2 :=
  md_entry (own := R_MD) (fun A => md_Ql D o q cA cB A z.1 z.2) (by decide) rfl (Nat.le_of_ble_eq_true rfl) (fun p e s m below meth c A ls X hr hlk hH hl => v_MD_take_0 X hr hlk hf hH hl)
-- MD_meld
def rm_MD_meld : Room := { frames := 1, cells := 0, slots := 0, locals := 23 }
section V_MD_meld
variable {p : Program} {l : Launch} {e : Env} {s : State} {m : MethodId} {args : Array Value} {below : List Frame} {meth : Method} {c : Code} {D : va_G} {A : Nat → Prop} {o : Nat} {q : Nat → Nat} {cA cB : ClassId} {Q : State → Prop}
set_option maxHeartbeats 4000000 in
set_option maxRecDepth 100000 in
theorem v_MD_meld_25 (X : md_X p m c b_MD_meld 4 s args R_MD D cA cB A) (hr : meth.sig.returnType = (some .int)) (hlk : meth.locks = false) : ∀ (n : Nat) {u : sk_T} {a : Int32} {b : Int32} {k : Int32} {z : Int32 × sk_T} (hf : md_meL n u a b k = some z) {H : Heap} {locs : List Loc} {ls : Array Slot} (hH : md_H D A s.heap H locs o q cA cB u) (hl : lv_has ls 4 [(0, .ref o), (1, .int a), (2, .int b), (3, .int k)]), W p l e rm_MD_meld s m args below meth c H locs 0 0 (MQ below (md_Qi D o q cA cB A z.1 z.2) args s 0 0 A) (F0 m 25 ls []) := by
  intro n
  induction n with
  | zero =>
    intro u a b k z hf
    rw [md_meL] at hf
    cases hf
  | succ n ih =>
    intro u a b k z hf H locs ls hH hl
    rw [md_meL] at hf
    refine lv_iload_n X.1.1 X.1.2.1 d_MD_meld_25 rfl (lv_at hl 3 rfl) ?_
    refine lv_aload_n X.1.1 X.1.2.1 d_MD_meld_26 rfl (lv_at hl 0 rfl) ?_
    refine md_gf X hH 1 24 (by decide) mf_MD_24 (v := .int (u.2 1)) rfl d_MD_meld_27 ?_
    refine lv_icmp_ge (tgt := 65) X.1.1 X.1.2.1 d_MD_meld_30 (by decide) (fun c1 => ?_) (fun c1 => ?_)
    · replace hf := ip c1 hf
      refine lv_aload_n X.1.1 X.1.2.1 d_MD_meld_65 rfl (lv_at hl 0 rfl) ?_
      refine lv_iload_n X.1.1 X.1.2.1 d_MD_meld_66 rfl (lv_at hl 1 rfl) ?_
      obtain ⟨x2, h3, hf⟩ := ob hf
      refine md_calli X hH (As := [.int a]) (rest := []) (c_MD_sizeOf h3) (k_MD_sizeOf X.1.2.2.2.2 ⟨(Nat.le_of_ble_eq_true rfl), (Nat.le_of_ble_eq_true rfl)⟩) rfl hl.1 rfl (Nat.le_of_ble_eq_true rfl) d_MD_meld_67 ⟨Nat.zero_le _, Nat.zero_le _⟩ (fun H locs hH => ?_)
      obtain rfl := Option.some.inj hf
      exact md_iret X hr hlk hH d_MD_meld_70
    · replace hf := im c1 hf
      refine lv_aload_n X.1.1 X.1.2.1 d_MD_meld_33 rfl (lv_at hl 0 rfl) ?_
      refine md_gf X hH 2 7 (by decide) mf_MD_7 (v := .ref (q 0)) rfl d_MD_meld_34 ?_
      refine lv_iload_n X.1.1 X.1.2.1 d_MD_meld_37 rfl (lv_at hl 3 rfl) ?_
      refine lv_aload_n X.1.1 X.1.2.1 d_MD_meld_38 rfl (lv_at hl 0 rfl) ?_
      refine md_gf X hH 2 7 (by decide) mf_MD_7 (v := .ref (q 0)) rfl d_MD_meld_39 ?_
      refine lv_iload_n X.1.1 X.1.2.1 d_MD_meld_42 rfl (lv_at hl 3 rfl) ?_
      obtain ⟨x4, h5, hf⟩ := ob hf
      refine md_ld X hH 0 (by decide) h5 d_MD_meld_43 ?_
      refine lv_iload_n X.1.1 X.1.2.1 d_MD_meld_44 rfl (lv_at hl 2 rfl) ?_
      refine lv_icmp_ne (tgt := 52) X.1.1 X.1.2.1 d_MD_meld_45 (by decide) (fun c6 => ?_) (fun c6 => ?_)
      · replace hf := im c6 hf
        refine lv_aload_n X.1.1 X.1.2.1 d_MD_meld_52 rfl (lv_at hl 0 rfl) ?_
        refine md_gf X hH 2 7 (by decide) mf_MD_7 (v := .ref (q 0)) rfl d_MD_meld_53 ?_
        refine lv_iload_n X.1.1 X.1.2.1 d_MD_meld_56 rfl (lv_at hl 3 rfl) ?_
        obtain ⟨x7, h8, hf⟩ := ob hf
        refine md_ld X hH 0 (by decide) h8 d_MD_meld_57 ?_
        obtain ⟨u9, h10, hf⟩ := ob hf
        refine md_st X hH 0 (by decide) h10 d_MD_meld_58 (fun H locs hH => ?_)
        refine lv_iinc (v := (k + 1)) (lv' := [(3, .int (k + 1)), (0, .ref o), (1, .int a), (2, .int b)]) X.1.1 X.1.2.1 d_MD_meld_59 hl (k := 3) rfl (congrArg (fun w => k + w) (by decide)) (by decide) rfl (fun ls hl => ?_)
        refine lv_goto (tgt := 25) X.1.1 X.1.2.1 d_MD_meld_62 (by decide) ?_
        exact ih hf hH (lv_sub hl [1, 2, 3, 0] rfl)
      · replace hf := ip c6 hf
        refine lv_iload_n X.1.1 X.1.2.1 d_MD_meld_48 rfl (lv_at hl 1 rfl) ?_
        refine lv_goto (tgt := 58) X.1.1 X.1.2.1 d_MD_meld_49 (by decide) ?_
        obtain ⟨u11, h12, hf⟩ := ob hf
        refine md_st X hH 0 (by decide) h12 d_MD_meld_58 (fun H locs hH => ?_)
        refine lv_iinc (v := (k + 1)) (lv' := [(3, .int (k + 1)), (0, .ref o), (1, .int a), (2, .int b)]) X.1.1 X.1.2.1 d_MD_meld_59 hl (k := 3) rfl (congrArg (fun w => k + w) (by decide)) (by decide) rfl (fun ls hl => ?_)
        refine lv_goto (tgt := 25) X.1.1 X.1.2.1 d_MD_meld_62 (by decide) ?_
        exact ih hf hH (lv_sub hl [1, 2, 3, 0] rfl)
set_option maxHeartbeats 4000000 in
set_option maxRecDepth 100000 in
theorem v_MD_meld_0 (X : md_X p m c b_MD_meld 4 s args R_MD D cA cB A) (hr : meth.sig.returnType = (some .int)) (hlk : meth.locks = false) {u : sk_T} {a : Int32} {b : Int32} {z : Int32 × sk_T} (hf : md_meld u a b = some z) {H : Heap} {locs : List Loc} {ls : Array Slot} (hH : md_H D A s.heap H locs o q cA cB u) (hl : lv_has ls 4 [(0, .ref o), (1, .int a), (2, .int b)]) : W p l e rm_MD_meld s m args below meth c H locs 0 0 (MQ below (md_Qi D o q cA cB A z.1 z.2) args s 0 0 A) (F0 m 0 ls []) := by
  unfold md_meld at hf
  refine lv_aload_n X.1.1 X.1.2.1 d_MD_meld_0 rfl (lv_at hl 0 rfl) ?_
  refine lv_iload_n X.1.1 X.1.2.1 d_MD_meld_1 rfl (lv_at hl 1 rfl) ?_
  refine md_calli X hH (As := [.int a]) (rest := []) (c_MD_isHeap) (k_MD_isHeap X.1.2.2.2.2 ⟨(Nat.le_of_ble_eq_true rfl), (Nat.le_of_ble_eq_true rfl)⟩) rfl hl.1 rfl (Nat.le_of_ble_eq_true rfl) d_MD_meld_2 ⟨Nat.zero_le _, Nat.zero_le _⟩ (fun H locs hH => ?_)
  refine lv_if_eq (tgt := 21) X.1.1 X.1.2.1 d_MD_meld_5 (by decide) (fun c1 => ?_) (fun c1 => ?_)
  · replace hf := ip c1 hf
    refine lv_iconst (v := (-1)) X.1.1 X.1.2.1 d_MD_meld_21 (by decide) ?_
    obtain rfl := Option.some.inj hf
    exact md_iret X hr hlk hH d_MD_meld_22
  · replace hf := im c1 hf
    refine lv_aload_n X.1.1 X.1.2.1 d_MD_meld_8 rfl (lv_at hl 0 rfl) ?_
    refine lv_iload_n X.1.1 X.1.2.1 d_MD_meld_9 rfl (lv_at hl 2 rfl) ?_
    refine md_calli X hH (As := [.int b]) (rest := []) (c_MD_isHeap) (k_MD_isHeap X.1.2.2.2.2 ⟨(Nat.le_of_ble_eq_true rfl), (Nat.le_of_ble_eq_true rfl)⟩) rfl hl.1 rfl (Nat.le_of_ble_eq_true rfl) d_MD_meld_10 ⟨Nat.zero_le _, Nat.zero_le _⟩ (fun H locs hH => ?_)
    refine lv_if_eq (tgt := 21) X.1.1 X.1.2.1 d_MD_meld_13 (by decide) (fun c2 => ?_) (fun c2 => ?_)
    · replace hf := ip c2 hf
      refine lv_iconst (v := (-1)) X.1.1 X.1.2.1 d_MD_meld_21 (by decide) ?_
      obtain rfl := Option.some.inj hf
      exact md_iret X hr hlk hH d_MD_meld_22
    · replace hf := im c2 hf
      refine lv_iload_n X.1.1 X.1.2.1 d_MD_meld_16 rfl (lv_at hl 1 rfl) ?_
      refine lv_iload_n X.1.1 X.1.2.1 d_MD_meld_17 rfl (lv_at hl 2 rfl) ?_
      refine lv_icmp_ne (tgt := 23) X.1.1 X.1.2.1 d_MD_meld_18 (by decide) (fun c3 => ?_) (fun c3 => ?_)
      · replace hf := im c3 hf
        refine lv_iconst (v := 0) X.1.1 X.1.2.1 d_MD_meld_23 (by decide) ?_
        refine lv_istore_n (lv' := [(3, .int 0), (0, .ref o), (1, .int a), (2, .int b)]) X.1.1 X.1.2.1 d_MD_meld_24 rfl hl (by decide) rfl (fun ls hl => ?_)
        exact v_MD_meld_25 X hr hlk _ hf hH (lv_sub hl [1, 2, 3, 0] rfl)
      · replace hf := ip c3 hf
        refine lv_iconst (v := (-1)) X.1.1 X.1.2.1 d_MD_meld_21 (by decide) ?_
        obtain rfl := Option.some.inj hf
        exact md_iret X hr hlk hH d_MD_meld_22
end V_MD_meld
theorem c_MD_meld {l : Launch} {D : va_G} {o : Nat} {q : Nat → Nat} {cA cB : ClassId} {u : sk_T} {a : Int32} {b : Int32} {z : Int32 × sk_T} (hf : md_meld u a b = some z) : md_Mi l y_MD_meld w_MD_meld rm_MD_meld D o q cA cB [.ref o, .int a, .int b] u z.1 z.2 :=
  md_entry (own := R_MD) (fun A => md_Qi D o q cA cB A z.1 z.2) (by decide) rfl (Nat.le_of_ble_eq_true rfl) (fun p e s m below meth c A ls X hr hlk hH hl => v_MD_meld_0 X hr hlk hf hH hl)
-- MD_size
def rm_MD_size : Room := { frames := 1, cells := 0, slots := 0, locals := 23 }
section V_MD_size
variable {p : Program} {l : Launch} {e : Env} {s : State} {m : MethodId} {args : Array Value} {below : List Frame} {meth : Method} {c : Code} {D : va_G} {A : Nat → Prop} {o : Nat} {q : Nat → Nat} {cA cB : ClassId} {Q : State → Prop}
set_option maxHeartbeats 4000000 in
set_option maxRecDepth 100000 in
theorem v_MD_size_0 (X : md_X p m c b_MD_size 2 s args R_MD D cA cB A) (hr : meth.sig.returnType = (some .int)) (hlk : meth.locks = false) {u : sk_T} {x : Int32} {z : Int32 × sk_T} (hf : md_size u x = some z) {H : Heap} {locs : List Loc} {ls : Array Slot} (hH : md_H D A s.heap H locs o q cA cB u) (hl : lv_has ls 2 [(0, .ref o), (1, .int x)]) : W p l e rm_MD_size s m args below meth c H locs 0 0 (MQ below (md_Qi D o q cA cB A z.1 z.2) args s 0 0 A) (F0 m 0 ls []) := by
  unfold md_size at hf
  refine lv_aload_n X.1.1 X.1.2.1 d_MD_size_0 rfl (lv_at hl 0 rfl) ?_
  refine lv_iload_n X.1.1 X.1.2.1 d_MD_size_1 rfl (lv_at hl 1 rfl) ?_
  refine md_calli X hH (As := [.int x]) (rest := []) (c_MD_isHeap) (k_MD_isHeap X.1.2.2.2.2 ⟨(Nat.le_of_ble_eq_true rfl), (Nat.le_of_ble_eq_true rfl)⟩) rfl hl.1 rfl (Nat.le_of_ble_eq_true rfl) d_MD_size_2 ⟨Nat.zero_le _, Nat.zero_le _⟩ (fun H locs hH => ?_)
  refine lv_if_eq (tgt := 16) X.1.1 X.1.2.1 d_MD_size_5 (by decide) (fun c1 => ?_) (fun c1 => ?_)
  · replace hf := ip c1 hf
    refine lv_iconst (v := (-1)) X.1.1 X.1.2.1 d_MD_size_16 (by decide) ?_
    obtain rfl := Option.some.inj hf
    exact md_iret X hr hlk hH d_MD_size_17
  · replace hf := im c1 hf
    refine lv_aload_n X.1.1 X.1.2.1 d_MD_size_8 rfl (lv_at hl 0 rfl) ?_
    refine lv_iload_n X.1.1 X.1.2.1 d_MD_size_9 rfl (lv_at hl 1 rfl) ?_
    obtain ⟨x2, h3, hf⟩ := ob hf
    refine md_calli X hH (As := [.int x]) (rest := []) (c_MD_sizeOf h3) (k_MD_sizeOf X.1.2.2.2.2 ⟨(Nat.le_of_ble_eq_true rfl), (Nat.le_of_ble_eq_true rfl)⟩) rfl hl.1 rfl (Nat.le_of_ble_eq_true rfl) d_MD_size_10 ⟨Nat.zero_le _, Nat.zero_le _⟩ (fun H locs hH => ?_)
    refine lv_goto (tgt := 17) X.1.1 X.1.2.1 d_MD_size_13 (by decide) ?_
    obtain rfl := Option.some.inj hf
    exact md_iret X hr hlk hH d_MD_size_17
end V_MD_size
theorem c_MD_size {l : Launch} {D : va_G} {o : Nat} {q : Nat → Nat} {cA cB : ClassId} {u : sk_T} {x : Int32} {z : Int32 × sk_T} (hf : md_size u x = some z) : md_Mi l y_MD_size w_MD_size rm_MD_size D o q cA cB [.ref o, .int x] u z.1 z.2 :=
  md_entry (own := R_MD) (fun A => md_Qi D o q cA cB A z.1 z.2) (by decide) rfl (Nat.le_of_ble_eq_true rfl) (fun p e s m below meth c A ls X hr hlk hH hl => v_MD_size_0 X hr hlk hf hH hl)
-- MD_key
def rm_MD_key : Room := { frames := 1, cells := 0, slots := 0, locals := 23 }
section V_MD_key
variable {p : Program} {l : Launch} {e : Env} {s : State} {m : MethodId} {args : Array Value} {below : List Frame} {meth : Method} {c : Code} {D : va_G} {A : Nat → Prop} {o : Nat} {q : Nat → Nat} {cA cB : ClassId} {Q : State → Prop}
set_option maxHeartbeats 4000000 in
set_option maxRecDepth 100000 in
theorem v_MD_key_31 (X : md_X p m c b_MD_key 4 s args R_MD D cA cB A) (hr : meth.sig.returnType = (some .long)) (hlk : meth.locks = false) : ∀ (n : Nat) {u : sk_T} {x : Int32} {k : Int32} {i : Int32} {z : Int64 × sk_T} (hf : md_kyL n u x k i = some z) {H : Heap} {locs : List Loc} {ls : Array Slot} (hH : md_H D A s.heap H locs o q cA cB u) (hl : lv_has ls 4 [(0, .ref o), (1, .int x), (2, .int k), (3, .int i)]), W p l e rm_MD_key s m args below meth c H locs 0 0 (MQ below (md_Ql D o q cA cB A z.1 z.2) args s 0 0 A) (F0 m 31 ls []) := by
  intro n
  induction n with
  | zero =>
    intro u x k i z hf
    rw [md_kyL] at hf
    cases hf
  | succ n ih =>
    intro u x k i z hf H locs ls hH hl
    rw [md_kyL] at hf
    refine lv_iload_n X.1.1 X.1.2.1 d_MD_key_31 rfl (lv_at hl 3 rfl) ?_
    refine lv_iload_n X.1.1 X.1.2.1 d_MD_key_32 rfl (lv_at hl 2 rfl) ?_
    refine lv_icmp_ge (tgt := 53) X.1.1 X.1.2.1 d_MD_key_33 (by decide) (fun c1 => ?_) (fun c1 => ?_)
    · replace hf := ip c1 hf
      refine lv_aload_n X.1.1 X.1.2.1 d_MD_key_53 rfl (lv_at hl 0 rfl) ?_
      refine md_gf X hH 3 13 (by decide) mf_MD_13 (v := .ref (q 1)) rfl d_MD_key_54 ?_
      refine lv_aload_n X.1.1 X.1.2.1 d_MD_key_57 rfl (lv_at hl 0 rfl) ?_
      refine lv_iload_n X.1.1 X.1.2.1 d_MD_key_58 rfl (lv_at hl 1 rfl) ?_
      obtain ⟨x2, h3, hf⟩ := ob hf
      refine md_calli X hH (As := [.int x]) (rest := [.ref (q 1)]) (c_MD_placeOf h3) (k_MD_placeOf X.1.2.2.2.2 ⟨(Nat.le_of_ble_eq_true rfl), (Nat.le_of_ble_eq_true rfl)⟩) rfl hl.1 rfl (Nat.le_of_ble_eq_true rfl) d_MD_key_59 ⟨Nat.zero_le _, Nat.zero_le _⟩ (fun H locs hH => ?_)
      obtain ⟨x4, h5, hf⟩ := ob hf
      refine md_ld X hH 1 (by decide) h5 d_MD_key_62 ?_
      refine lv_i2l (v := (Int32.toInt64 x4)) X.1.1 X.1.2.1 d_MD_key_63 rfl ?_
      obtain rfl := Option.some.inj hf
      exact md_lret X hr hlk hH d_MD_key_64
    · replace hf := im c1 hf
      refine lv_aload_n X.1.1 X.1.2.1 d_MD_key_36 rfl (lv_at hl 0 rfl) ?_
      refine md_gf X hH 4 16 (by decide) mf_MD_16 (v := .ref (q 2)) rfl d_MD_key_37 ?_
      refine lv_aload_n X.1.1 X.1.2.1 d_MD_key_40 rfl (lv_at hl 0 rfl) ?_
      refine lv_iload_n X.1.1 X.1.2.1 d_MD_key_41 rfl (lv_at hl 1 rfl) ?_
      obtain ⟨x6, h7, hf⟩ := ob hf
      refine md_calli X hH (As := [.int x]) (rest := [.ref (q 2)]) (c_MD_placeOf h7) (k_MD_placeOf X.1.2.2.2.2 ⟨(Nat.le_of_ble_eq_true rfl), (Nat.le_of_ble_eq_true rfl)⟩) rfl hl.1 rfl (Nat.le_of_ble_eq_true rfl) d_MD_key_42 ⟨Nat.zero_le _, Nat.zero_le _⟩ (fun H locs hH => ?_)
      refine lv_iconst (v := 1) X.1.1 X.1.2.1 d_MD_key_45 (by decide) ?_
      obtain ⟨u8, h9, hf⟩ := ob hf
      refine md_stz X hH (by decide) h9 d_MD_key_46 (fun H locs hH => ?_)
      refine lv_iinc (v := (i + 1)) (lv' := [(3, .int (i + 1)), (0, .ref o), (1, .int x), (2, .int k)]) X.1.1 X.1.2.1 d_MD_key_47 hl (k := 3) rfl (congrArg (fun w => i + w) (by decide)) (by decide) rfl (fun ls hl => ?_)
      refine lv_goto (tgt := 31) X.1.1 X.1.2.1 d_MD_key_50 (by decide) ?_
      exact ih hf hH (lv_sub hl [1, 2, 3, 0] rfl)
set_option maxHeartbeats 4000000 in
set_option maxRecDepth 100000 in
theorem v_MD_key_0 (X : md_X p m c b_MD_key 4 s args R_MD D cA cB A) (hr : meth.sig.returnType = (some .long)) (hlk : meth.locks = false) {u : sk_T} {x : Int32} {k : Int32} {z : Int64 × sk_T} (hf : md_key u x k = some z) {H : Heap} {locs : List Loc} {ls : Array Slot} (hH : md_H D A s.heap H locs o q cA cB u) (hl : lv_has ls 4 [(0, .ref o), (1, .int x), (2, .int k)]) : W p l e rm_MD_key s m args below meth c H locs 0 0 (MQ below (md_Ql D o q cA cB A z.1 z.2) args s 0 0 A) (F0 m 0 ls []) := by
  unfold md_key at hf
  refine lv_aload_n X.1.1 X.1.2.1 d_MD_key_0 rfl (lv_at hl 0 rfl) ?_
  refine lv_iload_n X.1.1 X.1.2.1 d_MD_key_1 rfl (lv_at hl 1 rfl) ?_
  refine md_calli X hH (As := [.int x]) (rest := []) (c_MD_isHeap) (k_MD_isHeap X.1.2.2.2.2 ⟨(Nat.le_of_ble_eq_true rfl), (Nat.le_of_ble_eq_true rfl)⟩) rfl hl.1 rfl (Nat.le_of_ble_eq_true rfl) d_MD_key_2 ⟨Nat.zero_le _, Nat.zero_le _⟩ (fun H locs hH => ?_)
  refine lv_if_eq (tgt := 21) X.1.1 X.1.2.1 d_MD_key_5 (by decide) (fun c1 => ?_) (fun c1 => ?_)
  · replace hf := ip c1 hf
    refine lv_ldc2 (v := sk_MIN) X.1.1 X.1.2.1 X.1.2.2.2.1 (X.1.2.2.2.2 _ mk_MD_41) d_MD_key_21 ?_
    obtain rfl := Option.some.inj hf
    exact md_lret X hr hlk hH d_MD_key_24
  · replace hf := im c1 hf
    refine lv_iload_n X.1.1 X.1.2.1 d_MD_key_8 rfl (lv_at hl 2 rfl) ?_
    refine lv_if_lt (tgt := 21) X.1.1 X.1.2.1 d_MD_key_9 (by decide) (fun c2 => ?_) (fun c2 => ?_)
    · replace hf := ip c2 hf
      refine lv_ldc2 (v := sk_MIN) X.1.1 X.1.2.1 X.1.2.2.2.1 (X.1.2.2.2.2 _ mk_MD_41) d_MD_key_21 ?_
      obtain rfl := Option.some.inj hf
      exact md_lret X hr hlk hH d_MD_key_24
    · replace hf := im c2 hf
      refine lv_iload_n X.1.1 X.1.2.1 d_MD_key_12 rfl (lv_at hl 2 rfl) ?_
      refine lv_aload_n X.1.1 X.1.2.1 d_MD_key_13 rfl (lv_at hl 0 rfl) ?_
      refine lv_iload_n X.1.1 X.1.2.1 d_MD_key_14 rfl (lv_at hl 1 rfl) ?_
      obtain ⟨x3, h4, hf⟩ := ob hf
      refine md_calli X hH (As := [.int x]) (rest := [.int k]) (c_MD_sizeOf h4) (k_MD_sizeOf X.1.2.2.2.2 ⟨(Nat.le_of_ble_eq_true rfl), (Nat.le_of_ble_eq_true rfl)⟩) rfl hl.1 rfl (Nat.le_of_ble_eq_true rfl) d_MD_key_15 ⟨Nat.zero_le _, Nat.zero_le _⟩ (fun H locs hH => ?_)
      refine lv_icmp_lt (tgt := 25) X.1.1 X.1.2.1 d_MD_key_18 (by decide) (fun c5 => ?_) (fun c5 => ?_)
      · replace hf := ip c5 hf
        refine lv_aload_n X.1.1 X.1.2.1 d_MD_key_25 rfl (lv_at hl 0 rfl) ?_
        obtain ⟨u6, h7, hf⟩ := ob hf
        refine md_callv X hH (As := []) (rest := []) (c_MD_untell h7) (k_MD_untell X.1.2.2.2.2 ⟨(Nat.le_of_ble_eq_true rfl), (Nat.le_of_ble_eq_true rfl)⟩) rfl hl.1 rfl (Nat.le_of_ble_eq_true rfl) d_MD_key_26 ⟨Nat.zero_le _, Nat.zero_le _⟩ (fun H locs hH => ?_)
        refine lv_iconst (v := 0) X.1.1 X.1.2.1 d_MD_key_29 (by decide) ?_
        refine lv_istore_n (lv' := [(3, .int 0), (0, .ref o), (1, .int x), (2, .int k)]) X.1.1 X.1.2.1 d_MD_key_30 rfl hl (by decide) rfl (fun ls hl => ?_)
        exact v_MD_key_31 X hr hlk _ hf hH (lv_sub hl [1, 2, 3, 0] rfl)
      · replace hf := im c5 hf
        refine lv_ldc2 (v := sk_MIN) X.1.1 X.1.2.1 X.1.2.2.2.1 (X.1.2.2.2.2 _ mk_MD_41) d_MD_key_21 ?_
        obtain rfl := Option.some.inj hf
        exact md_lret X hr hlk hH d_MD_key_24
end V_MD_key
theorem c_MD_key {l : Launch} {D : va_G} {o : Nat} {q : Nat → Nat} {cA cB : ClassId} {u : sk_T} {x : Int32} {k : Int32} {z : Int64 × sk_T} (hf : md_key u x k = some z) : md_Ml l y_MD_key w_MD_key rm_MD_key D o q cA cB [.ref o, .int x, .int k] u z.1 z.2 :=
  md_entry (own := R_MD) (fun A => md_Ql D o q cA cB A z.1 z.2) (by decide) rfl (Nat.le_of_ble_eq_true rfl) (fun p e s m below meth c A ls X hr hlk hH hl => v_MD_key_0 X hr hlk hf hH hl)
-- MD_sum
def rm_MD_sum : Room := { frames := 1, cells := 0, slots := 0, locals := 21 }
section V_MD_sum
variable {p : Program} {l : Launch} {e : Env} {s : State} {m : MethodId} {args : Array Value} {below : List Frame} {meth : Method} {c : Code} {D : va_G} {A : Nat → Prop} {o : Nat} {q : Nat → Nat} {cA cB : ClassId} {Q : State → Prop}
set_option maxHeartbeats 4000000 in
set_option maxRecDepth 100000 in
theorem v_MD_sum_5 (X : md_X p m c b_MD_sum 5 s args R_MD D cA cB A) (hr : meth.sig.returnType = (some .long)) (hlk : meth.locks = false) : ∀ (n : Nat) {u : sk_T} {x : Int32} {a : Int64} {k : Int32} {z : Int64 × sk_T} (hf : md_smL n u x a k = some z) {H : Heap} {locs : List Loc} {ls : Array Slot} (hH : md_H D A s.heap H locs o q cA cB u) (hl : lv_has ls 5 [(0, .ref o), (1, .int x), (2, .long a), (4, .int k)]), W p l e rm_MD_sum s m args below meth c H locs 0 0 (MQ below (md_Ql D o q cA cB A z.1 z.2) args s 0 0 A) (F0 m 5 ls []) := by
  intro n
  induction n with
  | zero =>
    intro u x a k z hf
    rw [md_smL] at hf
    cases hf
  | succ n ih =>
    intro u x a k z hf H locs ls hH hl
    rw [md_smL] at hf
    refine lv_iload X.1.1 X.1.2.1 d_MD_sum_5 (lv_at hl 3 rfl) ?_
    refine lv_aload_n X.1.1 X.1.2.1 d_MD_sum_7 rfl (lv_at hl 0 rfl) ?_
    refine md_gf X hH 1 24 (by decide) mf_MD_24 (v := .int (u.2 1)) rfl d_MD_sum_8 ?_
    refine lv_icmp_ge (tgt := 54) X.1.1 X.1.2.1 d_MD_sum_11 (by decide) (fun c1 => ?_) (fun c1 => ?_)
    · replace hf := ip c1 hf
      refine lv_lload_n X.1.1 X.1.2.1 d_MD_sum_54 rfl (lv_at hl 2 rfl) ?_
      obtain rfl := Option.some.inj hf
      exact md_lret X hr hlk hH d_MD_sum_55
    · replace hf := im c1 hf
      refine lv_lload_n X.1.1 X.1.2.1 d_MD_sum_14 rfl (lv_at hl 2 rfl) ?_
      refine lv_aload_n X.1.1 X.1.2.1 d_MD_sum_15 rfl (lv_at hl 0 rfl) ?_
      refine lv_iload_n X.1.1 X.1.2.1 d_MD_sum_16 rfl (lv_at hl 1 rfl) ?_
      refine md_calli X hH (As := [.int x]) (rest := [.long a]) (c_MD_isHeap) (k_MD_isHeap X.1.2.2.2.2 ⟨(Nat.le_of_ble_eq_true rfl), (Nat.le_of_ble_eq_true rfl)⟩) rfl hl.1 rfl (Nat.le_of_ble_eq_true rfl) d_MD_sum_17 ⟨Nat.zero_le _, Nat.zero_le _⟩ (fun H locs hH => ?_)
      refine lv_if_eq (tgt := 45) X.1.1 X.1.2.1 d_MD_sum_20 (by decide) (fun c2 => ?_) (fun c2 => ?_)
      · replace hf := ip c2 hf
        refine lv_lconst (v := 0) X.1.1 X.1.2.1 d_MD_sum_45 (by decide) ?_
        refine lv_ladd X.1.1 X.1.2.1 d_MD_sum_46 ?_
        refine lv_lstore_n (lv' := [(2, .long (a + 0)), (0, .ref o), (1, .int x), (4, .int k)]) X.1.1 X.1.2.1 d_MD_sum_47 rfl hl (by decide) rfl (fun ls hl => ?_)
        refine lv_iinc (v := (k + 1)) (lv' := [(4, .int (k + 1)), (2, .long (a + 0)), (0, .ref o), (1, .int x)]) X.1.1 X.1.2.1 d_MD_sum_48 hl (k := 3) rfl (congrArg (fun w => k + w) (by decide)) (by decide) rfl (fun ls hl => ?_)
        refine lv_goto (tgt := 5) X.1.1 X.1.2.1 d_MD_sum_51 (by decide) ?_
        exact ih hf hH (lv_sub hl [2, 3, 1, 0] rfl)
      · replace hf := im c2 hf
        refine lv_aload_n X.1.1 X.1.2.1 d_MD_sum_23 rfl (lv_at hl 0 rfl) ?_
        refine md_gf X hH 2 7 (by decide) mf_MD_7 (v := .ref (q 0)) rfl d_MD_sum_24 ?_
        refine lv_iload X.1.1 X.1.2.1 d_MD_sum_27 (lv_at hl 3 rfl) ?_
        obtain ⟨x3, h4, hf⟩ := ob hf
        refine md_ld X hH 0 (by decide) h4 d_MD_sum_29 ?_
        refine lv_iload_n X.1.1 X.1.2.1 d_MD_sum_30 rfl (lv_at hl 1 rfl) ?_
        refine lv_icmp_ne (tgt := 45) X.1.1 X.1.2.1 d_MD_sum_31 (by decide) (fun c5 => ?_) (fun c5 => ?_)
        · replace hf := im c5 hf
          refine lv_lconst (v := 0) X.1.1 X.1.2.1 d_MD_sum_45 (by decide) ?_
          refine lv_ladd X.1.1 X.1.2.1 d_MD_sum_46 ?_
          refine lv_lstore_n (lv' := [(2, .long (a + 0)), (0, .ref o), (1, .int x), (4, .int k)]) X.1.1 X.1.2.1 d_MD_sum_47 rfl hl (by decide) rfl (fun ls hl => ?_)
          refine lv_iinc (v := (k + 1)) (lv' := [(4, .int (k + 1)), (2, .long (a + 0)), (0, .ref o), (1, .int x)]) X.1.1 X.1.2.1 d_MD_sum_48 hl (k := 3) rfl (congrArg (fun w => k + w) (by decide)) (by decide) rfl (fun ls hl => ?_)
          refine lv_goto (tgt := 5) X.1.1 X.1.2.1 d_MD_sum_51 (by decide) ?_
          exact ih hf hH (lv_sub hl [2, 3, 1, 0] rfl)
        · replace hf := ip c5 hf
          refine lv_aload_n X.1.1 X.1.2.1 d_MD_sum_34 rfl (lv_at hl 0 rfl) ?_
          refine md_gf X hH 3 13 (by decide) mf_MD_13 (v := .ref (q 1)) rfl d_MD_sum_35 ?_
          refine lv_iload X.1.1 X.1.2.1 d_MD_sum_38 (lv_at hl 3 rfl) ?_
          obtain ⟨x6, h7, hf⟩ := ob hf
          refine md_ld X hH 1 (by decide) h7 d_MD_sum_40 ?_
          refine lv_i2l (v := (Int32.toInt64 x6)) X.1.1 X.1.2.1 d_MD_sum_41 rfl ?_
          refine lv_goto (tgt := 46) X.1.1 X.1.2.1 d_MD_sum_42 (by decide) ?_
          refine lv_ladd X.1.1 X.1.2.1 d_MD_sum_46 ?_
          refine lv_lstore_n (lv' := [(2, .long (a + (Int32.toInt64 x6))), (0, .ref o), (1, .int x), (4, .int k)]) X.1.1 X.1.2.1 d_MD_sum_47 rfl hl (by decide) rfl (fun ls hl => ?_)
          refine lv_iinc (v := (k + 1)) (lv' := [(4, .int (k + 1)), (2, .long (a + (Int32.toInt64 x6))), (0, .ref o), (1, .int x)]) X.1.1 X.1.2.1 d_MD_sum_48 hl (k := 3) rfl (congrArg (fun w => k + w) (by decide)) (by decide) rfl (fun ls hl => ?_)
          refine lv_goto (tgt := 5) X.1.1 X.1.2.1 d_MD_sum_51 (by decide) ?_
          exact ih hf hH (lv_sub hl [2, 3, 1, 0] rfl)
set_option maxHeartbeats 4000000 in
set_option maxRecDepth 100000 in
theorem v_MD_sum_0 (X : md_X p m c b_MD_sum 5 s args R_MD D cA cB A) (hr : meth.sig.returnType = (some .long)) (hlk : meth.locks = false) {u : sk_T} {x : Int32} {z : Int64 × sk_T} (hf : md_sum u x = some z) {H : Heap} {locs : List Loc} {ls : Array Slot} (hH : md_H D A s.heap H locs o q cA cB u) (hl : lv_has ls 5 [(0, .ref o), (1, .int x)]) : W p l e rm_MD_sum s m args below meth c H locs 0 0 (MQ below (md_Ql D o q cA cB A z.1 z.2) args s 0 0 A) (F0 m 0 ls []) := by
  unfold md_sum at hf
  refine lv_lconst (v := 0) X.1.1 X.1.2.1 d_MD_sum_0 (by decide) ?_
  refine lv_lstore_n (lv' := [(2, .long 0), (0, .ref o), (1, .int x)]) X.1.1 X.1.2.1 d_MD_sum_1 rfl hl (by decide) rfl (fun ls hl => ?_)
  refine lv_iconst (v := 0) X.1.1 X.1.2.1 d_MD_sum_2 (by decide) ?_
  refine lv_istore (lv' := [(4, .int 0), (2, .long 0), (0, .ref o), (1, .int x)]) X.1.1 X.1.2.1 d_MD_sum_3 hl (by decide) rfl (fun ls hl => ?_)
  exact v_MD_sum_5 X hr hlk _ hf hH (lv_sub hl [2, 3, 1, 0] rfl)
end V_MD_sum
theorem c_MD_sum {l : Launch} {D : va_G} {o : Nat} {q : Nat → Nat} {cA cB : ClassId} {u : sk_T} {x : Int32} {z : Int64 × sk_T} (hf : md_sum u x = some z) : md_Ml l y_MD_sum w_MD_sum rm_MD_sum D o q cA cB [.ref o, .int x] u z.1 z.2 :=
  md_entry (own := R_MD) (fun A => md_Ql D o q cA cB A z.1 z.2) (by decide) rfl (Nat.le_of_ble_eq_true rfl) (fun p e s m below meth c A ls X hr hlk hH hl => v_MD_sum_0 X hr hlk hf hH hl)
-- MD_free
def rm_MD_free : Room := { frames := 0, cells := 0, slots := 0, locals := 0 }
section V_MD_free
variable {p : Program} {l : Launch} {e : Env} {s : State} {m : MethodId} {args : Array Value} {below : List Frame} {meth : Method} {c : Code} {D : va_G} {A : Nat → Prop} {o : Nat} {q : Nat → Nat} {cA cB : ClassId} {Q : State → Prop}
set_option maxHeartbeats 4000000 in
set_option maxRecDepth 100000 in
theorem v_MD_free_0 (X : md_X p m c b_MD_free 1 s args R_MD D cA cB A) (hr : meth.sig.returnType = (some .int)) (hlk : meth.locks = false) {u : sk_T} {z : Int32 × sk_T} (hf : md_free u = some z) {H : Heap} {locs : List Loc} {ls : Array Slot} (hH : md_H D A s.heap H locs o q cA cB u) (hl : lv_has ls 1 [(0, .ref o)]) : W p l e rm_MD_free s m args below meth c H locs 0 0 (MQ below (md_Qi D o q cA cB A z.1 z.2) args s 0 0 A) (F0 m 0 ls []) := by
  unfold md_free at hf
  refine lv_sipush (v := 200) X.1.1 X.1.2.1 d_MD_free_0 (by decide) ?_
  refine lv_aload_n X.1.1 X.1.2.1 d_MD_free_3 rfl (lv_at hl 0 rfl) ?_
  refine md_gf X hH 1 24 (by decide) mf_MD_24 (v := .int (u.2 1)) rfl d_MD_free_4 ?_
  refine lv_isub X.1.1 X.1.2.1 d_MD_free_7 ?_
  obtain rfl := Option.some.inj hf
  exact md_iret X hr hlk hH d_MD_free_8
end V_MD_free
theorem c_MD_free {l : Launch} {D : va_G} {o : Nat} {q : Nat → Nat} {cA cB : ClassId} {u : sk_T} {z : Int32 × sk_T} (hf : md_free u = some z) : md_Mi l y_MD_free w_MD_free rm_MD_free D o q cA cB [.ref o] u z.1 z.2 :=
  md_entry (own := R_MD) (fun A => md_Qi D o q cA cB A z.1 z.2) (by decide) rfl (Nat.le_of_ble_eq_true rfl) (fun p e s m below meth c A ls X hr hlk hH hl => v_MD_free_0 X hr hlk hf hH hl)
-- MD_few
def rm_MD_few : Room := { frames := 0, cells := 0, slots := 0, locals := 0 }
section V_MD_few
variable {p : Program} {l : Launch} {e : Env} {s : State} {m : MethodId} {args : Array Value} {below : List Frame} {meth : Method} {c : Code} {D : va_G} {A : Nat → Prop} {o : Nat} {q : Nat → Nat} {cA cB : ClassId} {Q : State → Prop}
set_option maxHeartbeats 4000000 in
set_option maxRecDepth 100000 in
theorem v_MD_few_0 (X : md_X p m c b_MD_few 1 s args R_MD D cA cB A) (hr : meth.sig.returnType = (some .boolean)) (hlk : meth.locks = false) {u : sk_T} {z : Int32} (hf : md_few u = z) {H : Heap} {locs : List Loc} {ls : Array Slot} (hH : md_H D A s.heap H locs o q cA cB u) (hl : lv_has ls 1 [(0, .ref o)]) : W p l e rm_MD_few s m args below meth c H locs 0 0 (MQ below (md_Qi D o q cA cB A z u) args s 0 0 A) (F0 m 0 ls []) := by
  unfold md_few at hf
  refine lv_iconst (v := 1) X.1.1 X.1.2.1 d_MD_few_0 (by decide) ?_
  obtain rfl := hf
  exact md_zret X hr hlk hH rfl d_MD_few_1
end V_MD_few
theorem c_MD_few {l : Launch} {D : va_G} {o : Nat} {q : Nat → Nat} {cA cB : ClassId} {u : sk_T} : md_Mi l y_MD_few w_MD_few rm_MD_few D o q cA cB [.ref o] u (md_few u) u :=
  md_entry (own := R_MD) (fun A => md_Qi D o q cA cB A (md_few u) u) (by decide) rfl (Nat.le_of_ble_eq_true rfl) (fun p e s m below meth c A ls X hr hlk hH hl => v_MD_few_0 X hr hlk rfl hH hl)
end
section
/-! THE CONSTRUCTORS (printed by gen_init.py) -/
def sk_inL : Nat → sk_T → Int32 → Option sk_T
  | 0, _, _ => none
  | n + 1, u, c =>
    if 200 ≤ c then some u else
    if 200 ≤ c + 1 then (sk_wr u 3 c (-1)).bind fun u1 => sk_inL n u1 (c + 1)
    else (sk_wr u 3 c (c + 1)).bind fun u1 => sk_inL n u1 (c + 1)
def sk_z0 : sk_T := (fun _ _ => 0, fun k => if k = 1 then 200 else 0)
def md_z0 : sk_T := (fun _ _ => 0, fun _ => 0)
def nine (a b c d e f g h i : Nat) (k : Nat) : Nat := match k with
  | 0 => a
  | 1 => b
  | 2 => c
  | 3 => d
  | 4 => e
  | 5 => f
  | 6 => g
  | 7 => h
  | _ => i
def three (a b c : Nat) (k : Nat) : Nat := match k with
  | 0 => a
  | 1 => b
  | _ => c
def rm_SM_init : Room := { frames := 1, cells := 9, slots := 1416, locals := 20 }
def rm_MD_init : Room := { frames := 1, cells := 3, slots := 600, locals := 20 }
theorem va_K.one {D : va_G} {cl : List vw_C} {s : State} {a b : ClassId} (hK : va_K D cl [(a, .int), (b, .int)] s) : b = a := by
  have h1 : s.vm.findClass ("[" ++ FieldType.int.toString) = some a := (hK.2 0 (a, .int) rfl).2
  have h2 : s.vm.findClass ("[" ++ FieldType.int.toString) = some b := (hK.2 1 (b, .int) rfl).2
  exact Option.some.inj (h2.symm.trans h1)
theorem arr_i (cA : ClassId) (n : Nat) : vp_cell cA (n, .inl (fun _ => 0)) = arrV cA n (fun _ => defaultValue .int) := rfl
theorem arr_z (cA : ClassId) (n : Nat) : vp_cell cA (n, .inl (fun _ => 0)) = arrV cA n (fun _ => defaultValue .boolean) := rfl
section VINI
variable {p : Program} {l : Launch} {e : Env} {R : Room} {s : State} {m : MethodId} {args : Array Value} {below : List Frame} {meth : Method} {c : Code} {D : va_G} {A : Nat → Prop} {o : Nat} {q : Nat → Nat} {cA : ClassId} {Q : State → Prop} {cells slots : Nat}
set_option maxHeartbeats 4000000 in
set_option maxRecDepth 100000 in
theorem v_SM_init_92 (X : sk_X p m c b_SM_init 2 s args R_SM D cA A) : ∀ (n : Nat) {u : sk_T} {x : Int32} {z : sk_T} (hf : sk_inL n u x = some z) {H : Heap} {locs : List Loc} {ls : Array Slot} (hH : sk_H D A s.heap H locs o q cA u) (hl : lv_has ls 2 [(0, .ref o), (1, .int x)]) (kk : ∀ (H : Heap) (locs : List Loc) (ls : Array Slot), sk_H D A s.heap H locs o q cA z → W p l e R s m args below meth c H locs cells slots Q (F0 m 127 ls [])), W p l e R s m args below meth c H locs cells slots Q (F0 m 92 ls []) := by
  intro n
  induction n with
  | zero =>
    intro u x z hf
    rw [sk_inL] at hf
    cases hf
  | succ n ih =>
    intro u x z hf H locs ls hH hl kk
    rw [sk_inL] at hf
    refine lv_iload_n X.1.1 X.1.2.1 d_SM_init_92 rfl (lv_at hl 1 rfl) ?_
    refine lv_sipush (v := 200) X.1.1 X.1.2.1 d_SM_init_93 (by decide) ?_
    refine lv_icmp_ge (tgt := 127) X.1.1 X.1.2.1 d_SM_init_96 (by decide) (fun c1 => ?_) (fun c1 => ?_)
    · replace hf := ip c1 hf
      obtain rfl := Option.some.inj hf
      exact kk _ _ _ hH
    · replace hf := im c1 hf
      refine lv_aload_n X.1.1 X.1.2.1 d_SM_init_99 rfl (lv_at hl 0 rfl) ?_
      refine sk_gf X hH 3 19 (by decide) mf_SM_19 (v := .ref (q 3)) rfl d_SM_init_100 ?_
      refine lv_iload_n X.1.1 X.1.2.1 d_SM_init_103 rfl (lv_at hl 1 rfl) ?_
      refine lv_iload_n X.1.1 X.1.2.1 d_SM_init_104 rfl (lv_at hl 1 rfl) ?_
      refine lv_iconst (v := 1) X.1.1 X.1.2.1 d_SM_init_105 (by decide) ?_
      refine lv_iadd X.1.1 X.1.2.1 d_SM_init_106 ?_
      refine lv_sipush (v := 200) X.1.1 X.1.2.1 d_SM_init_107 (by decide) ?_
      refine lv_icmp_ge (tgt := 119) X.1.1 X.1.2.1 d_SM_init_110 (by decide) (fun c2 => ?_) (fun c2 => ?_)
      · replace hf := ip c2 hf
        refine lv_iconst (v := (-1)) X.1.1 X.1.2.1 d_SM_init_119 (by decide) ?_
        obtain ⟨u3, h4, hf⟩ := ob hf
        refine sk_st X hH 3 (by decide) h4 d_SM_init_120 (fun H locs hH => ?_)
        refine lv_iinc (v := (x + 1)) (lv' := [(1, .int (x + 1)), (0, .ref o)]) X.1.1 X.1.2.1 d_SM_init_121 hl (k := 1) rfl (congrArg (fun w => x + w) (by decide)) (by decide) rfl (fun ls hl => ?_)
        refine lv_goto (tgt := 92) X.1.1 X.1.2.1 d_SM_init_124 (by decide) ?_
        exact ih hf hH (lv_sub hl [1, 0] rfl) kk
      · replace hf := im c2 hf
        refine lv_iload_n X.1.1 X.1.2.1 d_SM_init_113 rfl (lv_at hl 1 rfl) ?_
        refine lv_iconst (v := 1) X.1.1 X.1.2.1 d_SM_init_114 (by decide) ?_
        refine lv_iadd X.1.1 X.1.2.1 d_SM_init_115 ?_
        refine lv_goto (tgt := 120) X.1.1 X.1.2.1 d_SM_init_116 (by decide) ?_
        obtain ⟨u3, h4, hf⟩ := ob hf
        refine sk_st X hH 3 (by decide) h4 d_SM_init_120 (fun H locs hH => ?_)
        refine lv_iinc (v := (x + 1)) (lv' := [(1, .int (x + 1)), (0, .ref o)]) X.1.1 X.1.2.1 d_SM_init_121 hl (k := 1) rfl (congrArg (fun w => x + w) (by decide)) (by decide) rfl (fun ls hl => ?_)
        refine lv_goto (tgt := 92) X.1.1 X.1.2.1 d_SM_init_124 (by decide) ?_
        exact ih hf hH (lv_sub hl [1, 0] rfl) kk
end VINI
set_option maxHeartbeats 8000000 in
set_option maxRecDepth 100000 in
theorem c_SM_init {l : Launch} {D : va_G} {o sz : Nat} {z : sk_T} (hf : sk_inL sk_FU sk_z0 0 = some z) : Met l y_SM_init w_SM_init rm_SM_init (va_Pc [.ref o] (fun U => U.heap.size = sz ∧ va_P D classes [(o, .inr (0, [.null, .null, .null, .null, .null, .int 0, .int 0, .int 0, .null, .null, .int 0, .int 0, .null, .null, .int 0, .int 0]))] U.heap ∧ va_K D classes [] U ∧ va_D (fun _ => True) [(o, .inr (0, [.null, .null, .null, .null, .null, .int 0, .int 0, .int 0, .null, .null, .int 0, .int 0, .null, .null, .int 0, .int 0]))])) (va_Qv (fun (x : (Nat → Nat) × ClassId) => True) (fun x t => sk_Pst D o x.1 x.2 (va_A [(o, .inr (0, [.null, .null, .null, .null, .null, .int 0, .int 0, .int 0, .null, .null, .int 0, .int 0, .null, .null, .int 0, .int 0]))] sz) z t ∧ va_K D classes [(x.2, .int)] t) (va_A [(o, .inr (0, [.null, .null, .null, .null, .null, .int 0, .int 0, .int 0, .null, .null, .int 0, .int 0, .null, .null, .int 0, .int 0]))] sz)) 9 1416 (va_A [(o, .inr (0, [.null, .null, .null, .null, .null, .int 0, .int 0, .int 0, .null, .null, .int 0, .int 0, .null, .null, .int 0, .int 0]))] sz) := by
  refine Met.ofW (cc := b_SM_init) (maxL := 2) (ret := none) (by decide) rfl ?_
  intro p e s m args below meth c s₁ B hml hv
  obtain ⟨rfl, hsz, hP, hK, hD0⟩ := hv
  change W p l e rm_SM_init s m _ below meth c s.heap [] 0 0 _ _
  have hx := B.exec
  have hb := B.bytes
  have hr := B.returns
  have hts0 := atoms_spec (ws := w_SM_init) B.pre
  have hts : ∀ w ∈ lw_big, w.before #[Value.ref o] s = true := fun w hw => hts0 w (List.mem_cons_of_mem _ hw)
  have hown : s.vm.findClass R_SM = some m.cls := findClass_of_methodNamed B.named
  have hlocks := B.notSynchronized
  have hin : meth.name = "<init>" := (name_of_methodNamed B.named B.method).1
  subst hsz
  have hD := hD0.self (sz := s.heap.size)
  generalize hAe : va_A [(o, .inr (0, [.null, .null, .null, .null, .null, .int 0, .int 0, .int 0, .null, .null, .int 0, .int 0, .null, .null, .int 0, .int 0]))] s.heap.size = A at hD ⊢
  have hA : ∀ q : Nat, s.heap.size ≤ q → A q := fun q h => by rw [← hAe]; exact Or.inr h
  have hS : va_S A s.heap s.heap [] := va_S.rf
  have hl := lv_entry ([.ref o]) (n := 2) (Nat.le_of_ble_eq_true rfl)
  rw [lg_entry_eq]
  generalize (lg_sl ([.ref o]) ++ List.replicate (2 - (lg_sl ([.ref o])).length) Slot.unset).toArray = ls at hl ⊢
  have hl : lv_has ls 2 [(0, .ref o)] := hl
  refine lv_aload_n hx hb d_SM_init_0 rfl (lv_at hl 0 rfl) ?_
  refine W.objInit hx hb hown (hts (.methodLink R_SM 1 objectInit) ml_SM_1) (hts (.instanceMethod objectInit) mm_objectInit) (hts _ mb_objectInit) rfl (by rw [hml]; exact hl.1) rfl d_SM_init_1 (Nat.le_of_ble_eq_true rfl) (Nat.le_of_ble_eq_true rfl) ?_
  refine W.eq (g2 := F0 m 4 ls []) rfl ?_
  refine lv_aload_n hx hb d_SM_init_4 rfl (lv_at hl 0 rfl) ?_
  refine lv_sipush (v := 200) hx hb d_SM_init_5 (by decide) ?_
  refine va_newa (atype := .int) (n := 200) (N' := 200) (a0 := (200, .inl (fun _ => 0))) (ty := .int) hx hb (hts (.arrayClass .int) ma_int) rfl hK hP hD hS hA (fun cA => arr_i cA 200) (by decide +kernel) (by decide +kernel) (by decide +kernel) (Nat.le_of_ble_eq_true rfl) (Nat.le_of_ble_eq_true rfl) d_SM_init_8 (fun q0 cA H hK hP hD hS => ?_)
  have hK : va_K D classes [(cA, .int)] s := hK
  refine W.widen (k := 1) (n := 200) (Nat.le_of_ble_eq_true rfl) (Nat.le_of_ble_eq_true rfl) ?_
  refine va_putF (D := D) (ci := 0) (v := .ref q0) (ty := .array .int) (C := R_SM) (T := F_SM) (N := 16) (ws := [(o, .inr (0, [.null, .null, .null, .null, .null, .int 0, .int 0, .int 0, .null, .null, .int 0, .int 0, .null, .null, .int 0, .int 0])), (q0, .inl (cA, 200, .inl (fun _ => 0)))]) hx hb hts i_SM t_SM t_SM_ok n_SM hown hK hP hD hS 0 rfl rfl 0 (by decide) (hts _ mf_SM_7) (fun _ h9 => h9) rfl hin rfl (by decide +kernel) rfl rfl (Nat.le_of_ble_eq_true rfl) d_SM_init_10 (fun H locs hP hD hS => ?_)
  have hP : va_P D classes [(o, .inr (0, [.ref q0, .null, .null, .null, .null, .int 0, .int 0, .int 0, .null, .null, .int 0, .int 0, .null, .null, .int 0, .int 0])), (q0, .inl (cA, 200, .inl (fun _ => 0)))] H := hP
  have hD : va_D A [(o, .inr (0, [.ref q0, .null, .null, .null, .null, .int 0, .int 0, .int 0, .null, .null, .int 0, .int 0, .null, .null, .int 0, .int 0])), (q0, .inl (cA, 200, .inl (fun _ => 0)))] := hD
  refine lv_aload_n hx hb d_SM_init_13 rfl (lv_at hl 0 rfl) ?_
  refine lv_sipush (v := 200) hx hb d_SM_init_14 (by decide) ?_
  refine va_newa (atype := .int) (n := 200) (N' := 200) (a0 := (200, .inl (fun _ => 0))) (ty := .int) hx hb (hts (.arrayClass .int) ma_int) rfl hK hP hD hS hA (fun cA => arr_i cA 200) (by decide +kernel) (by decide +kernel) (by decide +kernel) (Nat.le_of_ble_eq_true rfl) (Nat.le_of_ble_eq_true rfl) d_SM_init_17 (fun q1 cAx H hK hP hD hS => ?_)
  obtain rfl : cA = cAx := (va_K.one (hK.sub (tys' := [(cA, .int), (cAx, .int)]) [0, 1] rfl)).symm
  have hK : va_K D classes [(cA, .int)] s := hK.sub [0] rfl
  refine W.widen (k := 2) (n := 400) (Nat.le_of_ble_eq_true rfl) (Nat.le_of_ble_eq_true rfl) ?_
  refine va_putF (D := D) (ci := 0) (v := .ref q1) (ty := .array .int) (C := R_SM) (T := F_SM) (N := 16) (ws := [(o, .inr (0, [.ref q0, .null, .null, .null, .null, .int 0, .int 0, .int 0, .null, .null, .int 0, .int 0, .null, .null, .int 0, .int 0])), (q0, .inl (cA, 200, .inl (fun _ => 0))), (q1, .inl (cA, 200, .inl (fun _ => 0)))]) hx hb hts i_SM t_SM t_SM_ok n_SM hown hK hP hD hS 0 rfl rfl 1 (by decide) (hts _ mf_SM_13) (fun _ h9 => h9) rfl hin rfl (by decide +kernel) rfl rfl (Nat.le_of_ble_eq_true rfl) d_SM_init_19 (fun H locs hP hD hS => ?_)
  have hP : va_P D classes [(o, .inr (0, [.ref q0, .ref q1, .null, .null, .null, .int 0, .int 0, .int 0, .null, .null, .int 0, .int 0, .null, .null, .int 0, .int 0])), (q0, .inl (cA, 200, .inl (fun _ => 0))), (q1, .inl (cA, 200, .inl (fun _ => 0)))] H := hP
  have hD : va_D A [(o, .inr (0, [.ref q0, .ref q1, .null, .null, .null, .int 0, .int 0, .int 0, .null, .null, .int 0, .int 0, .null, .null, .int 0, .int 0])), (q0, .inl (cA, 200, .inl (fun _ => 0))), (q1, .inl (cA, 200, .inl (fun _ => 0)))] := hD
  refine lv_aload_n hx hb d_SM_init_22 rfl (lv_at hl 0 rfl) ?_
  refine lv_sipush (v := 200) hx hb d_SM_init_23 (by decide) ?_
  refine va_newa (atype := .int) (n := 200) (N' := 200) (a0 := (200, .inl (fun _ => 0))) (ty := .int) hx hb (hts (.arrayClass .int) ma_int) rfl hK hP hD hS hA (fun cA => arr_i cA 200) (by decide +kernel) (by decide +kernel) (by decide +kernel) (Nat.le_of_ble_eq_true rfl) (Nat.le_of_ble_eq_true rfl) d_SM_init_26 (fun q2 cAx H hK hP hD hS => ?_)
  obtain rfl : cA = cAx := (va_K.one (hK.sub (tys' := [(cA, .int), (cAx, .int)]) [0, 1] rfl)).symm
  have hK : va_K D classes [(cA, .int)] s := hK.sub [0] rfl
  refine W.widen (k := 3) (n := 600) (Nat.le_of_ble_eq_true rfl) (Nat.le_of_ble_eq_true rfl) ?_
  refine va_putF (D := D) (ci := 0) (v := .ref q2) (ty := .array .int) (C := R_SM) (T := F_SM) (N := 16) (ws := [(o, .inr (0, [.ref q0, .ref q1, .null, .null, .null, .int 0, .int 0, .int 0, .null, .null, .int 0, .int 0, .null, .null, .int 0, .int 0])), (q0, .inl (cA, 200, .inl (fun _ => 0))), (q1, .inl (cA, 200, .inl (fun _ => 0))), (q2, .inl (cA, 200, .inl (fun _ => 0)))]) hx hb hts i_SM t_SM t_SM_ok n_SM hown hK hP hD hS 0 rfl rfl 2 (by decide) (hts _ mf_SM_16) (fun _ h9 => h9) rfl hin rfl (by decide +kernel) rfl rfl (Nat.le_of_ble_eq_true rfl) d_SM_init_28 (fun H locs hP hD hS => ?_)
  have hP : va_P D classes [(o, .inr (0, [.ref q0, .ref q1, .ref q2, .null, .null, .int 0, .int 0, .int 0, .null, .null, .int 0, .int 0, .null, .null, .int 0, .int 0])), (q0, .inl (cA, 200, .inl (fun _ => 0))), (q1, .inl (cA, 200, .inl (fun _ => 0))), (q2, .inl (cA, 200, .inl (fun _ => 0)))] H := hP
  have hD : va_D A [(o, .inr (0, [.ref q0, .ref q1, .ref q2, .null, .null, .int 0, .int 0, .int 0, .null, .null, .int 0, .int 0, .null, .null, .int 0, .int 0])), (q0, .inl (cA, 200, .inl (fun _ => 0))), (q1, .inl (cA, 200, .inl (fun _ => 0))), (q2, .inl (cA, 200, .inl (fun _ => 0)))] := hD
  refine lv_aload_n hx hb d_SM_init_31 rfl (lv_at hl 0 rfl) ?_
  refine lv_sipush (v := 200) hx hb d_SM_init_32 (by decide) ?_
  refine va_newa (atype := .int) (n := 200) (N' := 200) (a0 := (200, .inl (fun _ => 0))) (ty := .int) hx hb (hts (.arrayClass .int) ma_int) rfl hK hP hD hS hA (fun cA => arr_i cA 200) (by decide +kernel) (by decide +kernel) (by decide +kernel) (Nat.le_of_ble_eq_true rfl) (Nat.le_of_ble_eq_true rfl) d_SM_init_35 (fun q3 cAx H hK hP hD hS => ?_)
  obtain rfl : cA = cAx := (va_K.one (hK.sub (tys' := [(cA, .int), (cAx, .int)]) [0, 1] rfl)).symm
  have hK : va_K D classes [(cA, .int)] s := hK.sub [0] rfl
  refine W.widen (k := 4) (n := 800) (Nat.le_of_ble_eq_true rfl) (Nat.le_of_ble_eq_true rfl) ?_
  refine va_putF (D := D) (ci := 0) (v := .ref q3) (ty := .array .int) (C := R_SM) (T := F_SM) (N := 16) (ws := [(o, .inr (0, [.ref q0, .ref q1, .ref q2, .null, .null, .int 0, .int 0, .int 0, .null, .null, .int 0, .int 0, .null, .null, .int 0, .int 0])), (q0, .inl (cA, 200, .inl (fun _ => 0))), (q1, .inl (cA, 200, .inl (fun _ => 0))), (q2, .inl (cA, 200, .inl (fun _ => 0))), (q3, .inl (cA, 200, .inl (fun _ => 0)))]) hx hb hts i_SM t_SM t_SM_ok n_SM hown hK hP hD hS 0 rfl rfl 3 (by decide) (hts _ mf_SM_19) (fun _ h9 => h9) rfl hin rfl (by decide +kernel) rfl rfl (Nat.le_of_ble_eq_true rfl) d_SM_init_37 (fun H locs hP hD hS => ?_)
  have hP : va_P D classes [(o, .inr (0, [.ref q0, .ref q1, .ref q2, .ref q3, .null, .int 0, .int 0, .int 0, .null, .null, .int 0, .int 0, .null, .null, .int 0, .int 0])), (q0, .inl (cA, 200, .inl (fun _ => 0))), (q1, .inl (cA, 200, .inl (fun _ => 0))), (q2, .inl (cA, 200, .inl (fun _ => 0))), (q3, .inl (cA, 200, .inl (fun _ => 0)))] H := hP
  have hD : va_D A [(o, .inr (0, [.ref q0, .ref q1, .ref q2, .ref q3, .null, .int 0, .int 0, .int 0, .null, .null, .int 0, .int 0, .null, .null, .int 0, .int 0])), (q0, .inl (cA, 200, .inl (fun _ => 0))), (q1, .inl (cA, 200, .inl (fun _ => 0))), (q2, .inl (cA, 200, .inl (fun _ => 0))), (q3, .inl (cA, 200, .inl (fun _ => 0)))] := hD
  refine lv_aload_n hx hb d_SM_init_40 rfl (lv_at hl 0 rfl) ?_
  refine lv_sipush (v := 200) hx hb d_SM_init_41 (by decide) ?_
  refine va_newa (atype := .int) (n := 200) (N' := 200) (a0 := (200, .inl (fun _ => 0))) (ty := .int) hx hb (hts (.arrayClass .int) ma_int) rfl hK hP hD hS hA (fun cA => arr_i cA 200) (by decide +kernel) (by decide +kernel) (by decide +kernel) (Nat.le_of_ble_eq_true rfl) (Nat.le_of_ble_eq_true rfl) d_SM_init_44 (fun q4 cAx H hK hP hD hS => ?_)
  obtain rfl : cA = cAx := (va_K.one (hK.sub (tys' := [(cA, .int), (cAx, .int)]) [0, 1] rfl)).symm
  have hK : va_K D classes [(cA, .int)] s := hK.sub [0] rfl
  refine W.widen (k := 5) (n := 1000) (Nat.le_of_ble_eq_true rfl) (Nat.le_of_ble_eq_true rfl) ?_
  refine va_putF (D := D) (ci := 0) (v := .ref q4) (ty := .array .int) (C := R_SM) (T := F_SM) (N := 16) (ws := [(o, .inr (0, [.ref q0, .ref q1, .ref q2, .ref q3, .null, .int 0, .int 0, .int 0, .null, .null, .int 0, .int 0, .null, .null, .int 0, .int 0])), (q0, .inl (cA, 200, .inl (fun _ => 0))), (q1, .inl (cA, 200, .inl (fun _ => 0))), (q2, .inl (cA, 200, .inl (fun _ => 0))), (q3, .inl (cA, 200, .inl (fun _ => 0))), (q4, .inl (cA, 200, .inl (fun _ => 0)))]) hx hb hts i_SM t_SM t_SM_ok n_SM hown hK hP hD hS 0 rfl rfl 4 (by decide) (hts _ mf_SM_22) (fun _ h9 => h9) rfl hin rfl (by decide +kernel) rfl rfl (Nat.le_of_ble_eq_true rfl) d_SM_init_46 (fun H locs hP hD hS => ?_)
  have hP : va_P D classes [(o, .inr (0, [.ref q0, .ref q1, .ref q2, .ref q3, .ref q4, .int 0, .int 0, .int 0, .null, .null, .int 0, .int 0, .null, .null, .int 0, .int 0])), (q0, .inl (cA, 200, .inl (fun _ => 0))), (q1, .inl (cA, 200, .inl (fun _ => 0))), (q2, .inl (cA, 200, .inl (fun _ => 0))), (q3, .inl (cA, 200, .inl (fun _ => 0))), (q4, .inl (cA, 200, .inl (fun _ => 0)))] H := hP
  have hD : va_D A [(o, .inr (0, [.ref q0, .ref q1, .ref q2, .ref q3, .ref q4, .int 0, .int 0, .int 0, .null, .null, .int 0, .int 0, .null, .null, .int 0, .int 0])), (q0, .inl (cA, 200, .inl (fun _ => 0))), (q1, .inl (cA, 200, .inl (fun _ => 0))), (q2, .inl (cA, 200, .inl (fun _ => 0))), (q3, .inl (cA, 200, .inl (fun _ => 0))), (q4, .inl (cA, 200, .inl (fun _ => 0)))] := hD
  refine lv_aload_n hx hb d_SM_init_49 rfl (lv_at hl 0 rfl) ?_
  refine lv_sipush (v := 200) hx hb d_SM_init_50 (by decide) ?_
  refine va_put (D := D) (ci := 0) (v := .int 200) (ty := .int) (C := R_SM) (T := F_SM) (N := 16) (ws := [(o, .inr (0, [.ref q0, .ref q1, .ref q2, .ref q3, .ref q4, .int 0, .int 0, .int 0, .null, .null, .int 0, .int 0, .null, .null, .int 0, .int 0])), (q0, .inl (cA, 200, .inl (fun _ => 0))), (q1, .inl (cA, 200, .inl (fun _ => 0))), (q2, .inl (cA, 200, .inl (fun _ => 0))), (q3, .inl (cA, 200, .inl (fun _ => 0))), (q4, .inl (cA, 200, .inl (fun _ => 0)))]) hx hb hts i_SM t_SM t_SM_ok n_SM hown hK hP hD hS 0 rfl rfl 6 (by decide) (hts _ mf_SM_25) (fun _ h9 => h9) rfl (by decide +kernel) rfl rfl (Nat.le_of_ble_eq_true rfl) d_SM_init_53 (fun H locs hP hD hS => ?_)
  have hP : va_P D classes [(o, .inr (0, [.ref q0, .ref q1, .ref q2, .ref q3, .ref q4, .int 0, .int 200, .int 0, .null, .null, .int 0, .int 0, .null, .null, .int 0, .int 0])), (q0, .inl (cA, 200, .inl (fun _ => 0))), (q1, .inl (cA, 200, .inl (fun _ => 0))), (q2, .inl (cA, 200, .inl (fun _ => 0))), (q3, .inl (cA, 200, .inl (fun _ => 0))), (q4, .inl (cA, 200, .inl (fun _ => 0)))] H := hP
  have hD : va_D A [(o, .inr (0, [.ref q0, .ref q1, .ref q2, .ref q3, .ref q4, .int 0, .int 200, .int 0, .null, .null, .int 0, .int 0, .null, .null, .int 0, .int 0])), (q0, .inl (cA, 200, .inl (fun _ => 0))), (q1, .inl (cA, 200, .inl (fun _ => 0))), (q2, .inl (cA, 200, .inl (fun _ => 0))), (q3, .inl (cA, 200, .inl (fun _ => 0))), (q4, .inl (cA, 200, .inl (fun _ => 0)))] := hD
  refine lv_aload_n hx hb d_SM_init_56 rfl (lv_at hl 0 rfl) ?_
  refine lv_bipush (v := 8) hx hb d_SM_init_57 (by decide) ?_
  refine va_newa (atype := .int) (n := 8) (N' := 8) (a0 := (8, .inl (fun _ => 0))) (ty := .int) hx hb (hts (.arrayClass .int) ma_int) rfl hK hP hD hS hA (fun cA => arr_i cA 8) (by decide +kernel) (by decide +kernel) (by decide +kernel) (Nat.le_of_ble_eq_true rfl) (Nat.le_of_ble_eq_true rfl) d_SM_init_59 (fun q5 cAx H hK hP hD hS => ?_)
  obtain rfl : cA = cAx := (va_K.one (hK.sub (tys' := [(cA, .int), (cAx, .int)]) [0, 1] rfl)).symm
  have hK : va_K D classes [(cA, .int)] s := hK.sub [0] rfl
  refine W.widen (k := 6) (n := 1008) (Nat.le_of_ble_eq_true rfl) (Nat.le_of_ble_eq_true rfl) ?_
  refine va_putF (D := D) (ci := 0) (v := .ref q5) (ty := .array .int) (C := R_SM) (T := F_SM) (N := 16) (ws := [(o, .inr (0, [.ref q0, .ref q1, .ref q2, .ref q3, .ref q4, .int 0, .int 200, .int 0, .null, .null, .int 0, .int 0, .null, .null, .int 0, .int 0])), (q0, .inl (cA, 200, .inl (fun _ => 0))), (q1, .inl (cA, 200, .inl (fun _ => 0))), (q2, .inl (cA, 200, .inl (fun _ => 0))), (q3, .inl (cA, 200, .inl (fun _ => 0))), (q4, .inl (cA, 200, .inl (fun _ => 0))), (q5, .inl (cA, 8, .inl (fun _ => 0)))]) hx hb hts i_SM t_SM t_SM_ok n_SM hown hK hP hD hS 0 rfl rfl 8 (by decide) (hts _ mf_SM_29) (fun _ h9 => h9) rfl hin rfl (by decide +kernel) rfl rfl (Nat.le_of_ble_eq_true rfl) d_SM_init_61 (fun H locs hP hD hS => ?_)
  have hP : va_P D classes [(o, .inr (0, [.ref q0, .ref q1, .ref q2, .ref q3, .ref q4, .int 0, .int 200, .int 0, .ref q5, .null, .int 0, .int 0, .null, .null, .int 0, .int 0])), (q0, .inl (cA, 200, .inl (fun _ => 0))), (q1, .inl (cA, 200, .inl (fun _ => 0))), (q2, .inl (cA, 200, .inl (fun _ => 0))), (q3, .inl (cA, 200, .inl (fun _ => 0))), (q4, .inl (cA, 200, .inl (fun _ => 0))), (q5, .inl (cA, 8, .inl (fun _ => 0)))] H := hP
  have hD : va_D A [(o, .inr (0, [.ref q0, .ref q1, .ref q2, .ref q3, .ref q4, .int 0, .int 200, .int 0, .ref q5, .null, .int 0, .int 0, .null, .null, .int 0, .int 0])), (q0, .inl (cA, 200, .inl (fun _ => 0))), (q1, .inl (cA, 200, .inl (fun _ => 0))), (q2, .inl (cA, 200, .inl (fun _ => 0))), (q3, .inl (cA, 200, .inl (fun _ => 0))), (q4, .inl (cA, 200, .inl (fun _ => 0))), (q5, .inl (cA, 8, .inl (fun _ => 0)))] := hD
  refine lv_aload_n hx hb d_SM_init_64 rfl (lv_at hl 0 rfl) ?_
  refine lv_bipush (v := 8) hx hb d_SM_init_65 (by decide) ?_
  refine va_newa (atype := .int) (n := 8) (N' := 8) (a0 := (8, .inl (fun _ => 0))) (ty := .int) hx hb (hts (.arrayClass .int) ma_int) rfl hK hP hD hS hA (fun cA => arr_i cA 8) (by decide +kernel) (by decide +kernel) (by decide +kernel) (Nat.le_of_ble_eq_true rfl) (Nat.le_of_ble_eq_true rfl) d_SM_init_67 (fun q6 cAx H hK hP hD hS => ?_)
  obtain rfl : cA = cAx := (va_K.one (hK.sub (tys' := [(cA, .int), (cAx, .int)]) [0, 1] rfl)).symm
  have hK : va_K D classes [(cA, .int)] s := hK.sub [0] rfl
  refine W.widen (k := 7) (n := 1016) (Nat.le_of_ble_eq_true rfl) (Nat.le_of_ble_eq_true rfl) ?_
  refine va_putF (D := D) (ci := 0) (v := .ref q6) (ty := .array .int) (C := R_SM) (T := F_SM) (N := 16) (ws := [(o, .inr (0, [.ref q0, .ref q1, .ref q2, .ref q3, .ref q4, .int 0, .int 200, .int 0, .ref q5, .null, .int 0, .int 0, .null, .null, .int 0, .int 0])), (q0, .inl (cA, 200, .inl (fun _ => 0))), (q1, .inl (cA, 200, .inl (fun _ => 0))), (q2, .inl (cA, 200, .inl (fun _ => 0))), (q3, .inl (cA, 200, .inl (fun _ => 0))), (q4, .inl (cA, 200, .inl (fun _ => 0))), (q5, .inl (cA, 8, .inl (fun _ => 0))), (q6, .inl (cA, 8, .inl (fun _ => 0)))]) hx hb hts i_SM t_SM t_SM_ok n_SM hown hK hP hD hS 0 rfl rfl 9 (by decide) (hts _ mf_SM_32) (fun _ h9 => h9) rfl hin rfl (by decide +kernel) rfl rfl (Nat.le_of_ble_eq_true rfl) d_SM_init_69 (fun H locs hP hD hS => ?_)
  have hP : va_P D classes [(o, .inr (0, [.ref q0, .ref q1, .ref q2, .ref q3, .ref q4, .int 0, .int 200, .int 0, .ref q5, .ref q6, .int 0, .int 0, .null, .null, .int 0, .int 0])), (q0, .inl (cA, 200, .inl (fun _ => 0))), (q1, .inl (cA, 200, .inl (fun _ => 0))), (q2, .inl (cA, 200, .inl (fun _ => 0))), (q3, .inl (cA, 200, .inl (fun _ => 0))), (q4, .inl (cA, 200, .inl (fun _ => 0))), (q5, .inl (cA, 8, .inl (fun _ => 0))), (q6, .inl (cA, 8, .inl (fun _ => 0)))] H := hP
  have hD : va_D A [(o, .inr (0, [.ref q0, .ref q1, .ref q2, .ref q3, .ref q4, .int 0, .int 200, .int 0, .ref q5, .ref q6, .int 0, .int 0, .null, .null, .int 0, .int 0])), (q0, .inl (cA, 200, .inl (fun _ => 0))), (q1, .inl (cA, 200, .inl (fun _ => 0))), (q2, .inl (cA, 200, .inl (fun _ => 0))), (q3, .inl (cA, 200, .inl (fun _ => 0))), (q4, .inl (cA, 200, .inl (fun _ => 0))), (q5, .inl (cA, 8, .inl (fun _ => 0))), (q6, .inl (cA, 8, .inl (fun _ => 0)))] := hD
  refine lv_aload_n hx hb d_SM_init_72 rfl (lv_at hl 0 rfl) ?_
  refine lv_sipush (v := 200) hx hb d_SM_init_73 (by decide) ?_
  refine va_newa (atype := .int) (n := 200) (N' := 200) (a0 := (200, .inl (fun _ => 0))) (ty := .int) hx hb (hts (.arrayClass .int) ma_int) rfl hK hP hD hS hA (fun cA => arr_i cA 200) (by decide +kernel) (by decide +kernel) (by decide +kernel) (Nat.le_of_ble_eq_true rfl) (Nat.le_of_ble_eq_true rfl) d_SM_init_76 (fun q7 cAx H hK hP hD hS => ?_)
  obtain rfl : cA = cAx := (va_K.one (hK.sub (tys' := [(cA, .int), (cAx, .int)]) [0, 1] rfl)).symm
  have hK : va_K D classes [(cA, .int)] s := hK.sub [0] rfl
  refine W.widen (k := 8) (n := 1216) (Nat.le_of_ble_eq_true rfl) (Nat.le_of_ble_eq_true rfl) ?_
  refine va_putF (D := D) (ci := 0) (v := .ref q7) (ty := .array .int) (C := R_SM) (T := F_SM) (N := 16) (ws := [(o, .inr (0, [.ref q0, .ref q1, .ref q2, .ref q3, .ref q4, .int 0, .int 200, .int 0, .ref q5, .ref q6, .int 0, .int 0, .null, .null, .int 0, .int 0])), (q0, .inl (cA, 200, .inl (fun _ => 0))), (q1, .inl (cA, 200, .inl (fun _ => 0))), (q2, .inl (cA, 200, .inl (fun _ => 0))), (q3, .inl (cA, 200, .inl (fun _ => 0))), (q4, .inl (cA, 200, .inl (fun _ => 0))), (q5, .inl (cA, 8, .inl (fun _ => 0))), (q6, .inl (cA, 8, .inl (fun _ => 0))), (q7, .inl (cA, 200, .inl (fun _ => 0)))]) hx hb hts i_SM t_SM t_SM_ok n_SM hown hK hP hD hS 0 rfl rfl 12 (by decide) (hts _ mf_SM_35) (fun _ h9 => h9) rfl hin rfl (by decide +kernel) rfl rfl (Nat.le_of_ble_eq_true rfl) d_SM_init_78 (fun H locs hP hD hS => ?_)
  have hP : va_P D classes [(o, .inr (0, [.ref q0, .ref q1, .ref q2, .ref q3, .ref q4, .int 0, .int 200, .int 0, .ref q5, .ref q6, .int 0, .int 0, .ref q7, .null, .int 0, .int 0])), (q0, .inl (cA, 200, .inl (fun _ => 0))), (q1, .inl (cA, 200, .inl (fun _ => 0))), (q2, .inl (cA, 200, .inl (fun _ => 0))), (q3, .inl (cA, 200, .inl (fun _ => 0))), (q4, .inl (cA, 200, .inl (fun _ => 0))), (q5, .inl (cA, 8, .inl (fun _ => 0))), (q6, .inl (cA, 8, .inl (fun _ => 0))), (q7, .inl (cA, 200, .inl (fun _ => 0)))] H := hP
  have hD : va_D A [(o, .inr (0, [.ref q0, .ref q1, .ref q2, .ref q3, .ref q4, .int 0, .int 200, .int 0, .ref q5, .ref q6, .int 0, .int 0, .ref q7, .null, .int 0, .int 0])), (q0, .inl (cA, 200, .inl (fun _ => 0))), (q1, .inl (cA, 200, .inl (fun _ => 0))), (q2, .inl (cA, 200, .inl (fun _ => 0))), (q3, .inl (cA, 200, .inl (fun _ => 0))), (q4, .inl (cA, 200, .inl (fun _ => 0))), (q5, .inl (cA, 8, .inl (fun _ => 0))), (q6, .inl (cA, 8, .inl (fun _ => 0))), (q7, .inl (cA, 200, .inl (fun _ => 0)))] := hD
  refine lv_aload_n hx hb d_SM_init_81 rfl (lv_at hl 0 rfl) ?_
  refine lv_sipush (v := 200) hx hb d_SM_init_82 (by decide) ?_
  refine va_newa (atype := .int) (n := 200) (N' := 200) (a0 := (200, .inl (fun _ => 0))) (ty := .int) hx hb (hts (.arrayClass .int) ma_int) rfl hK hP hD hS hA (fun cA => arr_i cA 200) (by decide +kernel) (by decide +kernel) (by decide +kernel) (Nat.le_of_ble_eq_true rfl) (Nat.le_of_ble_eq_true rfl) d_SM_init_85 (fun q8 cAx H hK hP hD hS => ?_)
  obtain rfl : cA = cAx := (va_K.one (hK.sub (tys' := [(cA, .int), (cAx, .int)]) [0, 1] rfl)).symm
  have hK : va_K D classes [(cA, .int)] s := hK.sub [0] rfl
  refine W.widen (k := 9) (n := 1416) (Nat.le_of_ble_eq_true rfl) (Nat.le_of_ble_eq_true rfl) ?_
  refine va_putF (D := D) (ci := 0) (v := .ref q8) (ty := .array .int) (C := R_SM) (T := F_SM) (N := 16) (ws := [(o, .inr (0, [.ref q0, .ref q1, .ref q2, .ref q3, .ref q4, .int 0, .int 200, .int 0, .ref q5, .ref q6, .int 0, .int 0, .ref q7, .null, .int 0, .int 0])), (q0, .inl (cA, 200, .inl (fun _ => 0))), (q1, .inl (cA, 200, .inl (fun _ => 0))), (q2, .inl (cA, 200, .inl (fun _ => 0))), (q3, .inl (cA, 200, .inl (fun _ => 0))), (q4, .inl (cA, 200, .inl (fun _ => 0))), (q5, .inl (cA, 8, .inl (fun _ => 0))), (q6, .inl (cA, 8, .inl (fun _ => 0))), (q7, .inl (cA, 200, .inl (fun _ => 0))), (q8, .inl (cA, 200, .inl (fun _ => 0)))]) hx hb hts i_SM t_SM t_SM_ok n_SM hown hK hP hD hS 0 rfl rfl 13 (by decide) (hts _ mf_SM_38) (fun _ h9 => h9) rfl hin rfl (by decide +kernel) rfl rfl (Nat.le_of_ble_eq_true rfl) d_SM_init_87 (fun H locs hP hD hS => ?_)
  have hP : va_P D classes [(o, .inr (0, [.ref q0, .ref q1, .ref q2, .ref q3, .ref q4, .int 0, .int 200, .int 0, .ref q5, .ref q6, .int 0, .int 0, .ref q7, .ref q8, .int 0, .int 0])), (q0, .inl (cA, 200, .inl (fun _ => 0))), (q1, .inl (cA, 200, .inl (fun _ => 0))), (q2, .inl (cA, 200, .inl (fun _ => 0))), (q3, .inl (cA, 200, .inl (fun _ => 0))), (q4, .inl (cA, 200, .inl (fun _ => 0))), (q5, .inl (cA, 8, .inl (fun _ => 0))), (q6, .inl (cA, 8, .inl (fun _ => 0))), (q7, .inl (cA, 200, .inl (fun _ => 0))), (q8, .inl (cA, 200, .inl (fun _ => 0)))] H := hP
  have hD : va_D A [(o, .inr (0, [.ref q0, .ref q1, .ref q2, .ref q3, .ref q4, .int 0, .int 200, .int 0, .ref q5, .ref q6, .int 0, .int 0, .ref q7, .ref q8, .int 0, .int 0])), (q0, .inl (cA, 200, .inl (fun _ => 0))), (q1, .inl (cA, 200, .inl (fun _ => 0))), (q2, .inl (cA, 200, .inl (fun _ => 0))), (q3, .inl (cA, 200, .inl (fun _ => 0))), (q4, .inl (cA, 200, .inl (fun _ => 0))), (q5, .inl (cA, 8, .inl (fun _ => 0))), (q6, .inl (cA, 8, .inl (fun _ => 0))), (q7, .inl (cA, 200, .inl (fun _ => 0))), (q8, .inl (cA, 200, .inl (fun _ => 0)))] := hD
  refine lv_iconst (v := 0) hx hb d_SM_init_90 (by decide) ?_
  refine lv_istore_n (lv' := [(1, .int 0), (0, .ref o)]) hx hb d_SM_init_91 rfl hl (by decide) rfl (fun ls hl => ?_)
  have X : sk_X p m c b_SM_init 2 s #[Value.ref o] R_SM D cA A := ⟨⟨hx, hb, hml, hown, hts⟩, hK, hA⟩
  refine v_SM_init_92 (q := nine q0 q1 q2 q3 q4 q5 q6 q7 q8) X _ hf ⟨hP, hD, hS⟩ (lv_sub hl [1, 0] rfl) (fun H locs ls hH => ?_)
  exact W.vret hx hb hr (fun t ht hW => ⟨⟨(nine q0 q1 q2 q3 q4 q5 q6 q7 q8, cA), rfl, trivial, ⟨by rw [ht]; exact hH.1, hH.2.1⟩, va_K.moved hW.alike hK⟩, hH.2.2.F ht⟩) hH.2.2.2.2 d_SM_init_127
set_option maxHeartbeats 8000000 in
set_option maxRecDepth 100000 in
theorem c_MD_init {l : Launch} {D : va_G} {o sz : Nat} : Met l y_MD_init w_MD_init rm_MD_init (va_Pc [.ref o] (fun U => U.heap.size = sz ∧ va_P D classes [(o, .inr (1, [.int 0, .int 0, .null, .null, .null]))] U.heap ∧ va_K D classes [] U ∧ va_D (fun _ => True) [(o, .inr (1, [.int 0, .int 0, .null, .null, .null]))])) (va_Qv (fun (x : (Nat → Nat) × ClassId × ClassId) => True) (fun x t => md_Pst D o x.1 x.2.1 x.2.2 (va_A [(o, .inr (1, [.int 0, .int 0, .null, .null, .null]))] sz) md_z0 t ∧ va_K D classes [(x.2.1, .int), (x.2.2, .boolean)] t) (va_A [(o, .inr (1, [.int 0, .int 0, .null, .null, .null]))] sz)) 3 600 (va_A [(o, .inr (1, [.int 0, .int 0, .null, .null, .null]))] sz) := by
  refine Met.ofW (cc := b_MD_init) (maxL := 1) (ret := none) (by decide) rfl ?_
  intro p e s m args below meth c s₁ B hml hv
  obtain ⟨rfl, hsz, hP, hK, hD0⟩ := hv
  change W p l e rm_MD_init s m _ below meth c s.heap [] 0 0 _ _
  have hx := B.exec
  have hb := B.bytes
  have hr := B.returns
  have hts0 := atoms_spec (ws := w_MD_init) B.pre
  have hts : ∀ w ∈ lw_big, w.before #[Value.ref o] s = true := fun w hw => hts0 w (List.mem_cons_of_mem _ hw)
  have hown : s.vm.findClass R_MD = some m.cls := findClass_of_methodNamed B.named
  have hlocks := B.notSynchronized
  have hin : meth.name = "<init>" := (name_of_methodNamed B.named B.method).1
  subst hsz
  have hD := hD0.self (sz := s.heap.size)
  generalize hAe : va_A [(o, .inr (1, [.int 0, .int 0, .null, .null, .null]))] s.heap.size = A at hD ⊢
  have hA : ∀ q : Nat, s.heap.size ≤ q → A q := fun q h => by rw [← hAe]; exact Or.inr h
  have hS : va_S A s.heap s.heap [] := va_S.rf
  have hl := lv_entry ([.ref o]) (n := 1) (Nat.le_of_ble_eq_true rfl)
  rw [lg_entry_eq]
  generalize (lg_sl ([.ref o]) ++ List.replicate (1 - (lg_sl ([.ref o])).length) Slot.unset).toArray = ls at hl ⊢
  have hl : lv_has ls 1 [(0, .ref o)] := hl
  refine lv_aload_n hx hb d_MD_init_0 rfl (lv_at hl 0 rfl) ?_
  refine W.objInit hx hb hown (hts (.methodLink R_MD 1 objectInit) ml_MD_1) (hts (.instanceMethod objectInit) mm_objectInit) (hts _ mb_objectInit) rfl (by rw [hml]; exact hl.1) rfl d_MD_init_1 (Nat.le_of_ble_eq_true rfl) (Nat.le_of_ble_eq_true rfl) ?_
  refine W.eq (g2 := F0 m 4 ls []) rfl ?_
  refine lv_aload_n hx hb d_MD_init_4 rfl (lv_at hl 0 rfl) ?_
  refine lv_sipush (v := 200) hx hb d_MD_init_5 (by decide) ?_
  refine va_newa (atype := .int) (n := 200) (N' := 200) (a0 := (200, .inl (fun _ => 0))) (ty := .int) hx hb (hts (.arrayClass .int) ma_int) rfl hK hP hD hS hA (fun cA => arr_i cA 200) (by decide +kernel) (by decide +kernel) (by decide +kernel) (Nat.le_of_ble_eq_true rfl) (Nat.le_of_ble_eq_true rfl) d_MD_init_8 (fun q0 cA H hK hP hD hS => ?_)
  have hK : va_K D classes [(cA, .int)] s := hK
  refine W.widen (k := 1) (n := 200) (Nat.le_of_ble_eq_true rfl) (Nat.le_of_ble_eq_true rfl) ?_
  refine va_putF (D := D) (ci := 1) (v := .ref q0) (ty := .array .int) (C := R_MD) (T := F_MD) (N := 5) (ws := [(o, .inr (1, [.int 0, .int 0, .null, .null, .null])), (q0, .inl (cA, 200, .inl (fun _ => 0)))]) hx hb hts i_MD t_MD t_MD_ok n_MD hown hK hP hD hS 0 rfl rfl 2 (by decide) (hts _ mf_MD_7) (fun _ h9 => h9) rfl hin rfl (by decide +kernel) rfl rfl (Nat.le_of_ble_eq_true rfl) d_MD_init_10 (fun H locs hP hD hS => ?_)
  have hP : va_P D classes [(o, .inr (1, [.int 0, .int 0, .ref q0, .null, .null])), (q0, .inl (cA, 200, .inl (fun _ => 0)))] H := hP
  have hD : va_D A [(o, .inr (1, [.int 0, .int 0, .ref q0, .null, .null])), (q0, .inl (cA, 200, .inl (fun _ => 0)))] := hD
  refine lv_aload_n hx hb d_MD_init_13 rfl (lv_at hl 0 rfl) ?_
  refine lv_sipush (v := 200) hx hb d_MD_init_14 (by decide) ?_
  refine va_newa (atype := .int) (n := 200) (N' := 200) (a0 := (200, .inl (fun _ => 0))) (ty := .int) hx hb (hts (.arrayClass .int) ma_int) rfl hK hP hD hS hA (fun cA => arr_i cA 200) (by decide +kernel) (by decide +kernel) (by decide +kernel) (Nat.le_of_ble_eq_true rfl) (Nat.le_of_ble_eq_true rfl) d_MD_init_17 (fun q1 cAx H hK hP hD hS => ?_)
  obtain rfl : cA = cAx := (va_K.one (hK.sub (tys' := [(cA, .int), (cAx, .int)]) [0, 1] rfl)).symm
  have hK : va_K D classes [(cA, .int)] s := hK.sub [0] rfl
  refine W.widen (k := 2) (n := 400) (Nat.le_of_ble_eq_true rfl) (Nat.le_of_ble_eq_true rfl) ?_
  refine va_putF (D := D) (ci := 1) (v := .ref q1) (ty := .array .int) (C := R_MD) (T := F_MD) (N := 5) (ws := [(o, .inr (1, [.int 0, .int 0, .ref q0, .null, .null])), (q0, .inl (cA, 200, .inl (fun _ => 0))), (q1, .inl (cA, 200, .inl (fun _ => 0)))]) hx hb hts i_MD t_MD t_MD_ok n_MD hown hK hP hD hS 0 rfl rfl 3 (by decide) (hts _ mf_MD_13) (fun _ h9 => h9) rfl hin rfl (by decide +kernel) rfl rfl (Nat.le_of_ble_eq_true rfl) d_MD_init_19 (fun H locs hP hD hS => ?_)
  have hP : va_P D classes [(o, .inr (1, [.int 0, .int 0, .ref q0, .ref q1, .null])), (q0, .inl (cA, 200, .inl (fun _ => 0))), (q1, .inl (cA, 200, .inl (fun _ => 0)))] H := hP
  have hD : va_D A [(o, .inr (1, [.int 0, .int 0, .ref q0, .ref q1, .null])), (q0, .inl (cA, 200, .inl (fun _ => 0))), (q1, .inl (cA, 200, .inl (fun _ => 0)))] := hD
  refine lv_aload_n hx hb d_MD_init_22 rfl (lv_at hl 0 rfl) ?_
  refine lv_sipush (v := 200) hx hb d_MD_init_23 (by decide) ?_
  refine va_newa (atype := .boolean) (n := 200) (N' := 200) (a0 := (200, .inl (fun _ => 0))) (ty := .boolean) hx hb (hts (.arrayClass .boolean) ma_boolean) rfl hK hP hD hS hA (fun cA => arr_z cA 200) (by decide +kernel) (by decide +kernel) (by decide +kernel) (Nat.le_of_ble_eq_true rfl) (Nat.le_of_ble_eq_true rfl) d_MD_init_26 (fun q2 cB H hK hP hD hS => ?_)
  have hK : va_K D classes [(cA, .int), (cB, .boolean)] s := hK
  refine W.widen (k := 3) (n := 600) (Nat.le_of_ble_eq_true rfl) (Nat.le_of_ble_eq_true rfl) ?_
  refine va_putF (D := D) (ci := 1) (v := .ref q2) (ty := .array .boolean) (C := R_MD) (T := F_MD) (N := 5) (ws := [(o, .inr (1, [.int 0, .int 0, .ref q0, .ref q1, .null])), (q0, .inl (cA, 200, .inl (fun _ => 0))), (q1, .inl (cA, 200, .inl (fun _ => 0))), (q2, .inl (cB, 200, .inl (fun _ => 0)))]) hx hb hts i_MD t_MD t_MD_ok n_MD hown hK hP hD hS 0 rfl rfl 4 (by decide) (hts _ mf_MD_16) (fun _ h9 => h9) rfl hin rfl (by decide +kernel) rfl rfl (Nat.le_of_ble_eq_true rfl) d_MD_init_28 (fun H locs hP hD hS => ?_)
  have hP : va_P D classes [(o, .inr (1, [.int 0, .int 0, .ref q0, .ref q1, .ref q2])), (q0, .inl (cA, 200, .inl (fun _ => 0))), (q1, .inl (cA, 200, .inl (fun _ => 0))), (q2, .inl (cB, 200, .inl (fun _ => 0)))] H := hP
  have hD : va_D A [(o, .inr (1, [.int 0, .int 0, .ref q0, .ref q1, .ref q2])), (q0, .inl (cA, 200, .inl (fun _ => 0))), (q1, .inl (cA, 200, .inl (fun _ => 0))), (q2, .inl (cB, 200, .inl (fun _ => 0)))] := hD
  exact W.vret hx hb hr (fun t ht hW => ⟨⟨(three q0 q1 q2, cA, cB), rfl, trivial, ⟨by rw [ht]; exact hP, hD⟩, va_K.moved hW.alike hK⟩, hS.F ht⟩) hS.2.2 d_MD_init_31
end
section
/-! THE CLAIM OUT OF ONE WALK OF THE LAW'S BODY. Your part is whole_start (and what it stands on); all else here is the same for every law, but numbers. -/
def lw_P (b : Addr) (xs : List Int32) (args : Array Value) (s : State) : Prop := args = #[.ref b] ∧ s.IntsAt b xs ∧ xs.length ≤ 1536 ∧ (Jvm.Cond.and given_1 narrow_1).before args s = true
def lw_Q (_ : Array Value) (s : State) (o : Outcome) (t : State) : Prop := o = .returned (some (.int 1)) ∧ Framed s o t [] 14 2037
def lw_Z (below : List Frame) (a : Array Value) (s : State) : State → Prop := fun t => ∃ o, t.status = .running ∧ Ended t below o ∧ lw_Q a s o t
/-- the law's own end, with 1 on the stack, nothing written that was there before, its room as the claim has it -/
theorem lw_ret {p : Program} {l : Launch} {e : Env} {s : State} {m : MethodId} {below : List Frame} {meth : Method} {c : Code} {b : Nat} (hx : p.tables.exec = Jvm.exec) (hb : c.code = code) (hr : meth.sig.returnType = ret) (hlocks : meth.locks = false) {pc : Nat} {H : Heap} {ls : Array Slot} (hdg : decode code pc = .ok (.ireturn, 1)) : W p l e room_1 s m #[Value.ref b] below meth c H [] 14 2037 (lw_Z below #[Value.ref b] s) (F0 m pc ls [.int 1]) := by
  intro T hT X
  obtain ⟨fs, hret, hrun, hended, hW, hframe⟩ := X.leave (v := some (.int 1)) (hlocks := hlocks) (fun h => by rw [hr] at h; cases h)
  have hmeth' : T.vm.method? m = some meth := X.method'
  refine ⟨T.setFrames fs, ?_, .returned (some (.int 1)), hrun, hended, rfl, ⟨_, rfl⟩, hW, hframe⟩
  jvm_step X.here [X.here.top, hx, hb, hdg, hmeth', hr, ret, narrow_b1]
  (try refine ⟨rfl, ?_⟩); (try refine ⟨rfl, ?_⟩)
  first | (intro acts; rw [hret _ acts rfl rfl rfl]) | rw [hret _ _ rfl rfl rfl]
  exact Steps.refl _
/-- what holds at the law's entry: the machine, the code, the tables' words (any of lw_tbl by 'hts w (by decide +kernel)'), the script of L ints xs at the cell b, what the Statement gives of the start (any of its parts by flat_of_before) -/
def lw_At (p : Program) (s : State) (m : MethodId) (meth : Method) (c : Code) (b L : Nat) (xs : Nat → Int32) : Prop :=
  p.tables.exec = Jvm.exec ∧ c.code = code ∧ meth.sig.returnType = ret ∧ c.maxLocals = 4 ∧ s.vm.findClass R_law = some m.cls ∧ (∀ w ∈ lw_tbl, w.before #[Value.ref b] s = true) ∧ va_X b L xs s s.heap ∧ b < s.heap.size ∧ meth.locks = false ∧ (Jvm.Cond.and given_1 narrow_1).before #[Value.ref b] s = true
/-! both worlds side by side -/
def lw_H (D : va_G) (A : Nat → Prop) (H0 H : Heap) (locs : List Loc) (o : Nat) (q : Nat → Nat) (cA : ClassId) (o2 : Nat) (q2 : Nat → Nat) (c2 cB : ClassId) (u v : sk_T) : Prop := va_P D classes (sk_ws o q cA u ++ md_ws o2 q2 c2 cB v) H ∧ va_D A (sk_ws o q cA u ++ md_ws o2 q2 c2 cB v) ∧ va_S A H0 H locs
def lw_X (p : Program) (m : MethodId) (c : Code) (s : State) (args : Array Value) (D : va_G) (cA c2 cB : ClassId) (A : Nat → Prop) : Prop := CallFix p m c code 4 s args lw_big R_law ∧ va_K D classes [(cA, .int)] s ∧ va_K D classes [(c2, .int), (cB, .boolean)] s ∧ ∀ x, s.heap.size ≤ x → A x
section LWR
variable {p : Program} {l : Launch} {e : Env} {R : Room} {s : State} {m : MethodId} {args : Array Value} {below : List Frame} {meth : Method} {c : Code} {H : Heap} {locs : List Loc} {cells slots : Nat} {Q : State → Prop}
variable {pc : Nat} {ls : Array Slot} {rest st : List Value} {D : va_G} {A : Nat → Prop} {o o2 : Nat} {q q2 : Nat → Nat} {cA c2 cB : ClassId} {u u' v v' : sk_T}
variable {y : MethodName} {ws : List Cond} {rm : Room} {As : List Value} {idx maxL n : Nat} {bytes : ByteArray} {ret : Option FieldType}
theorem lw_calli1 (X : lw_X p m c s args D cA c2 cB A) (hH : lw_H D A s.heap H locs o q cA o2 q2 c2 cB u v) {r : Int32} (hM : sk_Mi l y ws rm D o q cA (.ref o :: As) u r u') (cw : CallW R s args R_law R_SM idx y bytes maxL ret ws rm 0 0 n) (hn : As.length = n) (hsz : ls.size = 4) (hst : st = As.reverse ++ .ref o :: rest) (hcat : (rest.map fun v => v.category).sum ≤ 8) (hdg : decode code pc = .ok (.invokevirtual idx, 3)) (hcs : cells ≤ R.cells ∧ slots ≤ R.slots)
    (kk : ∀ (H1 : Heap) (locs1 : List Loc), lw_H D A s.heap H1 locs1 o q cA o2 q2 c2 cB u' v → W p l e R s m args below meth c H1 locs1 cells slots Q (F0 m (pc + 3) ls (.int r :: rest))) : W p l e R s m args below meth c H locs cells slots Q (F0 m pc ls st) := by
  subst hst
  obtain ⟨hP, hD, hS⟩ := hH
  have hPc := hP.sub (ws' := sk_ws o q cA u) [0, 1, 2, 3, 4, 5, 6, 7, 8, 9] rfl
  have hDc := hD.sub (ws' := sk_ws o q cA u) [0, 1, 2, 3, 4, 5, 6, 7, 8, 9] (by decide) rfl
  have hF := va_free (wc := sk_ws o q cA u) hD hS X.2.2.2 [0, 1, 2, 3, 4, 5, 6, 7, 8, 9] rfl
  refine va_calli (va_runV (As := As) (rest := rest) X.1 (hM H.size) cw ⟨sk_blind, va_recv X.2.1 hPc (ci := 0) (q0 := 0) rfl rfl, fun U hU hW => ⟨rfl, by rw [hU], by rw [hU]; exact hPc, va_K.moved hW.alike X.2.1, hDc.weaken (fun _ _ _ _ => trivial)⟩⟩ rfl hn hsz rfl (lv_room hcat) hdg hcs) hS (fun x _ hx => hF x hx) hF (fun r1 u1 t H1 locs1 ht hvm hw hB hz1 hk1 hS1 => ?_)
  obtain ⟨rfl, rfl⟩ := hw
  obtain ⟨hP1, hD1⟩ := hB
  rw [ht] at hP1
  obtain ⟨hP, hD⟩ := va_join (wr := md_ws o2 q2 c2 cB v) (w1 := sk_ws o q cA u1) hP hD [0, 1, 2, 3, 4, 5, 6, 7, 8, 9] [10, 11, 12, 13] rfl rfl (by decide) (by decide) hk1 hF hP1 hD1
  exact kk H1 locs1 ⟨hP.sub (ws' := sk_ws o q cA u1 ++ md_ws o2 q2 c2 cB v) [4, 5, 6, 7, 8, 9, 10, 11, 12, 13, 0, 1, 2, 3] rfl, hD.sub (ws' := sk_ws o q cA u1 ++ md_ws o2 q2 c2 cB v) [4, 5, 6, 7, 8, 9, 10, 11, 12, 13, 0, 1, 2, 3] (by decide) rfl, hS1⟩
theorem lw_calli2 (X : lw_X p m c s args D cA c2 cB A) (hH : lw_H D A s.heap H locs o q cA o2 q2 c2 cB u v) {r : Int32} (hM : md_Mi l y ws rm D o2 q2 c2 cB (.ref o2 :: As) v r v') (cw : CallW R s args R_law R_MD idx y bytes maxL ret ws rm 0 0 n) (hn : As.length = n) (hsz : ls.size = 4) (hst : st = As.reverse ++ .ref o2 :: rest) (hcat : (rest.map fun v => v.category).sum ≤ 8) (hdg : decode code pc = .ok (.invokevirtual idx, 3)) (hcs : cells ≤ R.cells ∧ slots ≤ R.slots)
    (kk : ∀ (H1 : Heap) (locs1 : List Loc), lw_H D A s.heap H1 locs1 o q cA o2 q2 c2 cB u v' → W p l e R s m args below meth c H1 locs1 cells slots Q (F0 m (pc + 3) ls (.int r :: rest))) : W p l e R s m args below meth c H locs cells slots Q (F0 m pc ls st) := by
  subst hst
  obtain ⟨hP, hD, hS⟩ := hH
  have hPc := hP.sub (ws' := md_ws o2 q2 c2 cB v) [10, 11, 12, 13] rfl
  have hDc := hD.sub (ws' := md_ws o2 q2 c2 cB v) [10, 11, 12, 13] (by decide) rfl
  have hF := va_free (wc := md_ws o2 q2 c2 cB v) hD hS X.2.2.2 [10, 11, 12, 13] rfl
  refine va_calli (va_runV (As := As) (rest := rest) X.1 (hM H.size) cw ⟨md_blind, va_recv X.2.2.1 hPc (ci := 1) (q0 := 0) rfl rfl, fun U hU hW => ⟨rfl, by rw [hU], by rw [hU]; exact hPc, va_K.moved hW.alike X.2.2.1, hDc.weaken (fun _ _ _ _ => trivial)⟩⟩ rfl hn hsz rfl (lv_room hcat) hdg hcs) hS (fun x _ hx => hF x hx) hF (fun r1 u1 t H1 locs1 ht hvm hw hB hz1 hk1 hS1 => ?_)
  obtain ⟨rfl, rfl⟩ := hw
  obtain ⟨hP1, hD1⟩ := hB
  rw [ht] at hP1
  obtain ⟨hP, hD⟩ := va_join (wr := sk_ws o q cA u) (w1 := md_ws o2 q2 c2 cB u1) hP hD [10, 11, 12, 13] [0, 1, 2, 3, 4, 5, 6, 7, 8, 9] rfl rfl (by decide) (by decide) hk1 hF hP1 hD1
  exact kk H1 locs1 ⟨hP, hD, hS1⟩
theorem lw_calll1 (X : lw_X p m c s args D cA c2 cB A) (hH : lw_H D A s.heap H locs o q cA o2 q2 c2 cB u v) {r : Int64} (hM : sk_Ml l y ws rm D o q cA (.ref o :: As) u r u') (cw : CallW R s args R_law R_SM idx y bytes maxL ret ws rm 0 0 n) (hn : As.length = n) (hsz : ls.size = 4) (hst : st = As.reverse ++ .ref o :: rest) (hcat : (rest.map fun v => v.category).sum ≤ 8) (hdg : decode code pc = .ok (.invokevirtual idx, 3)) (hcs : cells ≤ R.cells ∧ slots ≤ R.slots)
    (kk : ∀ (H1 : Heap) (locs1 : List Loc), lw_H D A s.heap H1 locs1 o q cA o2 q2 c2 cB u' v → W p l e R s m args below meth c H1 locs1 cells slots Q (F0 m (pc + 3) ls (.long r :: rest))) : W p l e R s m args below meth c H locs cells slots Q (F0 m pc ls st) := by
  subst hst
  obtain ⟨hP, hD, hS⟩ := hH
  have hPc := hP.sub (ws' := sk_ws o q cA u) [0, 1, 2, 3, 4, 5, 6, 7, 8, 9] rfl
  have hDc := hD.sub (ws' := sk_ws o q cA u) [0, 1, 2, 3, 4, 5, 6, 7, 8, 9] (by decide) rfl
  have hF := va_free (wc := sk_ws o q cA u) hD hS X.2.2.2 [0, 1, 2, 3, 4, 5, 6, 7, 8, 9] rfl
  refine va_calll (va_runV (As := As) (rest := rest) X.1 (hM H.size) cw ⟨sk_blind, va_recv X.2.1 hPc (ci := 0) (q0 := 0) rfl rfl, fun U hU hW => ⟨rfl, by rw [hU], by rw [hU]; exact hPc, va_K.moved hW.alike X.2.1, hDc.weaken (fun _ _ _ _ => trivial)⟩⟩ rfl hn hsz rfl (lv_room hcat) hdg hcs) hS (fun x _ hx => hF x hx) hF (fun r1 u1 t H1 locs1 ht hvm hw hB hz1 hk1 hS1 => ?_)
  obtain ⟨rfl, rfl⟩ := hw
  obtain ⟨hP1, hD1⟩ := hB
  rw [ht] at hP1
  obtain ⟨hP, hD⟩ := va_join (wr := md_ws o2 q2 c2 cB v) (w1 := sk_ws o q cA u1) hP hD [0, 1, 2, 3, 4, 5, 6, 7, 8, 9] [10, 11, 12, 13] rfl rfl (by decide) (by decide) hk1 hF hP1 hD1
  exact kk H1 locs1 ⟨hP.sub (ws' := sk_ws o q cA u1 ++ md_ws o2 q2 c2 cB v) [4, 5, 6, 7, 8, 9, 10, 11, 12, 13, 0, 1, 2, 3] rfl, hD.sub (ws' := sk_ws o q cA u1 ++ md_ws o2 q2 c2 cB v) [4, 5, 6, 7, 8, 9, 10, 11, 12, 13, 0, 1, 2, 3] (by decide) rfl, hS1⟩
theorem lw_calll2 (X : lw_X p m c s args D cA c2 cB A) (hH : lw_H D A s.heap H locs o q cA o2 q2 c2 cB u v) {r : Int64} (hM : md_Ml l y ws rm D o2 q2 c2 cB (.ref o2 :: As) v r v') (cw : CallW R s args R_law R_MD idx y bytes maxL ret ws rm 0 0 n) (hn : As.length = n) (hsz : ls.size = 4) (hst : st = As.reverse ++ .ref o2 :: rest) (hcat : (rest.map fun v => v.category).sum ≤ 8) (hdg : decode code pc = .ok (.invokevirtual idx, 3)) (hcs : cells ≤ R.cells ∧ slots ≤ R.slots)
    (kk : ∀ (H1 : Heap) (locs1 : List Loc), lw_H D A s.heap H1 locs1 o q cA o2 q2 c2 cB u v' → W p l e R s m args below meth c H1 locs1 cells slots Q (F0 m (pc + 3) ls (.long r :: rest))) : W p l e R s m args below meth c H locs cells slots Q (F0 m pc ls st) := by
  subst hst
  obtain ⟨hP, hD, hS⟩ := hH
  have hPc := hP.sub (ws' := md_ws o2 q2 c2 cB v) [10, 11, 12, 13] rfl
  have hDc := hD.sub (ws' := md_ws o2 q2 c2 cB v) [10, 11, 12, 13] (by decide) rfl
  have hF := va_free (wc := md_ws o2 q2 c2 cB v) hD hS X.2.2.2 [10, 11, 12, 13] rfl
  refine va_calll (va_runV (As := As) (rest := rest) X.1 (hM H.size) cw ⟨md_blind, va_recv X.2.2.1 hPc (ci := 1) (q0 := 0) rfl rfl, fun U hU hW => ⟨rfl, by rw [hU], by rw [hU]; exact hPc, va_K.moved hW.alike X.2.2.1, hDc.weaken (fun _ _ _ _ => trivial)⟩⟩ rfl hn hsz rfl (lv_room hcat) hdg hcs) hS (fun x _ hx => hF x hx) hF (fun r1 u1 t H1 locs1 ht hvm hw hB hz1 hk1 hS1 => ?_)
  obtain ⟨rfl, rfl⟩ := hw
  obtain ⟨hP1, hD1⟩ := hB
  rw [ht] at hP1
  obtain ⟨hP, hD⟩ := va_join (wr := sk_ws o q cA u) (w1 := md_ws o2 q2 c2 cB u1) hP hD [10, 11, 12, 13] [0, 1, 2, 3, 4, 5, 6, 7, 8, 9] rfl rfl (by decide) (by decide) hk1 hF hP1 hD1
  exact kk H1 locs1 ⟨hP, hD, hS1⟩
end LWR
theorem kl_SM_heap {R : Room} {s : State} {args : Array Value} (ht : ∀ w ∈ lw_big, w.before args s = true) (hR : rm_SM_heap.frames + 1 ≤ R.frames ∧ 8 + (1 + 11) + rm_SM_heap.locals ≤ R.locals) : CallW R s args R_law R_SM 13 y_SM_heap b_SM_heap 1 (some .int) w_SM_heap rm_SM_heap 0 0 0 := cwV 0 ht g_law_SM_heap e_SM_heap rfl rfl (by decide +kernel) hR
theorem kl_SM_add {R : Room} {s : State} {args : Array Value} (ht : ∀ w ∈ lw_big, w.before args s = true) (hR : rm_SM_add.frames + 1 ≤ R.frames ∧ 8 + (4 + 11) + rm_SM_add.locals ≤ R.locals) : CallW R s args R_law R_SM 18 y_SM_add b_SM_add 4 (some .int) w_SM_add rm_SM_add 0 0 2 := cwV 2 ht g_law_SM_add e_SM_add rfl rfl (by decide +kernel) hR
theorem kl_SM_least {R : Room} {s : State} {args : Array Value} (ht : ∀ w ∈ lw_big, w.before args s = true) (hR : rm_SM_least.frames + 1 ≤ R.frames ∧ 8 + (2 + 11) + rm_SM_least.locals ≤ R.locals) : CallW R s args R_law R_SM 23 y_SM_least b_SM_least 2 (some .long) w_SM_least rm_SM_least 0 0 1 := cwV 1 ht g_law_SM_least e_SM_least rfl rfl (by decide +kernel) hR
theorem kl_SM_take {R : Room} {s : State} {args : Array Value} (ht : ∀ w ∈ lw_big, w.before args s = true) (hR : rm_SM_take.frames + 1 ≤ R.frames ∧ 8 + (7 + 11) + rm_SM_take.locals ≤ R.locals) : CallW R s args R_law R_SM 28 y_SM_take b_SM_take 7 (some .long) w_SM_take rm_SM_take 0 0 1 := cwV 1 ht g_law_SM_take e_SM_take rfl rfl (by decide +kernel) hR
theorem kl_SM_meld {R : Room} {s : State} {args : Array Value} (ht : ∀ w ∈ lw_big, w.before args s = true) (hR : rm_SM_meld.frames + 1 ≤ R.frames ∧ 8 + (4 + 11) + rm_SM_meld.locals ≤ R.locals) : CallW R s args R_law R_SM 32 y_SM_meld b_SM_meld 4 (some .int) w_SM_meld rm_SM_meld 0 0 2 := cwV 2 ht g_law_SM_meld e_SM_meld rfl rfl (by decide +kernel) hR
theorem kl_SM_size {R : Room} {s : State} {args : Array Value} (ht : ∀ w ∈ lw_big, w.before args s = true) (hR : rm_SM_size.frames + 1 ≤ R.frames ∧ 8 + (2 + 11) + rm_SM_size.locals ≤ R.locals) : CallW R s args R_law R_SM 36 y_SM_size b_SM_size 2 (some .int) w_SM_size rm_SM_size 0 0 1 := cwV 1 ht g_law_SM_size e_SM_size rfl rfl (by decide +kernel) hR
theorem kl_SM_key {R : Room} {s : State} {args : Array Value} (ht : ∀ w ∈ lw_big, w.before args s = true) (hR : rm_SM_key.frames + 1 ≤ R.frames ∧ 8 + (3 + 11) + rm_SM_key.locals ≤ R.locals) : CallW R s args R_law R_SM 41 y_SM_key b_SM_key 3 (some .long) w_SM_key rm_SM_key 0 0 2 := cwV 2 ht g_law_SM_key e_SM_key rfl rfl (by decide +kernel) hR
theorem kl_SM_sum {R : Room} {s : State} {args : Array Value} (ht : ∀ w ∈ lw_big, w.before args s = true) (hR : rm_SM_sum.frames + 1 ≤ R.frames ∧ 8 + (5 + 11) + rm_SM_sum.locals ≤ R.locals) : CallW R s args R_law R_SM 46 y_SM_sum b_SM_sum 5 (some .long) w_SM_sum rm_SM_sum 0 0 1 := cwV 1 ht g_law_SM_sum e_SM_sum rfl rfl (by decide +kernel) hR
theorem kl_SM_free {R : Room} {s : State} {args : Array Value} (ht : ∀ w ∈ lw_big, w.before args s = true) (hR : rm_SM_free.frames + 1 ≤ R.frames ∧ 8 + (1 + 11) + rm_SM_free.locals ≤ R.locals) : CallW R s args R_law R_SM 50 y_SM_free b_SM_free 1 (some .int) w_SM_free rm_SM_free 0 0 0 := cwV 0 ht g_law_SM_free e_SM_free rfl rfl (by decide +kernel) hR
theorem kl_SM_few {R : Room} {s : State} {args : Array Value} (ht : ∀ w ∈ lw_big, w.before args s = true) (hR : rm_SM_few.frames + 1 ≤ R.frames ∧ 8 + (1 + 11) + rm_SM_few.locals ≤ R.locals) : CallW R s args R_law R_SM 54 y_SM_few b_SM_few 1 (some .boolean) w_SM_few rm_SM_few 0 0 0 := cwV 0 ht g_law_SM_few e_SM_few rfl rfl (by decide +kernel) hR
theorem kl_MD_heap {R : Room} {s : State} {args : Array Value} (ht : ∀ w ∈ lw_big, w.before args s = true) (hR : rm_MD_heap.frames + 1 ≤ R.frames ∧ 8 + (1 + 11) + rm_MD_heap.locals ≤ R.locals) : CallW R s args R_law R_MD 17 y_MD_heap b_MD_heap 1 (some .int) w_MD_heap rm_MD_heap 0 0 0 := cwV 0 ht g_law_MD_heap e_MD_heap rfl rfl (by decide +kernel) hR
theorem kl_MD_add {R : Room} {s : State} {args : Array Value} (ht : ∀ w ∈ lw_big, w.before args s = true) (hR : rm_MD_add.frames + 1 ≤ R.frames ∧ 8 + (3 + 11) + rm_MD_add.locals ≤ R.locals) : CallW R s args R_law R_MD 22 y_MD_add b_MD_add 3 (some .int) w_MD_add rm_MD_add 0 0 2 := cwV 2 ht g_law_MD_add e_MD_add rfl rfl (by decide +kernel) hR
theorem kl_MD_least {R : Room} {s : State} {args : Array Value} (ht : ∀ w ∈ lw_big, w.before args s = true) (hR : rm_MD_least.frames + 1 ≤ R.frames ∧ 8 + (3 + 11) + rm_MD_least.locals ≤ R.locals) : CallW R s args R_law R_MD 27 y_MD_least b_MD_least 3 (some .long) w_MD_least rm_MD_least 0 0 1 := cwV 1 ht g_law_MD_least e_MD_least rfl rfl (by decide +kernel) hR
theorem kl_MD_take {R : Room} {s : State} {args : Array Value} (ht : ∀ w ∈ lw_big, w.before args s = true) (hR : rm_MD_take.frames + 1 ≤ R.frames ∧ 8 + (5 + 11) + rm_MD_take.locals ≤ R.locals) : CallW R s args R_law R_MD 31 y_MD_take b_MD_take 5 (some .long) w_MD_take rm_MD_take 0 0 1 := cwV 1 ht g_law_MD_take e_MD_take rfl rfl (by decide +kernel) hR
theorem kl_MD_meld {R : Room} {s : State} {args : Array Value} (ht : ∀ w ∈ lw_big, w.before args s = true) (hR : rm_MD_meld.frames + 1 ≤ R.frames ∧ 8 + (4 + 11) + rm_MD_meld.locals ≤ R.locals) : CallW R s args R_law R_MD 35 y_MD_meld b_MD_meld 4 (some .int) w_MD_meld rm_MD_meld 0 0 2 := cwV 2 ht g_law_MD_meld e_MD_meld rfl rfl (by decide +kernel) hR
theorem kl_MD_size {R : Room} {s : State} {args : Array Value} (ht : ∀ w ∈ lw_big, w.before args s = true) (hR : rm_MD_size.frames + 1 ≤ R.frames ∧ 8 + (2 + 11) + rm_MD_size.locals ≤ R.locals) : CallW R s args R_law R_MD 40 y_MD_size b_MD_size 2 (some .int) w_MD_size rm_MD_size 0 0 1 := cwV 1 ht g_law_MD_size e_MD_size rfl rfl (by decide +kernel) hR
theorem kl_MD_key {R : Room} {s : State} {args : Array Value} (ht : ∀ w ∈ lw_big, w.before args s = true) (hR : rm_MD_key.frames + 1 ≤ R.frames ∧ 8 + (4 + 11) + rm_MD_key.locals ≤ R.locals) : CallW R s args R_law R_MD 45 y_MD_key b_MD_key 4 (some .long) w_MD_key rm_MD_key 0 0 2 := cwV 2 ht g_law_MD_key e_MD_key rfl rfl (by decide +kernel) hR
theorem kl_MD_sum {R : Room} {s : State} {args : Array Value} (ht : ∀ w ∈ lw_big, w.before args s = true) (hR : rm_MD_sum.frames + 1 ≤ R.frames ∧ 8 + (5 + 11) + rm_MD_sum.locals ≤ R.locals) : CallW R s args R_law R_MD 49 y_MD_sum b_MD_sum 5 (some .long) w_MD_sum rm_MD_sum 0 0 1 := cwV 1 ht g_law_MD_sum e_MD_sum rfl rfl (by decide +kernel) hR
theorem kl_MD_free {R : Room} {s : State} {args : Array Value} (ht : ∀ w ∈ lw_big, w.before args s = true) (hR : rm_MD_free.frames + 1 ≤ R.frames ∧ 8 + (1 + 11) + rm_MD_free.locals ≤ R.locals) : CallW R s args R_law R_MD 53 y_MD_free b_MD_free 1 (some .int) w_MD_free rm_MD_free 0 0 0 := cwV 0 ht g_law_MD_free e_MD_free rfl rfl (by decide +kernel) hR
theorem kl_MD_few {R : Room} {s : State} {args : Array Value} (ht : ∀ w ∈ lw_big, w.before args s = true) (hR : rm_MD_few.frames + 1 ≤ R.frames ∧ 8 + (1 + 11) + rm_MD_few.locals ≤ R.locals) : CallW R s args R_law R_MD 58 y_MD_few b_MD_few 1 (some .boolean) w_MD_few rm_MD_few 0 0 0 := cwV 0 ht g_law_MD_few e_MD_few rfl rfl (by decide +kernel) hR
/-- what the law rests on: an invariant, and that each of the ten calls keeps it and answers the same on both sides -/
def lw_J (J : sk_T → sk_T → Prop) : Prop :=
  (∀ u v, J u v → ∃ r u1 v1, sk_heap u = some (r, u1) ∧ md_heap v = some (r, v1) ∧ J u1 v1) ∧
  (∀ u v a b, J u v → ∃ r u1 v1, sk_add u a b = some (r, u1) ∧ md_add v a b = some (r, v1) ∧ J u1 v1) ∧
  (∀ u v a, J u v → ∃ r u1 v1, sk_least u a = some (r, u1) ∧ md_least v a = some (r, v1) ∧ J u1 v1) ∧
  (∀ u v a, J u v → ∃ r u1 v1, sk_take u a = some (r, u1) ∧ md_take v a = some (r, v1) ∧ J u1 v1) ∧
  (∀ u v a b, J u v → ∃ r u1 v1, sk_meld u a b = some (r, u1) ∧ md_meld v a b = some (r, v1) ∧ J u1 v1) ∧
  (∀ u v a, J u v → ∃ r u1 v1, sk_size u a = some (r, u1) ∧ md_size v a = some (r, v1) ∧ J u1 v1) ∧
  (∀ u v a b, J u v → ∃ r u1 v1, sk_key u a b = some (r, u1) ∧ md_key v a b = some (r, v1) ∧ J u1 v1) ∧
  (∀ u v a, J u v → ∃ r u1 v1, sk_sum u a = some (r, u1) ∧ md_sum v a = some (r, v1) ∧ J u1 v1) ∧
  (∀ u v, J u v → ∃ r u1 v1, sk_free u = some (r, u1) ∧ md_free v = some (r, v1) ∧ J u1 v1) ∧
  (∀ u v, J u v → sk_few u = md_few v)
theorem lw_gt {L i : Nat} (hL : L ≤ 1536) (hi : i ≤ 1600) (h : ¬ (Int32.ofNat L - 3 < nI i)) : i + 3 ≤ L := by
  rw [Int32.lt_iff_toInt_lt, Int32.toInt_sub, nI_toInt (by omega), show Int32.ofNat L = nI L from rfl, nI_toInt (by omega), show (3 : Int32).toInt = 3 from rfl] at h
  have hb : ((L : Int) - 3).bmod (2 ^ 32) = (L : Int) - 3 := by
    apply Int.bmod_eq_of_le <;> omega
  rw [hb] at h
  omega
theorem lw_cmp0 (x : Int64) : lg_cmp x x = 0 := by simp [lg_cmp]
section LWL
variable {p : Program} {l : Launch} {e : Env} {s : State} {m : MethodId} {below : List Frame} {meth : Method} {c : Code} {D : va_G} {b L : Nat} {xs : Nat → Int32} {o o2 : Nat} {q q2 : Nat → Nat} {cA c2 cB : ClassId} {J : sk_T → sk_T → Prop}
/-- the loop's head, for any pair of states that the invariant holds of -/
abbrev lw_Go (p : Program) (l : Launch) (e : Env) (s : State) (m : MethodId) (below : List Frame) (meth : Method) (c : Code) (D : va_G) (b : Nat) (o o2 : Nat) (q q2 : Nat → Nat) (cA c2 cB : ClassId) (J : sk_T → sk_T → Prop) (x : Int32) (pc : Nat) : Prop :=
  ∀ (u v : sk_T) (H : Heap) (locs : List Loc) (ls : Array Slot), J u v → lw_H D (fun q : Nat => s.heap.size ≤ q) s.heap H locs o q cA o2 q2 c2 cB u v → lv_has ls 4 [(0, .ref b), (1, .ref o), (2, .ref o2), (3, .int x)] → W p l e room_1 s m #[Value.ref b] below meth c H locs 14 2037 (lw_Z below #[Value.ref b] s) (F0 m pc ls [])
set_option maxHeartbeats 4000000 in
set_option maxRecDepth 100000 in
theorem lw_op0 (C0 : lw_At p s m meth c b L xs) (X : lw_X p m c s #[Value.ref b] D cA c2 cB (fun q : Nat => s.heap.size ≤ q)) (hJ : lw_J J) {x : Int32} (h1 : vp_in (x + 1) L) (h2 : vp_in (x + 2) L) (hn : lw_Go p l e s m below meth c D b o o2 q q2 cA c2 cB J x 322) : lw_Go p l e s m below meth c D b o o2 q q2 cA c2 cB J x 88 := by
  obtain ⟨hx, hb, hr, hml, hown, hts, hX, hbl, hlocks, hgv⟩ := C0
  have hbA : ¬ (fun q : Nat => s.heap.size ≤ q) b := Nat.not_le.mpr hbl
  intro u v H locs ls hj hH hl
  obtain ⟨o0, o1, o2x, o3, o4, o5, o6, o7, o8, o9⟩ := hJ
  obtain ⟨r, u1, v1, e1, e2, hj1⟩ := o0 u v hj
  refine lv_aload_n hx hb d_law_88 rfl (lv_at hl 1 rfl) ?_
  refine lw_calli1 X hH (As := []) (rest := []) (c_SM_heap e1) (kl_SM_heap X.1.2.2.2.2 ⟨Nat.le_of_ble_eq_true rfl, Nat.le_of_ble_eq_true rfl⟩) rfl hl.1 rfl (Nat.le_of_ble_eq_true rfl) d_law_89 ⟨Nat.le_of_ble_eq_true rfl, Nat.le_of_ble_eq_true rfl⟩ (fun H locs hH => ?_)
  refine lv_aload_n hx hb d_law_92 rfl (lv_at hl 2 rfl) ?_
  refine lw_calli2 X hH (As := []) (rest := [.int r]) (c_MD_heap e2) (kl_MD_heap X.1.2.2.2.2 ⟨Nat.le_of_ble_eq_true rfl, Nat.le_of_ble_eq_true rfl⟩) rfl hl.1 rfl (Nat.le_of_ble_eq_true rfl) d_law_93 ⟨Nat.le_of_ble_eq_true rfl, Nat.le_of_ble_eq_true rfl⟩ (fun H locs hH => ?_)
  refine lv_icmp_eq (tgt := 322) hx hb d_law_96 (by decide) (fun _ => ?_) (fun c1 => absurd rfl c1)
  exact hn _ _ _ _ _ hj1 hH hl
set_option maxHeartbeats 4000000 in
set_option maxRecDepth 100000 in
theorem lw_op1 (C0 : lw_At p s m meth c b L xs) (X : lw_X p m c s #[Value.ref b] D cA c2 cB (fun q : Nat => s.heap.size ≤ q)) (hJ : lw_J J) {x : Int32} (h1 : vp_in (x + 1) L) (h2 : vp_in (x + 2) L) (hn : lw_Go p l e s m below meth c D b o o2 q q2 cA c2 cB J x 322) : lw_Go p l e s m below meth c D b o o2 q q2 cA c2 cB J x 101 := by
  obtain ⟨hx, hb, hr, hml, hown, hts, hX, hbl, hlocks, hgv⟩ := C0
  have hbA : ¬ (fun q : Nat => s.heap.size ≤ q) b := Nat.not_le.mpr hbl
  intro u v H locs ls hj hH hl
  obtain ⟨o0, o1, o2x, o3, o4, o5, o6, o7, o8, o9⟩ := hJ
  obtain ⟨r, u1, v1, e1, e2, hj1⟩ := o1 u v (xs (x + 1).toNatClampNeg) (xs (x + 2).toNatClampNeg) hj
  refine lv_aload_n hx hb d_law_101 rfl (lv_at hl 1 rfl) ?_
  refine lv_aload_n hx hb d_law_102 rfl (lv_at hl 0 rfl) ?_
  refine lv_iload_n hx hb d_law_103 rfl (lv_at hl 3 rfl) ?_
  refine lv_iconst (v := 1) hx hb d_law_104 (by decide) ?_
  refine lv_iadd hx hb d_law_105 ?_
  refine va_sld hx hb hX hbl hbA hH.2.2 h1 d_law_106 ?_
  refine lv_aload_n hx hb d_law_107 rfl (lv_at hl 0 rfl) ?_
  refine lv_iload_n hx hb d_law_108 rfl (lv_at hl 3 rfl) ?_
  refine lv_iconst (v := 2) hx hb d_law_109 (by decide) ?_
  refine lv_iadd hx hb d_law_110 ?_
  refine va_sld hx hb hX hbl hbA hH.2.2 h2 d_law_111 ?_
  refine lw_calli1 X hH (As := [.int (xs (x + 1).toNatClampNeg), .int (xs (x + 2).toNatClampNeg)]) (rest := []) (c_SM_add e1) (kl_SM_add X.1.2.2.2.2 ⟨Nat.le_of_ble_eq_true rfl, Nat.le_of_ble_eq_true rfl⟩) rfl hl.1 rfl (Nat.le_of_ble_eq_true rfl) d_law_112 ⟨Nat.le_of_ble_eq_true rfl, Nat.le_of_ble_eq_true rfl⟩ (fun H locs hH => ?_)
  refine lv_aload_n hx hb d_law_115 rfl (lv_at hl 2 rfl) ?_
  refine lv_aload_n hx hb d_law_116 rfl (lv_at hl 0 rfl) ?_
  refine lv_iload_n hx hb d_law_117 rfl (lv_at hl 3 rfl) ?_
  refine lv_iconst (v := 1) hx hb d_law_118 (by decide) ?_
  refine lv_iadd hx hb d_law_119 ?_
  refine va_sld hx hb hX hbl hbA hH.2.2 h1 d_law_120 ?_
  refine lv_aload_n hx hb d_law_121 rfl (lv_at hl 0 rfl) ?_
  refine lv_iload_n hx hb d_law_122 rfl (lv_at hl 3 rfl) ?_
  refine lv_iconst (v := 2) hx hb d_law_123 (by decide) ?_
  refine lv_iadd hx hb d_law_124 ?_
  refine va_sld hx hb hX hbl hbA hH.2.2 h2 d_law_125 ?_
  refine lw_calli2 X hH (As := [.int (xs (x + 1).toNatClampNeg), .int (xs (x + 2).toNatClampNeg)]) (rest := [.int r]) (c_MD_add e2) (kl_MD_add X.1.2.2.2.2 ⟨Nat.le_of_ble_eq_true rfl, Nat.le_of_ble_eq_true rfl⟩) rfl hl.1 rfl (Nat.le_of_ble_eq_true rfl) d_law_126 ⟨Nat.le_of_ble_eq_true rfl, Nat.le_of_ble_eq_true rfl⟩ (fun H locs hH => ?_)
  refine lv_icmp_eq (tgt := 322) hx hb d_law_129 (by decide) (fun _ => ?_) (fun c1 => absurd rfl c1)
  exact hn _ _ _ _ _ hj1 hH hl
set_option maxHeartbeats 4000000 in
set_option maxRecDepth 100000 in
theorem lw_op2 (C0 : lw_At p s m meth c b L xs) (X : lw_X p m c s #[Value.ref b] D cA c2 cB (fun q : Nat => s.heap.size ≤ q)) (hJ : lw_J J) {x : Int32} (h1 : vp_in (x + 1) L) (h2 : vp_in (x + 2) L) (hn : lw_Go p l e s m below meth c D b o o2 q q2 cA c2 cB J x 322) : lw_Go p l e s m below meth c D b o o2 q q2 cA c2 cB J x 134 := by
  obtain ⟨hx, hb, hr, hml, hown, hts, hX, hbl, hlocks, hgv⟩ := C0
  have hbA : ¬ (fun q : Nat => s.heap.size ≤ q) b := Nat.not_le.mpr hbl
  intro u v H locs ls hj hH hl
  obtain ⟨o0, o1, o2x, o3, o4, o5, o6, o7, o8, o9⟩ := hJ
  obtain ⟨r, u1, v1, e1, e2, hj1⟩ := o2x u v (xs (x + 1).toNatClampNeg) hj
  refine lv_aload_n hx hb d_law_134 rfl (lv_at hl 1 rfl) ?_
  refine lv_aload_n hx hb d_law_135 rfl (lv_at hl 0 rfl) ?_
  refine lv_iload_n hx hb d_law_136 rfl (lv_at hl 3 rfl) ?_
  refine lv_iconst (v := 1) hx hb d_law_137 (by decide) ?_
  refine lv_iadd hx hb d_law_138 ?_
  refine va_sld hx hb hX hbl hbA hH.2.2 h1 d_law_139 ?_
  refine lw_calll1 X hH (As := [.int (xs (x + 1).toNatClampNeg)]) (rest := []) (c_SM_least e1) (kl_SM_least X.1.2.2.2.2 ⟨Nat.le_of_ble_eq_true rfl, Nat.le_of_ble_eq_true rfl⟩) rfl hl.1 rfl (Nat.le_of_ble_eq_true rfl) d_law_140 ⟨Nat.le_of_ble_eq_true rfl, Nat.le_of_ble_eq_true rfl⟩ (fun H locs hH => ?_)
  refine lv_aload_n hx hb d_law_143 rfl (lv_at hl 2 rfl) ?_
  refine lv_aload_n hx hb d_law_144 rfl (lv_at hl 0 rfl) ?_
  refine lv_iload_n hx hb d_law_145 rfl (lv_at hl 3 rfl) ?_
  refine lv_iconst (v := 1) hx hb d_law_146 (by decide) ?_
  refine lv_iadd hx hb d_law_147 ?_
  refine va_sld hx hb hX hbl hbA hH.2.2 h1 d_law_148 ?_
  refine lw_calll2 X hH (As := [.int (xs (x + 1).toNatClampNeg)]) (rest := [.long r]) (c_MD_least e2) (kl_MD_least X.1.2.2.2.2 ⟨Nat.le_of_ble_eq_true rfl, Nat.le_of_ble_eq_true rfl⟩) rfl hl.1 rfl (Nat.le_of_ble_eq_true rfl) d_law_149 ⟨Nat.le_of_ble_eq_true rfl, Nat.le_of_ble_eq_true rfl⟩ (fun H locs hH => ?_)
  refine W.lcmp hx hb d_law_152 ?_
  refine lv_if_eq (tgt := 322) hx hb d_law_153 (by decide) (fun _ => ?_) (fun c1 => absurd (lw_cmp0 _) c1)
  exact hn _ _ _ _ _ hj1 hH hl
set_option maxHeartbeats 4000000 in
set_option maxRecDepth 100000 in
theorem lw_op3 (C0 : lw_At p s m meth c b L xs) (X : lw_X p m c s #[Value.ref b] D cA c2 cB (fun q : Nat => s.heap.size ≤ q)) (hJ : lw_J J) {x : Int32} (h1 : vp_in (x + 1) L) (h2 : vp_in (x + 2) L) (hn : lw_Go p l e s m below meth c D b o o2 q q2 cA c2 cB J x 322) : lw_Go p l e s m below meth c D b o o2 q q2 cA c2 cB J x 158 := by
  obtain ⟨hx, hb, hr, hml, hown, hts, hX, hbl, hlocks, hgv⟩ := C0
  have hbA : ¬ (fun q : Nat => s.heap.size ≤ q) b := Nat.not_le.mpr hbl
  intro u v H locs ls hj hH hl
  obtain ⟨o0, o1, o2x, o3, o4, o5, o6, o7, o8, o9⟩ := hJ
  obtain ⟨r, u1, v1, e1, e2, hj1⟩ := o3 u v (xs (x + 1).toNatClampNeg) hj
  refine lv_aload_n hx hb d_law_158 rfl (lv_at hl 1 rfl) ?_
  refine lv_aload_n hx hb d_law_159 rfl (lv_at hl 0 rfl) ?_
  refine lv_iload_n hx hb d_law_160 rfl (lv_at hl 3 rfl) ?_
  refine lv_iconst (v := 1) hx hb d_law_161 (by decide) ?_
  refine lv_iadd hx hb d_law_162 ?_
  refine va_sld hx hb hX hbl hbA hH.2.2 h1 d_law_163 ?_
  refine lw_calll1 X hH (As := [.int (xs (x + 1).toNatClampNeg)]) (rest := []) (c_SM_take e1) (kl_SM_take X.1.2.2.2.2 ⟨Nat.le_of_ble_eq_true rfl, Nat.le_of_ble_eq_true rfl⟩) rfl hl.1 rfl (Nat.le_of_ble_eq_true rfl) d_law_164 ⟨Nat.le_of_ble_eq_true rfl, Nat.le_of_ble_eq_true rfl⟩ (fun H locs hH => ?_)
  refine lv_aload_n hx hb d_law_167 rfl (lv_at hl 2 rfl) ?_
  refine lv_aload_n hx hb d_law_168 rfl (lv_at hl 0 rfl) ?_
  refine lv_iload_n hx hb d_law_169 rfl (lv_at hl 3 rfl) ?_
  refine lv_iconst (v := 1) hx hb d_law_170 (by decide) ?_
  refine lv_iadd hx hb d_law_171 ?_
  refine va_sld hx hb hX hbl hbA hH.2.2 h1 d_law_172 ?_
  refine lw_calll2 X hH (As := [.int (xs (x + 1).toNatClampNeg)]) (rest := [.long r]) (c_MD_take e2) (kl_MD_take X.1.2.2.2.2 ⟨Nat.le_of_ble_eq_true rfl, Nat.le_of_ble_eq_true rfl⟩) rfl hl.1 rfl (Nat.le_of_ble_eq_true rfl) d_law_173 ⟨Nat.le_of_ble_eq_true rfl, Nat.le_of_ble_eq_true rfl⟩ (fun H locs hH => ?_)
  refine W.lcmp hx hb d_law_176 ?_
  refine lv_if_eq (tgt := 322) hx hb d_law_177 (by decide) (fun _ => ?_) (fun c1 => absurd (lw_cmp0 _) c1)
  exact hn _ _ _ _ _ hj1 hH hl
set_option maxHeartbeats 4000000 in
set_option maxRecDepth 100000 in
theorem lw_op4 (C0 : lw_At p s m meth c b L xs) (X : lw_X p m c s #[Value.ref b] D cA c2 cB (fun q : Nat => s.heap.size ≤ q)) (hJ : lw_J J) {x : Int32} (h1 : vp_in (x + 1) L) (h2 : vp_in (x + 2) L) (hn : lw_Go p l e s m below meth c D b o o2 q q2 cA c2 cB J x 322) : lw_Go p l e s m below meth c D b o o2 q q2 cA c2 cB J x 182 := by
  obtain ⟨hx, hb, hr, hml, hown, hts, hX, hbl, hlocks, hgv⟩ := C0
  have hbA : ¬ (fun q : Nat => s.heap.size ≤ q) b := Nat.not_le.mpr hbl
  intro u v H locs ls hj hH hl
  obtain ⟨o0, o1, o2x, o3, o4, o5, o6, o7, o8, o9⟩ := hJ
  obtain ⟨r, u1, v1, e1, e2, hj1⟩ := o4 u v (xs (x + 1).toNatClampNeg) (xs (x + 2).toNatClampNeg) hj
  refine lv_aload_n hx hb d_law_182 rfl (lv_at hl 1 rfl) ?_
  refine lv_aload_n hx hb d_law_183 rfl (lv_at hl 0 rfl) ?_
  refine lv_iload_n hx hb d_law_184 rfl (lv_at hl 3 rfl) ?_
  refine lv_iconst (v := 1) hx hb d_law_185 (by decide) ?_
  refine lv_iadd hx hb d_law_186 ?_
  refine va_sld hx hb hX hbl hbA hH.2.2 h1 d_law_187 ?_
  refine lv_aload_n hx hb d_law_188 rfl (lv_at hl 0 rfl) ?_
  refine lv_iload_n hx hb d_law_189 rfl (lv_at hl 3 rfl) ?_
  refine lv_iconst (v := 2) hx hb d_law_190 (by decide) ?_
  refine lv_iadd hx hb d_law_191 ?_
  refine va_sld hx hb hX hbl hbA hH.2.2 h2 d_law_192 ?_
  refine lw_calli1 X hH (As := [.int (xs (x + 1).toNatClampNeg), .int (xs (x + 2).toNatClampNeg)]) (rest := []) (c_SM_meld e1) (kl_SM_meld X.1.2.2.2.2 ⟨Nat.le_of_ble_eq_true rfl, Nat.le_of_ble_eq_true rfl⟩) rfl hl.1 rfl (Nat.le_of_ble_eq_true rfl) d_law_193 ⟨Nat.le_of_ble_eq_true rfl, Nat.le_of_ble_eq_true rfl⟩ (fun H locs hH => ?_)
  refine lv_aload_n hx hb d_law_196 rfl (lv_at hl 2 rfl) ?_
  refine lv_aload_n hx hb d_law_197 rfl (lv_at hl 0 rfl) ?_
  refine lv_iload_n hx hb d_law_198 rfl (lv_at hl 3 rfl) ?_
  refine lv_iconst (v := 1) hx hb d_law_199 (by decide) ?_
  refine lv_iadd hx hb d_law_200 ?_
  refine va_sld hx hb hX hbl hbA hH.2.2 h1 d_law_201 ?_
  refine lv_aload_n hx hb d_law_202 rfl (lv_at hl 0 rfl) ?_
  refine lv_iload_n hx hb d_law_203 rfl (lv_at hl 3 rfl) ?_
  refine lv_iconst (v := 2) hx hb d_law_204 (by decide) ?_
  refine lv_iadd hx hb d_law_205 ?_
  refine va_sld hx hb hX hbl hbA hH.2.2 h2 d_law_206 ?_
  refine lw_calli2 X hH (As := [.int (xs (x + 1).toNatClampNeg), .int (xs (x + 2).toNatClampNeg)]) (rest := [.int r]) (c_MD_meld e2) (kl_MD_meld X.1.2.2.2.2 ⟨Nat.le_of_ble_eq_true rfl, Nat.le_of_ble_eq_true rfl⟩) rfl hl.1 rfl (Nat.le_of_ble_eq_true rfl) d_law_207 ⟨Nat.le_of_ble_eq_true rfl, Nat.le_of_ble_eq_true rfl⟩ (fun H locs hH => ?_)
  refine lv_icmp_eq (tgt := 322) hx hb d_law_210 (by decide) (fun _ => ?_) (fun c1 => absurd rfl c1)
  exact hn _ _ _ _ _ hj1 hH hl
set_option maxHeartbeats 4000000 in
set_option maxRecDepth 100000 in
theorem lw_op5 (C0 : lw_At p s m meth c b L xs) (X : lw_X p m c s #[Value.ref b] D cA c2 cB (fun q : Nat => s.heap.size ≤ q)) (hJ : lw_J J) {x : Int32} (h1 : vp_in (x + 1) L) (h2 : vp_in (x + 2) L) (hn : lw_Go p l e s m below meth c D b o o2 q q2 cA c2 cB J x 322) : lw_Go p l e s m below meth c D b o o2 q q2 cA c2 cB J x 215 := by
  obtain ⟨hx, hb, hr, hml, hown, hts, hX, hbl, hlocks, hgv⟩ := C0
  have hbA : ¬ (fun q : Nat => s.heap.size ≤ q) b := Nat.not_le.mpr hbl
  intro u v H locs ls hj hH hl
  obtain ⟨o0, o1, o2x, o3, o4, o5, o6, o7, o8, o9⟩ := hJ
  obtain ⟨r, u1, v1, e1, e2, hj1⟩ := o5 u v (xs (x + 1).toNatClampNeg) hj
  refine lv_aload_n hx hb d_law_215 rfl (lv_at hl 1 rfl) ?_
  refine lv_aload_n hx hb d_law_216 rfl (lv_at hl 0 rfl) ?_
  refine lv_iload_n hx hb d_law_217 rfl (lv_at hl 3 rfl) ?_
  refine lv_iconst (v := 1) hx hb d_law_218 (by decide) ?_
  refine lv_iadd hx hb d_law_219 ?_
  refine va_sld hx hb hX hbl hbA hH.2.2 h1 d_law_220 ?_
  refine lw_calli1 X hH (As := [.int (xs (x + 1).toNatClampNeg)]) (rest := []) (c_SM_size e1) (kl_SM_size X.1.2.2.2.2 ⟨Nat.le_of_ble_eq_true rfl, Nat.le_of_ble_eq_true rfl⟩) rfl hl.1 rfl (Nat.le_of_ble_eq_true rfl) d_law_221 ⟨Nat.le_of_ble_eq_true rfl, Nat.le_of_ble_eq_true rfl⟩ (fun H locs hH => ?_)
  refine lv_aload_n hx hb d_law_224 rfl (lv_at hl 2 rfl) ?_
  refine lv_aload_n hx hb d_law_225 rfl (lv_at hl 0 rfl) ?_
  refine lv_iload_n hx hb d_law_226 rfl (lv_at hl 3 rfl) ?_
  refine lv_iconst (v := 1) hx hb d_law_227 (by decide) ?_
  refine lv_iadd hx hb d_law_228 ?_
  refine va_sld hx hb hX hbl hbA hH.2.2 h1 d_law_229 ?_
  refine lw_calli2 X hH (As := [.int (xs (x + 1).toNatClampNeg)]) (rest := [.int r]) (c_MD_size e2) (kl_MD_size X.1.2.2.2.2 ⟨Nat.le_of_ble_eq_true rfl, Nat.le_of_ble_eq_true rfl⟩) rfl hl.1 rfl (Nat.le_of_ble_eq_true rfl) d_law_230 ⟨Nat.le_of_ble_eq_true rfl, Nat.le_of_ble_eq_true rfl⟩ (fun H locs hH => ?_)
  refine lv_icmp_eq (tgt := 322) hx hb d_law_233 (by decide) (fun _ => ?_) (fun c1 => absurd rfl c1)
  exact hn _ _ _ _ _ hj1 hH hl
set_option maxHeartbeats 4000000 in
set_option maxRecDepth 100000 in
theorem lw_op6 (C0 : lw_At p s m meth c b L xs) (X : lw_X p m c s #[Value.ref b] D cA c2 cB (fun q : Nat => s.heap.size ≤ q)) (hJ : lw_J J) {x : Int32} (h1 : vp_in (x + 1) L) (h2 : vp_in (x + 2) L) (hn : lw_Go p l e s m below meth c D b o o2 q q2 cA c2 cB J x 322) : lw_Go p l e s m below meth c D b o o2 q q2 cA c2 cB J x 238 := by
  obtain ⟨hx, hb, hr, hml, hown, hts, hX, hbl, hlocks, hgv⟩ := C0
  have hbA : ¬ (fun q : Nat => s.heap.size ≤ q) b := Nat.not_le.mpr hbl
  intro u v H locs ls hj hH hl
  obtain ⟨o0, o1, o2x, o3, o4, o5, o6, o7, o8, o9⟩ := hJ
  obtain ⟨r, u1, v1, e1, e2, hj1⟩ := o6 u v (xs (x + 1).toNatClampNeg) (xs (x + 2).toNatClampNeg) hj
  refine lv_aload_n hx hb d_law_238 rfl (lv_at hl 1 rfl) ?_
  refine lv_aload_n hx hb d_law_239 rfl (lv_at hl 0 rfl) ?_
  refine lv_iload_n hx hb d_law_240 rfl (lv_at hl 3 rfl) ?_
  refine lv_iconst (v := 1) hx hb d_law_241 (by decide) ?_
  refine lv_iadd hx hb d_law_242 ?_
  refine va_sld hx hb hX hbl hbA hH.2.2 h1 d_law_243 ?_
  refine lv_aload_n hx hb d_law_244 rfl (lv_at hl 0 rfl) ?_
  refine lv_iload_n hx hb d_law_245 rfl (lv_at hl 3 rfl) ?_
  refine lv_iconst (v := 2) hx hb d_law_246 (by decide) ?_
  refine lv_iadd hx hb d_law_247 ?_
  refine va_sld hx hb hX hbl hbA hH.2.2 h2 d_law_248 ?_
  refine lw_calll1 X hH (As := [.int (xs (x + 1).toNatClampNeg), .int (xs (x + 2).toNatClampNeg)]) (rest := []) (c_SM_key e1) (kl_SM_key X.1.2.2.2.2 ⟨Nat.le_of_ble_eq_true rfl, Nat.le_of_ble_eq_true rfl⟩) rfl hl.1 rfl (Nat.le_of_ble_eq_true rfl) d_law_249 ⟨Nat.le_of_ble_eq_true rfl, Nat.le_of_ble_eq_true rfl⟩ (fun H locs hH => ?_)
  refine lv_aload_n hx hb d_law_252 rfl (lv_at hl 2 rfl) ?_
  refine lv_aload_n hx hb d_law_253 rfl (lv_at hl 0 rfl) ?_
  refine lv_iload_n hx hb d_law_254 rfl (lv_at hl 3 rfl) ?_
  refine lv_iconst (v := 1) hx hb d_law_255 (by decide) ?_
  refine lv_iadd hx hb d_law_256 ?_
  refine va_sld hx hb hX hbl hbA hH.2.2 h1 d_law_257 ?_
  refine lv_aload_n hx hb d_law_258 rfl (lv_at hl 0 rfl) ?_
  refine lv_iload_n hx hb d_law_259 rfl (lv_at hl 3 rfl) ?_
  refine lv_iconst (v := 2) hx hb d_law_260 (by decide) ?_
  refine lv_iadd hx hb d_law_261 ?_
  refine va_sld hx hb hX hbl hbA hH.2.2 h2 d_law_262 ?_
  refine lw_calll2 X hH (As := [.int (xs (x + 1).toNatClampNeg), .int (xs (x + 2).toNatClampNeg)]) (rest := [.long r]) (c_MD_key e2) (kl_MD_key X.1.2.2.2.2 ⟨Nat.le_of_ble_eq_true rfl, Nat.le_of_ble_eq_true rfl⟩) rfl hl.1 rfl (Nat.le_of_ble_eq_true rfl) d_law_263 ⟨Nat.le_of_ble_eq_true rfl, Nat.le_of_ble_eq_true rfl⟩ (fun H locs hH => ?_)
  refine W.lcmp hx hb d_law_266 ?_
  refine lv_if_eq (tgt := 322) hx hb d_law_267 (by decide) (fun _ => ?_) (fun c1 => absurd (lw_cmp0 _) c1)
  exact hn _ _ _ _ _ hj1 hH hl
set_option maxHeartbeats 4000000 in
set_option maxRecDepth 100000 in
theorem lw_op7 (C0 : lw_At p s m meth c b L xs) (X : lw_X p m c s #[Value.ref b] D cA c2 cB (fun q : Nat => s.heap.size ≤ q)) (hJ : lw_J J) {x : Int32} (h1 : vp_in (x + 1) L) (h2 : vp_in (x + 2) L) (hn : lw_Go p l e s m below meth c D b o o2 q q2 cA c2 cB J x 322) : lw_Go p l e s m below meth c D b o o2 q q2 cA c2 cB J x 272 := by
  obtain ⟨hx, hb, hr, hml, hown, hts, hX, hbl, hlocks, hgv⟩ := C0
  have hbA : ¬ (fun q : Nat => s.heap.size ≤ q) b := Nat.not_le.mpr hbl
  intro u v H locs ls hj hH hl
  obtain ⟨o0, o1, o2x, o3, o4, o5, o6, o7, o8, o9⟩ := hJ
  obtain ⟨r, u1, v1, e1, e2, hj1⟩ := o7 u v (xs (x + 1).toNatClampNeg) hj
  refine lv_aload_n hx hb d_law_272 rfl (lv_at hl 1 rfl) ?_
  refine lv_aload_n hx hb d_law_273 rfl (lv_at hl 0 rfl) ?_
  refine lv_iload_n hx hb d_law_274 rfl (lv_at hl 3 rfl) ?_
  refine lv_iconst (v := 1) hx hb d_law_275 (by decide) ?_
  refine lv_iadd hx hb d_law_276 ?_
  refine va_sld hx hb hX hbl hbA hH.2.2 h1 d_law_277 ?_
  refine lw_calll1 X hH (As := [.int (xs (x + 1).toNatClampNeg)]) (rest := []) (c_SM_sum e1) (kl_SM_sum X.1.2.2.2.2 ⟨Nat.le_of_ble_eq_true rfl, Nat.le_of_ble_eq_true rfl⟩) rfl hl.1 rfl (Nat.le_of_ble_eq_true rfl) d_law_278 ⟨Nat.le_of_ble_eq_true rfl, Nat.le_of_ble_eq_true rfl⟩ (fun H locs hH => ?_)
  refine lv_aload_n hx hb d_law_281 rfl (lv_at hl 2 rfl) ?_
  refine lv_aload_n hx hb d_law_282 rfl (lv_at hl 0 rfl) ?_
  refine lv_iload_n hx hb d_law_283 rfl (lv_at hl 3 rfl) ?_
  refine lv_iconst (v := 1) hx hb d_law_284 (by decide) ?_
  refine lv_iadd hx hb d_law_285 ?_
  refine va_sld hx hb hX hbl hbA hH.2.2 h1 d_law_286 ?_
  refine lw_calll2 X hH (As := [.int (xs (x + 1).toNatClampNeg)]) (rest := [.long r]) (c_MD_sum e2) (kl_MD_sum X.1.2.2.2.2 ⟨Nat.le_of_ble_eq_true rfl, Nat.le_of_ble_eq_true rfl⟩) rfl hl.1 rfl (Nat.le_of_ble_eq_true rfl) d_law_287 ⟨Nat.le_of_ble_eq_true rfl, Nat.le_of_ble_eq_true rfl⟩ (fun H locs hH => ?_)
  refine W.lcmp hx hb d_law_290 ?_
  refine lv_if_eq (tgt := 322) hx hb d_law_291 (by decide) (fun _ => ?_) (fun c1 => absurd (lw_cmp0 _) c1)
  exact hn _ _ _ _ _ hj1 hH hl
set_option maxHeartbeats 4000000 in
set_option maxRecDepth 100000 in
theorem lw_op8 (C0 : lw_At p s m meth c b L xs) (X : lw_X p m c s #[Value.ref b] D cA c2 cB (fun q : Nat => s.heap.size ≤ q)) (hJ : lw_J J) {x : Int32} (h1 : vp_in (x + 1) L) (h2 : vp_in (x + 2) L) (hn : lw_Go p l e s m below meth c D b o o2 q q2 cA c2 cB J x 322) : lw_Go p l e s m below meth c D b o o2 q q2 cA c2 cB J x 296 := by
  obtain ⟨hx, hb, hr, hml, hown, hts, hX, hbl, hlocks, hgv⟩ := C0
  have hbA : ¬ (fun q : Nat => s.heap.size ≤ q) b := Nat.not_le.mpr hbl
  intro u v H locs ls hj hH hl
  obtain ⟨o0, o1, o2x, o3, o4, o5, o6, o7, o8, o9⟩ := hJ
  obtain ⟨r, u1, v1, e1, e2, hj1⟩ := o8 u v hj
  refine lv_aload_n hx hb d_law_296 rfl (lv_at hl 1 rfl) ?_
  refine lw_calli1 X hH (As := []) (rest := []) (c_SM_free e1) (kl_SM_free X.1.2.2.2.2 ⟨Nat.le_of_ble_eq_true rfl, Nat.le_of_ble_eq_true rfl⟩) rfl hl.1 rfl (Nat.le_of_ble_eq_true rfl) d_law_297 ⟨Nat.le_of_ble_eq_true rfl, Nat.le_of_ble_eq_true rfl⟩ (fun H locs hH => ?_)
  refine lv_aload_n hx hb d_law_300 rfl (lv_at hl 2 rfl) ?_
  refine lw_calli2 X hH (As := []) (rest := [.int r]) (c_MD_free e2) (kl_MD_free X.1.2.2.2.2 ⟨Nat.le_of_ble_eq_true rfl, Nat.le_of_ble_eq_true rfl⟩) rfl hl.1 rfl (Nat.le_of_ble_eq_true rfl) d_law_301 ⟨Nat.le_of_ble_eq_true rfl, Nat.le_of_ble_eq_true rfl⟩ (fun H locs hH => ?_)
  refine lv_icmp_eq (tgt := 322) hx hb d_law_304 (by decide) (fun _ => ?_) (fun c1 => absurd rfl c1)
  exact hn _ _ _ _ _ hj1 hH hl
set_option maxHeartbeats 4000000 in
set_option maxRecDepth 100000 in
theorem lw_op9 (C0 : lw_At p s m meth c b L xs) (X : lw_X p m c s #[Value.ref b] D cA c2 cB (fun q : Nat => s.heap.size ≤ q)) (hJ : lw_J J) {x : Int32} (h1 : vp_in (x + 1) L) (h2 : vp_in (x + 2) L) (hn : lw_Go p l e s m below meth c D b o o2 q q2 cA c2 cB J x 322) : lw_Go p l e s m below meth c D b o o2 q q2 cA c2 cB J x 309 := by
  obtain ⟨hx, hb, hr, hml, hown, hts, hX, hbl, hlocks, hgv⟩ := C0
  have hbA : ¬ (fun q : Nat => s.heap.size ≤ q) b := Nat.not_le.mpr hbl
  intro u v H locs ls hj hH hl
  obtain ⟨o0, o1, o2x, o3, o4, o5, o6, o7, o8, o9⟩ := hJ
  have e9 := o9 u v hj
  refine lv_aload_n hx hb d_law_309 rfl (lv_at hl 1 rfl) ?_
  refine lw_calli1 X hH (As := []) (rest := []) c_SM_few (kl_SM_few X.1.2.2.2.2 ⟨Nat.le_of_ble_eq_true rfl, Nat.le_of_ble_eq_true rfl⟩) rfl hl.1 rfl (Nat.le_of_ble_eq_true rfl) d_law_310 ⟨Nat.le_of_ble_eq_true rfl, Nat.le_of_ble_eq_true rfl⟩ (fun H locs hH => ?_)
  refine lv_aload_n hx hb d_law_313 rfl (lv_at hl 2 rfl) ?_
  refine lw_calli2 X hH (As := []) (rest := [.int (sk_few u)]) c_MD_few (kl_MD_few X.1.2.2.2.2 ⟨Nat.le_of_ble_eq_true rfl, Nat.le_of_ble_eq_true rfl⟩) rfl hl.1 rfl (Nat.le_of_ble_eq_true rfl) d_law_314 ⟨Nat.le_of_ble_eq_true rfl, Nat.le_of_ble_eq_true rfl⟩ (fun H locs hH => ?_)
  refine lv_icmp_eq (tgt := 322) hx hb d_law_317 (by decide) (fun _ => ?_) (fun c1 => absurd e9 c1)
  exact hn _ _ _ _ _ hj hH hl
set_option maxHeartbeats 4000000 in
set_option maxRecDepth 100000 in
/-- THE LAW'S LOOP -/
theorem lw_loop (hL : L ≤ 1536) (C0 : lw_At p s m meth c b L xs) (X : lw_X p m c s #[Value.ref b] D cA c2 cB (fun q : Nat => s.heap.size ≤ q)) (hJ : lw_J J) : ∀ (n i : Nat), i ≤ L → L < i + n → lw_Go p l e s m below meth c D b o o2 q q2 cA c2 cB J (nI i) 18 := by
  obtain ⟨hx, hb, hr, hml, hown, hts, hX, hbl, hlocks, hgv⟩ := id C0
  have hbA : ¬ (fun q : Nat => s.heap.size ≤ q) b := Nat.not_le.mpr hbl
  intro n
  induction n with
  | zero =>
    intro i h1 h2
    exact absurd h2 (by omega)
  | succ n ih =>
    intro i hi hin u v H locs ls hj hH hl
    refine lv_iload_n hx hb d_law_18 rfl (lv_at hl 3 rfl) ?_
    refine lv_aload_n hx hb d_law_19 rfl (lv_at hl 0 rfl) ?_
    refine va_slen hx hb hX hbl hbA hH.2.2 d_law_20 ?_
    refine lv_iconst (v := 3) hx hb d_law_21 (by decide) ?_
    refine lv_isub hx hb d_law_22 ?_
    refine lv_icmp_gt (tgt := 328) hx hb d_law_23 (by decide) (fun c1 => ?_) (fun c1 => ?_)
    · refine lv_iconst (v := 1) hx hb d_law_328 (by decide) ?_
      refine va_forget (fun q hq => hH.2.2.2.2 q hq) ?_
      exact lw_ret hx hb hr hlocks d_law_329
    · have hlt : i + 3 ≤ L := lw_gt hL (by omega) c1
      have h0 : vp_in (nI i) L := vp_in_nI (by omega) (by omega)
      have h1 : vp_in (nI i + 1) L := by rw [nI_1]; exact vp_in_nI (by omega) (by omega)
      have h2 : vp_in (nI i + 2) L := by rw [show (2 : Int32) = nI 2 from rfl, nI_add]; exact vp_in_nI (by omega) (by omega)
      have hn : lw_Go p l e s m below meth c D b o o2 q q2 cA c2 cB J (nI i) 322 := by
        intro u v H locs ls hj hH hl
        refine lv_iinc (v := nI (i + 3)) (lv' := [(3, .int (nI (i + 3))), (0, .ref b), (1, .ref o), (2, .ref o2)]) hx hb d_law_322 hl (k := 3) rfl (by rw [show Int32.ofInt 3 = nI 3 by decide, nI_add]) (by decide) rfl (fun ls hl => ?_)
        refine lv_goto (tgt := 18) hx hb d_law_325 (by decide) ?_
        exact ih (i + 3) hlt (by omega) u v H locs ls hj hH (lv_sub hl [1, 2, 3, 0] rfl)
      refine lv_aload_n hx hb d_law_26 rfl (lv_at hl 0 rfl) ?_
      refine lv_iload_n hx hb d_law_27 rfl (lv_at hl 3 rfl) ?_
      refine va_sld hx hb hX hbl hbA hH.2.2 h0 d_law_28 ?_
      refine lv_bipush (v := 15) hx hb d_law_29 (by decide) ?_
      refine lv_iand hx hb d_law_31 ?_
      refine lv_topi (fun w ew => ?_)
      by_cases hw : w.toInt < 0 ∨ 9 < w.toInt
      · refine lv_tableOut (tgt := 322) hx hb d_law_32 hw (by decide) ?_
        exact hn _ _ _ _ _ hj hH hl
      · have hw1 : ¬ w.toInt < 0 := fun h => hw (Or.inl h)
        have hw2 : ¬ 9 < w.toInt := fun h => hw (Or.inr h)
        have hc : w.toInt = 0 ∨ w.toInt = 1 ∨ w.toInt = 2 ∨ w.toInt = 3 ∨ w.toInt = 4 ∨ w.toInt = 5 ∨ w.toInt = 6 ∨ w.toInt = 7 ∨ w.toInt = 8 ∨ w.toInt = 9 := by omega
        rcases hc with hc | hc | hc | hc | hc | hc | hc | hc | hc | hc
        · refine lv_tableIn (off := 56) (tgt := 88) hx hb d_law_32 hw1 hw2 (by rw [hc]; rfl) (by decide) ?_
          exact lw_op0 C0 X hJ h1 h2 hn _ _ _ _ _ hj hH hl
        · refine lv_tableIn (off := 69) (tgt := 101) hx hb d_law_32 hw1 hw2 (by rw [hc]; rfl) (by decide) ?_
          exact lw_op1 C0 X hJ h1 h2 hn _ _ _ _ _ hj hH hl
        · refine lv_tableIn (off := 102) (tgt := 134) hx hb d_law_32 hw1 hw2 (by rw [hc]; rfl) (by decide) ?_
          exact lw_op2 C0 X hJ h1 h2 hn _ _ _ _ _ hj hH hl
        · refine lv_tableIn (off := 126) (tgt := 158) hx hb d_law_32 hw1 hw2 (by rw [hc]; rfl) (by decide) ?_
          exact lw_op3 C0 X hJ h1 h2 hn _ _ _ _ _ hj hH hl
        · refine lv_tableIn (off := 150) (tgt := 182) hx hb d_law_32 hw1 hw2 (by rw [hc]; rfl) (by decide) ?_
          exact lw_op4 C0 X hJ h1 h2 hn _ _ _ _ _ hj hH hl
        · refine lv_tableIn (off := 183) (tgt := 215) hx hb d_law_32 hw1 hw2 (by rw [hc]; rfl) (by decide) ?_
          exact lw_op5 C0 X hJ h1 h2 hn _ _ _ _ _ hj hH hl
        · refine lv_tableIn (off := 206) (tgt := 238) hx hb d_law_32 hw1 hw2 (by rw [hc]; rfl) (by decide) ?_
          exact lw_op6 C0 X hJ h1 h2 hn _ _ _ _ _ hj hH hl
        · refine lv_tableIn (off := 240) (tgt := 272) hx hb d_law_32 hw1 hw2 (by rw [hc]; rfl) (by decide) ?_
          exact lw_op7 C0 X hJ h1 h2 hn _ _ _ _ _ hj hH hl
        · refine lv_tableIn (off := 264) (tgt := 296) hx hb d_law_32 hw1 hw2 (by rw [hc]; rfl) (by decide) ?_
          exact lw_op8 C0 X hJ h1 h2 hn _ _ _ _ _ hj hH hl
        · refine lv_tableIn (off := 277) (tgt := 309) hx hb d_law_32 hw1 hw2 (by rw [hc]; rfl) (by decide) ?_
          exact lw_op9 C0 X hJ h1 h2 hn _ _ _ _ _ hj hH hl
end LWL
end
section
/-! THE PLAIN LAW 1: memory, trees by rank, rows of trees -/
def wm (M : Nat → Nat → Int32) (k c : Nat) (x : Int32) : Nat → Nat → Int32 := va_up M k (upd (M k) c x)
theorem wm_app (M : Nat → Nat → Int32) (k c : Nat) (x : Int32) (k' c' : Nat) : wm M k c x k' c' = if k' = k ∧ c' = c then x else M k' c' := by
  unfold wm va_up upd
  by_cases h1 : k' = k
  · subst h1
    by_cases h2 : c' = c
    · simp [h2]
    · simp [h2]
  · simp [h1]
theorem wm_row (M : Nat → Nat → Int32) {k c : Nat} {x : Int32} {k' : Nat} (h : k' ≠ k) : wm M k c x k' = M k' := by
  unfold wm va_up
  simp [h]
theorem wm_ne (M : Nat → Nat → Int32) {k c : Nat} {x : Int32} {k' c' : Nat} (h : c' ≠ c) : wm M k c x k' c' = M k' c' := by
  rw [wm_app, if_neg (fun q => h q.2)]
theorem wm_is (M : Nat → Nat → Int32) {k c : Nat} {x : Int32} : wm M k c x k c = x := by
  rw [wm_app, if_pos ⟨rfl, rfl⟩]
def tk (F : Nat → Int32) (n : Nat) : Nat → Int32 := upd F 3 (F 3 + nI n)
theorem tk_tk (F : Nat → Int32) (a b : Nat) : tk (tk F a) b = tk F (a + b) := by
  unfold tk upd
  funext j
  by_cases h : j = 3
  · simp [h, Int32.add_assoc, nI_add]
  · simp [h]
theorem tk_ne (F : Nat → Int32) (n : Nat) {j : Nat} (h : j ≠ 3) : tk F n j = F j := by
  unfold tk upd
  simp [h]
theorem tk_0 (F : Nat → Int32) : tk F 0 = F := by
  unfold tk upd
  funext j
  by_cases h : j = 3
  · simp [h, nI_0]
  · simp [h]
theorem sk_len_lt (k : Nat) : sk_len k < 2 ^ 31 := by
  unfold sk_len
  split <;> decide
theorem get_eq {M : Nat → Nat → Int32} {F : Nat → Int32} {k c : Nat} (h : c < sk_len k) : sk_get (M, F) k (nI c) = some (M k c, (M, tk F 1)) := by
  unfold sk_get sk_rd
  rw [if_neg (nI_in h (sk_len_lt k)), nI_clamp (Nat.lt_trans h (sk_len_lt k))]
  rfl
theorem set_eq {M : Nat → Nat → Int32} {F : Nat → Int32} {k c : Nat} {x : Int32} (h : c < sk_len k) : sk_set (M, F) k (nI c) x = some (wm M k c x, tk F 1) := by
  unfold sk_set sk_wr
  rw [if_neg (nI_in h (sk_len_lt k)), nI_clamp (Nat.lt_trans h (sk_len_lt k))]
  rfl
theorem rd_eq {M : Nat → Nat → Int32} {F : Nat → Int32} {k c : Nat} (h : c < sk_len k) : sk_rd (M, F) k (nI c) = some (M k c) := by
  unfold sk_rd
  rw [if_neg (nI_in h (sk_len_lt k)), nI_clamp (Nat.lt_trans h (sk_len_lt k))]
theorem wr_eq {M : Nat → Nat → Int32} {F : Nat → Int32} {k c : Nat} {x : Int32} (h : c < sk_len k) : sk_wr (M, F) k (nI c) x = some (wm M k c x, F) := by
  unfold sk_wr
  rw [if_neg (nI_in h (sk_len_lt k)), nI_clamp (Nat.lt_trans h (sk_len_lt k))]
  rfl
theorem gb {β : Type} {M : Nat → Nat → Int32} {F : Nat → Int32} {k c : Nat} {f : Int32 × sk_T → Option β} (h : c < sk_len k) : (sk_get (M, F) k (nI c)).bind f = f (M k c, (M, tk F 1)) := by
  rw [get_eq h]
  rfl
theorem sb {β : Type} {M : Nat → Nat → Int32} {F : Nat → Int32} {k c : Nat} {x : Int32} {f : sk_T → Option β} (h : c < sk_len k) : (sk_set (M, F) k (nI c) x).bind f = f (wm M k c x, tk F 1) := by
  rw [set_eq h]
  rfl
theorem rb {β : Type} {M : Nat → Nat → Int32} {F : Nat → Int32} {k c : Nat} {f : Int32 → Option β} (h : c < sk_len k) : (sk_rd (M, F) k (nI c)).bind f = f (M k c) := by
  rw [rd_eq h]
  rfl
theorem wb {β : Type} {M : Nat → Nat → Int32} {F : Nat → Int32} {k c : Nat} {x : Int32} {f : sk_T → Option β} (h : c < sk_len k) : (sk_wr (M, F) k (nI c) x).bind f = f (wm M k c x, F) := by
  rw [wr_eq h]
  rfl
theorem eb {α β : Type} {x : Option α} {a : α} {f : α → Option β} (h : x = some a) : x.bind f = f a := by
  rw [h]
  rfl
theorem nI_m1 {c : Nat} (h : c < 2 ^ 31) : ¬ nI c = -1 := by
  intro q
  have a := nI_toInt h
  rw [q, show (-1 : Int32).toInt = -1 from by decide] at a
  omega
theorem nI_inj {a b : Nat} (ha : a < 2 ^ 31) (hb : b < 2 ^ 31) (h : nI a = nI b) : a = b := (nI_eq ha hb).mp h
theorem c200 {c : Nat} (h : c < 200) : c < 2 ^ 31 := Nat.lt_trans h (by decide)
/-- single cells in a row, with keys at least kk -/
def sg (M : Nat → Nat → Int32) (kk : Int32) : List Nat → Int32 → Prop
  | [], x => x = -1
  | c :: L, x => x = nI c ∧ c < 200 ∧ M 1 c = nI 0 ∧ M 2 c = -1 ∧ M 4 c = -1 ∧ kk ≤ M 0 c ∧ sg M kk L (M 3 c)
/-- subtrees of ranks r - 1 down to 0 in a row, with keys at least kk; S: all their cells -/
def kd (M : Nat → Nat → Int32) : Nat → Int32 → Int32 → List Nat → Prop
  | 0, _, x, S => x = -1 ∧ S = []
  | r + 1, kk, x, S => ∃ (c : Nat) (ss Sc Sk : List Nat), x = nI c ∧ c < 200 ∧ M 1 c = nI r ∧ kk ≤ M 0 c ∧ ss.length ≤ r ∧ sg M (M 0 c) ss (M 4 c) ∧ kd M r (M 0 c) (M 2 c) Sc ∧ kd M r kk (M 3 c) Sk ∧ S = (c :: (ss ++ Sc)) ++ Sk
/-- a tree of rank r with at most j single cells at its root c -/
def tr (M : Nat → Nat → Int32) (r j c : Nat) (S : List Nat) : Prop := ∃ (ss Sc : List Nat), c < 200 ∧ M 1 c = nI r ∧ ss.length ≤ j ∧ sg M (M 0 c) ss (M 4 c) ∧ kd M r (M 0 c) (M 2 c) Sc ∧ S = c :: (ss ++ Sc)
theorem sg_fr {M M' : Nat → Nat → Int32} {kk : Int32} : ∀ {L : List Nat} {x : Int32}, sg M kk L x → (∀ k, k < 5 → ∀ c ∈ L, M' k c = M k c) → sg M' kk L x := by
  intro L
  induction L with
  | nil => intro x h _; exact h
  | cons c L ih =>
    intro x h hf
    obtain ⟨h1, h2, h3, h4, h5, h6, h7⟩ := h
    have e := fun k hk => hf k hk c List.mem_cons_self
    refine ⟨h1, h2, ?_, ?_, ?_, ?_, ?_⟩
    · rw [e 1 (by decide)]; exact h3
    · rw [e 2 (by decide)]; exact h4
    · rw [e 4 (by decide)]; exact h5
    · rw [e 0 (by decide)]; exact h6
    · rw [e 3 (by decide)]; exact ih h7 (fun k hk d hd => hf k hk d (List.mem_cons_of_mem _ hd))
theorem sg_mono {M : Nat → Nat → Int32} {k1 k2 : Int32} (hk : k2 ≤ k1) : ∀ {L : List Nat} {x : Int32}, sg M k1 L x → sg M k2 L x := by
  intro L
  induction L with
  | nil => intro x h; exact h
  | cons c L ih =>
    intro x h
    obtain ⟨h1, h2, h3, h4, h5, h6, h7⟩ := h
    exact ⟨h1, h2, h3, h4, h5, Int32.le_trans hk h6, ih h7⟩
theorem sg_min {M : Nat → Nat → Int32} {kk : Int32} : ∀ {L : List Nat} {x : Int32}, sg M kk L x → ∀ d ∈ L, kk ≤ M 0 d := by
  intro L
  induction L with
  | nil => intro x h d hd; exact absurd hd List.not_mem_nil
  | cons c L ih =>
    intro x h d hd
    obtain ⟨h1, h2, h3, h4, h5, h6, h7⟩ := h
    rcases List.mem_cons.mp hd with rfl | hd
    · exact h6
    · exact ih h7 d hd
theorem kd_fr {M M' : Nat → Nat → Int32} : ∀ {r : Nat} {kk x : Int32} {S : List Nat}, kd M r kk x S → (∀ k, k < 5 → ∀ c ∈ S, M' k c = M k c) → kd M' r kk x S := by
  intro r
  induction r with
  | zero => intro kk x S h _; exact h
  | succ r ih =>
    intro kk x S h hf
    obtain ⟨c, ss, Sc, Sk, h1, h2, h3, h4, h5, h6, h7, h8, rfl⟩ := h
    have e := fun k hk => hf k hk c (by simp)
    refine ⟨c, ss, Sc, Sk, h1, h2, ?_, ?_, h5, ?_, ?_, ?_, rfl⟩
    · rw [e 1 (by decide)]; exact h3
    · rw [e 0 (by decide)]; exact h4
    · rw [e 0 (by decide), e 4 (by decide)]; exact sg_fr h6 (fun k hk d hd => hf k hk d (by simp [hd]))
    · rw [e 0 (by decide), e 2 (by decide)]; exact ih h7 (fun k hk d hd => hf k hk d (by simp [hd]))
    · rw [e 3 (by decide)]; exact ih h8 (fun k hk d hd => hf k hk d (by simp [hd]))
theorem kd_mono {M : Nat → Nat → Int32} {k1 k2 : Int32} (hk : k2 ≤ k1) : ∀ {r : Nat} {x : Int32} {S : List Nat}, kd M r k1 x S → kd M r k2 x S := by
  intro r
  induction r with
  | zero => intro x S h; exact h
  | succ r ih =>
    intro x S h
    obtain ⟨c, ss, Sc, Sk, h1, h2, h3, h4, h5, h6, h7, h8, h9⟩ := h
    exact ⟨c, ss, Sc, Sk, h1, h2, h3, Int32.le_trans hk h4, h5, h6, h7, ih h8, h9⟩
theorem kd_min {M : Nat → Nat → Int32} : ∀ {r : Nat} {kk x : Int32} {S : List Nat}, kd M r kk x S → ∀ d ∈ S, kk ≤ M 0 d := by
  intro r
  induction r with
  | zero =>
    intro kk x S h d hd
    rw [h.2] at hd
    exact absurd hd List.not_mem_nil
  | succ r ih =>
    intro kk x S h d hd
    obtain ⟨c, ss, Sc, Sk, h1, h2, h3, h4, h5, h6, h7, h8, rfl⟩ := h
    simp only [List.cons_append, List.mem_cons, List.mem_append] at hd
    rcases hd with rfl | (hd | hd) | hd
    · exact h4
    · exact Int32.le_trans h4 (sg_min h6 d hd)
    · exact Int32.le_trans h4 (ih h7 d hd)
    · exact ih h8 d hd
theorem kd_size {M : Nat → Nat → Int32} : ∀ {r : Nat} {kk x : Int32} {S : List Nat}, kd M r kk x S → 2 ^ r ≤ S.length + 1 := by
  intro r
  induction r with
  | zero => intro kk x S h; rw [h.2]; decide
  | succ r ih =>
    intro kk x S h
    obtain ⟨c, ss, Sc, Sk, h1, h2, h3, h4, h5, h6, h7, h8, rfl⟩ := h
    have a := ih h7
    have b := ih h8
    simp only [List.length_append, List.length_cons, Nat.pow_succ]
    omega
theorem tr_root {M : Nat → Nat → Int32} {r j c : Nat} {S : List Nat} (h : tr M r j c S) : c ∈ S := by
  obtain ⟨ss, Sc, h1, h2, h3, h4, h5, rfl⟩ := h
  exact List.mem_cons_self
theorem tr_lt {M : Nat → Nat → Int32} {r j c : Nat} {S : List Nat} (h : tr M r j c S) : c < 200 := by
  obtain ⟨ss, Sc, h1, h2, h3, h4, h5, rfl⟩ := h
  exact h1
theorem tr_rank {M : Nat → Nat → Int32} {r j c : Nat} {S : List Nat} (h : tr M r j c S) : M 1 c = nI r := by
  obtain ⟨ss, Sc, h1, h2, h3, h4, h5, rfl⟩ := h
  exact h2
theorem tr_min {M : Nat → Nat → Int32} {r j c : Nat} {S : List Nat} (h : tr M r j c S) : ∀ d ∈ S, M 0 c ≤ M 0 d := by
  obtain ⟨ss, Sc, h1, h2, h3, h4, h5, rfl⟩ := h
  intro d hd
  simp only [List.mem_cons, List.mem_append] at hd
  rcases hd with rfl | hd | hd
  · exact Int32.le_refl _
  · exact sg_min h4 d hd
  · exact kd_min h5 d hd
theorem tr_size {M : Nat → Nat → Int32} {r j c : Nat} {S : List Nat} (h : tr M r j c S) : 2 ^ r ≤ S.length := by
  obtain ⟨ss, Sc, h1, h2, h3, h4, h5, rfl⟩ := h
  have a := kd_size h5
  simp only [List.length_append, List.length_cons]
  omega
theorem tr_mono {M : Nat → Nat → Int32} {r j j' c : Nat} {S : List Nat} (h : tr M r j c S) (hj : j ≤ j') : tr M r j' c S := by
  obtain ⟨ss, Sc, h1, h2, h3, h4, h5, h6⟩ := h
  exact ⟨ss, Sc, h1, h2, Nat.le_trans h3 hj, h4, h5, h6⟩
theorem tr_fr {M M' : Nat → Nat → Int32} {r j c : Nat} {S : List Nat} (h : tr M r j c S) (hn : S.Nodup) (hf : ∀ k, k < 5 → ∀ d ∈ S, (k ≠ 3 ∨ d ≠ c) → M' k d = M k d) : tr M' r j c S := by
  obtain ⟨ss, Sc, h1, h2, h3, h4, h5, rfl⟩ := h
  have hc := (List.nodup_cons.mp hn).1
  have e := fun k hk h3 => hf k hk c List.mem_cons_self (Or.inl h3)
  have g : ∀ k, k < 5 → ∀ d ∈ ss ++ Sc, M' k d = M k d := fun k hk d hd => hf k hk d (List.mem_cons_of_mem _ hd) (Or.inr (fun q => hc (q ▸ hd)))
  refine ⟨ss, Sc, h1, ?_, h3, ?_, ?_, rfl⟩
  · rw [e 1 (by decide) (by decide)]; exact h2
  · rw [e 0 (by decide) (by decide), e 4 (by decide) (by decide)]; exact sg_fr h4 (fun k hk d hd => g k hk d (List.mem_append_left _ hd))
  · rw [e 0 (by decide) (by decide), e 2 (by decide) (by decide)]; exact kd_fr h5 (fun k hk d hd => g k hk d (List.mem_append_right _ hd))
theorem tr_frA {M M' : Nat → Nat → Int32} {r j c : Nat} {S : List Nat} (h : tr M r j c S) (hf : ∀ k, k < 5 → ∀ d ∈ S, M' k d = M k d) : tr M' r j c S := by
  obtain ⟨ss, Sc, h1, h2, h3, h4, h5, rfl⟩ := h
  have e := fun k hk => hf k hk c List.mem_cons_self
  refine ⟨ss, Sc, h1, ?_, h3, ?_, ?_, rfl⟩
  · rw [e 1 (by decide)]; exact h2
  · rw [e 0 (by decide), e 4 (by decide)]; exact sg_fr h4 (fun k hk d hd => hf k hk d (by simp [hd]))
  · rw [e 0 (by decide), e 2 (by decide)]; exact kd_fr h5 (fun k hk d hd => hf k hk d (by simp [hd]))
abbrev Tr : Type := Nat × Nat × List Nat
/-- a row of trees: (rank, root, cells) -/
def fo (M : Nat → Nat → Int32) : List Tr → Int32 → Prop
  | [], x => x = -1
  | t :: T, x => x = nI t.2.1 ∧ tr M t.1 t.1 t.2.1 t.2.2 ∧ fo M T (M 3 t.2.1)
def ce (T : List Tr) : List Nat := T.flatMap fun t => t.2.2
theorem ce_cons (t : Tr) (T : List Tr) : ce (t :: T) = t.2.2 ++ ce T := List.flatMap_cons
theorem ce_nil : ce [] = [] := rfl
theorem ce_app (T U : List Tr) : ce (T ++ U) = ce T ++ ce U := List.flatMap_append
theorem fo_fr {M M' : Nat → Nat → Int32} : ∀ {T : List Tr} {x : Int32}, fo M T x → (∀ k, k < 5 → ∀ d ∈ ce T, M' k d = M k d) → fo M' T x := by
  intro T
  induction T with
  | nil => intro x h _; exact h
  | cons t T ih =>
    intro x h hf
    obtain ⟨h1, h2, h3⟩ := h
    rw [ce_cons] at hf
    refine ⟨h1, tr_frA h2 (fun k hk d hd => hf k hk d (List.mem_append_left _ hd)), ?_⟩
    rw [hf 3 (by decide) _ (List.mem_append_left _ (tr_root h2))]
    exact ih h3 (fun k hk d hd => hf k hk d (List.mem_append_right _ hd))
theorem fo_len {M : Nat → Nat → Int32} : ∀ {T : List Tr} {x : Int32}, fo M T x → T.length ≤ (ce T).length := by
  intro T
  induction T with
  | nil => intro x _; exact Nat.le_refl _
  | cons t T ih =>
    intro x h
    obtain ⟨h1, h2, h3⟩ := h
    have a := ih h3
    have b := List.length_pos_of_mem (tr_root h2)
    rw [ce_cons, List.length_append, List.length_cons]
    omega
theorem fo_in {M : Nat → Nat → Int32} : ∀ {T : List Tr} {x : Int32}, fo M T x → ∀ t ∈ T, tr M t.1 t.1 t.2.1 t.2.2 := by
  intro T
  induction T with
  | nil => intro x _ t ht; exact absurd ht List.not_mem_nil
  | cons t T ih =>
    intro x h t' ht
    rcases List.mem_cons.mp ht with rfl | ht
    · exact h.2.1
    · exact ih h.2.2 t' ht
theorem ce_in {T : List Tr} {t : Tr} (h : t ∈ T) {d : Nat} (hd : d ∈ t.2.2) : d ∈ ce T := List.mem_flatMap.mpr ⟨t, h, hd⟩
/-- outside of S, and in the rows behind the fifth, nothing has changed -/
def fr (M M' : Nat → Nat → Int32) (S : List Nat) : Prop := ∀ k d, 5 ≤ k ∨ d ∉ S → M' k d = M k d
theorem fr_rf {M : Nat → Nat → Int32} {S : List Nat} : fr M M S := fun _ _ _ => rfl
theorem fr_tr {M M1 M2 : Nat → Nat → Int32} {S1 S2 S : List Nat} (h1 : fr M M1 S1) (h2 : fr M1 M2 S2) (s1 : ∀ d ∈ S1, d ∈ S) (s2 : ∀ d ∈ S2, d ∈ S) : fr M M2 S := by
  intro k d h
  have a : 5 ≤ k ∨ d ∉ S1 := h.imp id (fun q p => q (s1 d p))
  have b : 5 ≤ k ∨ d ∉ S2 := h.imp id (fun q p => q (s2 d p))
  rw [h2 k d b, h1 k d a]
theorem fr_sub {M M' : Nat → Nat → Int32} {S S' : List Nat} (h : fr M M' S) (s : ∀ d ∈ S, d ∈ S') : fr M M' S' := fun k d q => h k d (q.imp id (fun a b => a (s d b)))
theorem fr_wm {M : Nat → Nat → Int32} {k c : Nat} {x : Int32} {S : List Nat} (hk : k < 5) (hc : c ∈ S) : fr M (wm M k c x) S := by
  intro k' d h
  rw [wm_app]
  by_cases q : k' = k ∧ d = c
  · obtain ⟨q1, q2⟩ := q
    subst q1
    subst q2
    rcases h with h | h
    · omega
    · exact absurd hc h
  · rw [if_neg q]
end
section
/-! THE PLAIN LAW 2: link, skewLink, insert -/
def lk (M : Nat → Nat → Int32) (r t b : Nat) : Nat → Nat → Int32 := wm (wm (wm M 3 b (M 2 t)) 2 t (nI b)) 1 t (nI (r + 1))
theorem link2_eq {M : Nat → Nat → Int32} {F : Nat → Int32} {r t b : Nat} (ht : t < 200) (hb : b < 200) (hr : M 1 t = nI r) : sk_link2 (M, F) (nI t) (nI b) = some (nI t, (lk M r t b, tk F 5)) := by
  unfold sk_link2
  rw [gb (k := 2) ht]
  try dsimp only
  rw [sb (k := 3) hb]
  try dsimp only
  rw [sb (k := 2) ht]
  try dsimp only
  rw [gb (k := 1) ht]
  try dsimp only
  rw [sb (k := 1) ht]
  try dsimp only
  have e : wm (wm M 3 b (M 2 t)) 2 t (nI b) 1 t = nI r := by
    rw [wm_row _ (by decide), wm_row _ (by decide)]
    exact hr
  rw [e, nI_1]
  simp only [tk_tk]
  rfl
theorem lk_tr {M : Nat → Nat → Int32} {r t b : Nat} {St Sb : List Nat} (ht : tr M r r t St) (hb : tr M r r b Sb) (hn : (St ++ Sb).Nodup) (hk : M 0 t ≤ M 0 b) : ∃ S', tr (lk M r t b) (r + 1) r t S' ∧ S'.Perm (St ++ Sb) ∧ fr M (lk M r t b) (St ++ Sb) ∧ lk M r t b 0 = M 0 := by
  have hfr : fr M (lk M r t b) (St ++ Sb) := by
    refine fr_tr (S1 := St ++ Sb) (S2 := St ++ Sb) (fr_tr (S1 := St ++ Sb) (S2 := St ++ Sb) (fr_wm (by decide) ?_) (fr_wm (by decide) ?_) (fun _ h => h) (fun _ h => h)) (fr_wm (by decide) ?_) (fun _ h => h) (fun _ h => h)
    · exact List.mem_append_right _ (tr_root hb)
    · exact List.mem_append_left _ (tr_root ht)
    · exact List.mem_append_left _ (tr_root ht)
  have e0 : lk M r t b 0 = M 0 := by
    unfold lk
    rw [wm_row _ (by decide), wm_row _ (by decide), wm_row _ (by decide)]
  have e4 : lk M r t b 4 = M 4 := by
    unfold lk
    rw [wm_row _ (by decide), wm_row _ (by decide), wm_row _ (by decide)]
  have hne : t ≠ b := fun q => by
    have := (List.nodup_append.mp hn).2.2 t (tr_root ht) b (tr_root hb)
    exact this q
  have g : ∀ k d, d ≠ t → d ≠ b → lk M r t b k d = M k d := by
    intro k d h1 h2
    unfold lk
    rw [wm_ne _ h1, wm_ne _ h1, wm_ne _ h2]
  have et2 : lk M r t b 2 t = nI b := by
    unfold lk
    rw [wm_row _ (by decide), wm_is]
  have et1 : lk M r t b 1 t = nI (r + 1) := by
    unfold lk
    rw [wm_is]
  have eb3 : lk M r t b 3 b = M 2 t := by
    unfold lk
    rw [wm_row _ (by decide), wm_row _ (by decide), wm_is]
  have eb1 : lk M r t b 1 b = M 1 b := by
    unfold lk
    rw [wm_ne _ (Ne.symm hne), wm_row _ (by decide), wm_row _ (by decide)]
  have eb2 : lk M r t b 2 b = M 2 b := by
    unfold lk
    rw [wm_row _ (by decide), wm_ne _ (Ne.symm hne), wm_row _ (by decide)]
  obtain ⟨ss, Sc, t1, t2, t3, t4, t5, rfl⟩ := ht
  obtain ⟨sd, Sd, b1, b2, b3, b4, b5, rfl⟩ := hb
  have hx : ∀ d, d ∈ ss ∨ d ∈ Sc ∨ d ∈ sd ∨ d ∈ Sd → d ≠ t ∧ d ≠ b := by
    intro d hd
    simp only [List.cons_append, List.nodup_cons, List.nodup_append, List.mem_append, List.mem_cons] at hn
    grind
  refine ⟨t :: (ss ++ ((b :: (sd ++ Sd)) ++ Sc)), ⟨ss, (b :: (sd ++ Sd)) ++ Sc, t1, et1, t3, ?_, ?_, rfl⟩, ?_, hfr, e0⟩
  · rw [e0, e4]
    exact sg_fr t4 (fun k _ d hd => g k d (hx d (Or.inl hd)).1 (hx d (Or.inl hd)).2)
  · refine ⟨b, sd, Sd, Sc, et2, b1, ?_, ?_, b3, ?_, ?_, ?_, rfl⟩
    · rw [eb1]; exact b2
    · rw [e0]; exact hk
    · rw [e0, e4]
      exact sg_fr b4 (fun k _ d hd => g k d (hx d (Or.inr (Or.inr (Or.inl hd)))).1 (hx d (Or.inr (Or.inr (Or.inl hd)))).2)
    · rw [e0, eb2]
      exact kd_fr b5 (fun k _ d hd => g k d (hx d (Or.inr (Or.inr (Or.inr hd)))).1 (hx d (Or.inr (Or.inr (Or.inr hd)))).2)
    · rw [e0, eb3]
      exact kd_fr t5 (fun k _ d hd => g k d (hx d (Or.inr (Or.inl hd))).1 (hx d (Or.inr (Or.inl hd))).2)
  · rw [List.perm_iff_count]
    intro z
    simp only [List.count_append, List.count_cons]
    omega
theorem link_ok {M : Nat → Nat → Int32} {F : Nat → Int32} {r a b : Nat} {Sa Sb : List Nat} (ha : tr M r r a Sa) (hb : tr M r r b Sb) (hn : (Sa ++ Sb).Nodup) : ∃ t M' S', sk_link (M, F) (nI a) (nI b) = some (nI t, (M', tk F 7)) ∧ tr M' (r + 1) r t S' ∧ S'.Perm (Sa ++ Sb) ∧ fr M M' (Sa ++ Sb) ∧ M' 0 = M 0 := by
  unfold sk_link
  rw [gb (k := 0) (tr_lt hb)]
  try dsimp only
  rw [gb (k := 0) (tr_lt ha)]
  try dsimp only
  by_cases hk : M 0 a ≤ M 0 b
  · obtain ⟨S', h1, h2, h3, h4⟩ := lk_tr ha hb hn hk
    refine ⟨a, lk M r a b, S', ?_, h1, h2, h3, h4⟩
    rw [if_pos hk, link2_eq (tr_lt ha) (tr_lt hb) (tr_rank ha)]
    simp only [tk_tk]
  · have hk' : M 0 b ≤ M 0 a := (Int32.le_total (M 0 b) (M 0 a)).elim id (fun h => absurd h hk)
    have hn' : (Sb ++ Sa).Nodup := List.perm_append_comm.nodup hn
    obtain ⟨S', h1, h2, h3, h4⟩ := lk_tr hb ha hn' hk'
    refine ⟨b, lk M r b a, S', ?_, h1, h2.trans List.perm_append_comm, fr_sub h3 (fun d hd => (List.mem_append.mp hd).elim (List.mem_append_right _) (List.mem_append_left _)), h4⟩
    rw [if_neg hk, link2_eq (tr_lt hb) (tr_lt ha) (tr_rank hb)]
    simp only [tk_tk]
/-- a cell by itself -/
def one (M : Nat → Nat → Int32) (s : Nat) : Prop := s < 200 ∧ M 1 s = nI 0 ∧ M 2 s = -1 ∧ M 4 s = -1
theorem one_tr {M : Nat → Nat → Int32} {s : Nat} (h : one M s) : tr M 0 0 s [s] := ⟨[], [], h.1, h.2.1, Nat.le_refl _, h.2.2.2, ⟨h.2.2.1, rfl⟩, rfl⟩
theorem one_fr {M M' : Nat → Nat → Int32} {s : Nat} (h : one M s) (hf : ∀ k, k < 5 → M' k s = M k s) : one M' s := ⟨h.1, by rw [hf 1 (by decide)]; exact h.2.1, by rw [hf 2 (by decide)]; exact h.2.2.1, by rw [hf 4 (by decide)]; exact h.2.2.2⟩
def sw (M : Nat → Nat → Int32) (s t : Nat) : Nat → Nat → Int32 := wm (wm M 3 s (M 4 t)) 4 t (nI s)
theorem skew2_eq {M : Nat → Nat → Int32} {F : Nat → Int32} {s t : Nat} (hs : s < 200) (ht : t < 200) : sk_skew2 (M, F) (nI s) (nI t) = some (nI t, (sw M s t, tk F 3)) := by
  unfold sk_skew2
  rw [gb (k := 4) ht]
  try dsimp only
  rw [sb (k := 3) hs]
  try dsimp only
  rw [sb (k := 4) ht]
  try dsimp only
  simp only [tk_tk]
  rfl
theorem sw_tr {M : Nat → Nat → Int32} {r j s t : Nat} {S : List Nat} (ht : tr M r j t S) (hs : one M s) (hn : (s :: S).Nodup) (hk : M 0 t ≤ M 0 s) : ∃ S', tr (sw M s t) r (j + 1) t S' ∧ S'.Perm (s :: S) ∧ fr M (sw M s t) (s :: S) ∧ sw M s t 0 = M 0 := by
  have hfr : fr M (sw M s t) (s :: S) := fr_tr (S1 := s :: S) (S2 := s :: S) (fr_wm (by decide) List.mem_cons_self) (fr_wm (by decide) (List.mem_cons_of_mem _ (tr_root ht))) (fun _ h => h) (fun _ h => h)
  have e0 : sw M s t 0 = M 0 := by
    unfold sw
    rw [wm_row _ (by decide), wm_row _ (by decide)]
  have e1 : sw M s t 1 = M 1 := by
    unfold sw
    rw [wm_row _ (by decide), wm_row _ (by decide)]
  have e2 : sw M s t 2 = M 2 := by
    unfold sw
    rw [wm_row _ (by decide), wm_row _ (by decide)]
  have hst : s ≠ t := fun q => (List.nodup_cons.mp hn).1 (q ▸ tr_root ht)
  have e4t : sw M s t 4 t = nI s := by
    unfold sw
    rw [wm_is]
  have e4s : sw M s t 4 s = M 4 s := by
    unfold sw
    rw [wm_ne _ hst, wm_row _ (by decide)]
  have e3s : sw M s t 3 s = M 4 t := by
    unfold sw
    rw [wm_row _ (by decide), wm_is]
  have g : ∀ k d, d ≠ s → d ≠ t → sw M s t k d = M k d := by
    intro k d h1 h2
    unfold sw
    rw [wm_ne _ h2, wm_ne _ h1]
  obtain ⟨ss, Sc, t1, t2, t3, t4, t5, rfl⟩ := ht
  have hx : ∀ d, d ∈ ss ∨ d ∈ Sc → d ≠ s ∧ d ≠ t := by
    intro d hd
    simp only [List.nodup_cons, List.nodup_append, List.mem_append, List.mem_cons] at hn
    grind
  refine ⟨t :: ((s :: ss) ++ Sc), ⟨s :: ss, Sc, t1, by rw [e1]; exact t2, by simp only [List.length_cons]; omega, ?_, ?_, rfl⟩, ?_, hfr, e0⟩
  · refine ⟨e4t, hs.1, by rw [e1]; exact hs.2.1, by rw [e2]; exact hs.2.2.1, by rw [e4s]; exact hs.2.2.2, by rw [e0]; exact hk, ?_⟩
    rw [e3s, e0]
    exact sg_fr t4 (fun k _ d hd => g k d (hx d (Or.inl hd)).1 (hx d (Or.inl hd)).2)
  · rw [e0, e2]
    exact kd_fr t5 (fun k _ d hd => g k d (hx d (Or.inr hd)).1 (hx d (Or.inr hd)).2)
  · rw [List.perm_iff_count]
    intro z
    simp only [List.count_append, List.count_cons]
    omega
def sp (M : Nat → Nat → Int32) (s t : Nat) : Nat → Nat → Int32 := wm (wm M 0 t (M 0 s)) 0 s (M 0 t)
theorem sp_tr {M : Nat → Nat → Int32} {r j s t : Nat} {S : List Nat} (ht : tr M r j t S) (hn : (s :: S).Nodup) (hk : M 0 s ≤ M 0 t) : tr (sp M s t) r j t S ∧ fr M (sp M s t) (s :: S) ∧ ((s :: S).map (sp M s t 0)).Perm ((s :: S).map (M 0)) ∧ sp M s t 0 t = M 0 s ∧ sp M s t 0 s = M 0 t ∧ ∀ k, k ≠ 0 → sp M s t k = M k := by
  have hfr : fr M (sp M s t) (s :: S) := fr_tr (S1 := s :: S) (S2 := s :: S) (fr_wm (by decide) (List.mem_cons_of_mem _ (tr_root ht))) (fr_wm (by decide) List.mem_cons_self) (fun _ h => h) (fun _ h => h)
  have er : ∀ k, k ≠ 0 → sp M s t k = M k := by
    intro k h
    unfold sp
    rw [wm_row _ h, wm_row _ h]
  have hst : s ≠ t := fun q => (List.nodup_cons.mp hn).1 (q ▸ tr_root ht)
  have e0t : sp M s t 0 t = M 0 s := by
    unfold sp
    rw [wm_ne _ (Ne.symm hst), wm_is]
  have e0s : sp M s t 0 s = M 0 t := by
    unfold sp
    rw [wm_is]
  have g : ∀ k d, d ≠ s → d ≠ t → sp M s t k d = M k d := by
    intro k d h1 h2
    unfold sp
    rw [wm_ne _ h1, wm_ne _ h2]
  obtain ⟨ss, Sc, t1, t2, t3, t4, t5, rfl⟩ := ht
  have hx : ∀ d, d ∈ ss ∨ d ∈ Sc → d ≠ s ∧ d ≠ t := by
    intro d hd
    simp only [List.nodup_cons, List.nodup_append, List.mem_append, List.mem_cons] at hn
    grind
  refine ⟨⟨ss, Sc, t1, by rw [er 1 (by decide)]; exact t2, t3, ?_, ?_, rfl⟩, hfr, ?_, e0t, e0s, er⟩
  · rw [e0t, er 4 (by decide)]
    exact sg_mono hk (sg_fr t4 (fun k _ d hd => g k d (hx d (Or.inl hd)).1 (hx d (Or.inl hd)).2))
  · rw [e0t, er 2 (by decide)]
    exact kd_mono hk (kd_fr t5 (fun k _ d hd => g k d (hx d (Or.inr hd)).1 (hx d (Or.inr hd)).2))
  · simp only [List.map_cons]
    rw [e0s, e0t]
    have em : (ss ++ Sc).map (sp M s t 0) = (ss ++ Sc).map (M 0) := List.map_congr_left (fun d hd => g 0 d (hx d (List.mem_append.mp hd)).1 (hx d (List.mem_append.mp hd)).2)
    rw [em]
    exact List.Perm.swap _ _ _
theorem skew_ok {M : Nat → Nat → Int32} {F : Nat → Int32} {r s a b : Nat} {Sa Sb : List Nat} (hs : one M s) (ha : tr M r r a Sa) (hb : tr M r r b Sb) (hn : (s :: (Sa ++ Sb)).Nodup) : ∃ t M' k S', sk_skewLink (M, F) (nI s) (nI a) (nI b) = some (nI t, (M', tk F k)) ∧ k ≤ 14 ∧ tr M' (r + 1) (r + 1) t S' ∧ S'.Perm (s :: (Sa ++ Sb)) ∧ fr M M' (s :: (Sa ++ Sb)) ∧ (S'.map (M' 0)).Perm ((s :: (Sa ++ Sb)).map (M 0)) := by
  obtain ⟨t, M1, S1, h1, h2, h3, h4, h5⟩ := link_ok (F := F) ha hb (List.nodup_cons.mp hn).2
  have hs' : s ∉ Sa ++ Sb := (List.nodup_cons.mp hn).1
  have hs1 : one M1 s := one_fr hs (fun k _ => h4 k s (Or.inr hs'))
  have p1 : (s :: S1).Perm (s :: (Sa ++ Sb)) := h3.cons s
  have hn1 : (s :: S1).Nodup := p1.symm.nodup hn
  have hfr1 : fr M M1 (s :: (Sa ++ Sb)) := fr_sub h4 (fun d hd => List.mem_cons_of_mem _ hd)
  unfold sk_skewLink
  rw [eb h1]
  try dsimp only
  rw [gb (k := 0) (tr_lt h2)]
  try dsimp only
  rw [gb (k := 0) hs.1]
  try dsimp only
  by_cases hk : M1 0 t ≤ M1 0 s
  · obtain ⟨S', g1, g2, g3, g4⟩ := sw_tr h2 hs1 hn1 hk
    refine ⟨t, sw M1 s t, 12, S', ?_, by decide, g1, g2.trans p1, fr_tr hfr1 g3 (fun _ h => h) (fun d hd => p1.mem_iff.mp hd), ?_⟩
    · rw [if_pos hk, skew2_eq hs.1 (tr_lt h2)]
      simp only [tk_tk]
    · rw [g4, h5]
      exact (g2.trans p1).map _
  · have hk' : M1 0 s ≤ M1 0 t := (Int32.le_total (M1 0 s) (M1 0 t)).elim id (fun h => absurd h hk)
    obtain ⟨q1, q2, q3, q4, q5, q6⟩ := sp_tr h2 hn1 hk'
    have hs2 : one (sp M1 s t) s := ⟨hs1.1, by rw [q6 1 (by decide)]; exact hs1.2.1, by rw [q6 2 (by decide)]; exact hs1.2.2.1, by rw [q6 4 (by decide)]; exact hs1.2.2.2⟩
    obtain ⟨S', g1, g2, g3, g4⟩ := sw_tr q1 hs2 hn1 (by rw [q4, q5]; exact hk')
    refine ⟨t, sw (sp M1 s t) s t, 14, S', ?_, by decide, g1, g2.trans p1, fr_tr (fr_tr hfr1 q2 (fun _ h => h) (fun d hd => p1.mem_iff.mp hd)) g3 (fun _ h => h) (fun d hd => p1.mem_iff.mp hd), ?_⟩
    · rw [if_neg hk, sb (k := 0) (tr_lt h2)]
      try dsimp only
      rw [sb (k := 0) hs.1]
      try dsimp only
      rw [skew2_eq hs.1 (tr_lt h2)]
      simp only [tk_tk]
      rfl
    · rw [g4]
      refine (g2.map _).trans (q3.trans ?_)
      rw [h5]
      exact p1.map _
/-- ranks that rise; ranks that rise but for the first two, which may be the same -/
def inc (T : List Tr) : Prop := T.Pairwise (fun a b => a.1 < b.1)
def sh2 (T : List Tr) : Prop := match T with
  | [] => True
  | t :: T => inc T ∧ ∀ t' ∈ T, t.1 ≤ t'.1
theorem inc_sh2 {T : List Tr} (h : inc T) : sh2 T := by
  cases T with
  | nil => trivial
  | cons t T => exact ⟨(List.pairwise_cons.mp h).2, fun t' ht => Nat.le_of_lt ((List.pairwise_cons.mp h).1 t' ht)⟩
theorem rk_small {M : Nat → Nat → Int32} {r j c : Nat} {S : List Nat} (h : tr M r j c S) (hl : S.length ≤ 200) : r < 2 ^ 31 := by
  have a := tr_size h
  have b : r < 2 ^ r := Nat.lt_two_pow_self
  omega
theorem ins3_eq {M : Nat → Nat → Int32} {F : Nat → Int32} {s : Nat} {x : Int32} (hs : s < 200) : sk_ins3 (M, F) (nI s) x = some (nI s, (wm M 3 s x, tk F 1)) := by
  unfold sk_ins3
  rw [sb (k := 3) hs]
theorem ins3_ok {M : Nat → Nat → Int32} {s : Nat} {T : List Tr} {x : Int32} (hs : one M s) (hf : fo M T x) (hi : inc T) (hn : (s :: ce T).Nodup) : fo (wm M 3 s x) ((0, s, [s]) :: T) (nI s) ∧ sh2 ((0, s, [s]) :: T) ∧ (ce ((0, s, [s]) :: T)).Perm (s :: ce T) ∧ fr M (wm M 3 s x) (s :: ce T) ∧ ((ce ((0, s, [s]) :: T)).map (wm M 3 s x 0)).Perm ((s :: ce T).map (M 0)) := by
  have hs' := (List.nodup_cons.mp hn).1
  refine ⟨⟨rfl, one_tr ⟨hs.1, by rw [wm_row _ (by decide)]; exact hs.2.1, by rw [wm_row _ (by decide)]; exact hs.2.2.1, by rw [wm_row _ (by decide)]; exact hs.2.2.2⟩, ?_⟩, ⟨hi, fun _ _ => Nat.zero_le _⟩, ?_, fr_wm (by decide) List.mem_cons_self, ?_⟩
  · dsimp only
    rw [wm_is]
    exact fo_fr hf (fun k _ d hd => wm_ne _ (fun q => hs' (q ▸ hd)))
  · rw [ce_cons]
    exact List.Perm.refl _
  · rw [ce_cons, wm_row _ (by decide)]
    exact List.Perm.refl _
theorem insert_ok {M : Nat → Nat → Int32} {F : Nat → Int32} {s : Nat} {T : List Tr} {x : Int32} (hs : one M s) (hf : fo M T x) (hi : sh2 T) (hn : (s :: ce T).Nodup) (hl : (ce T).length ≤ 200) : ∃ y M' k T', sk_insert (M, F) (nI s) x = some (y, (M', tk F k)) ∧ k ≤ 19 ∧ fo M' T' y ∧ sh2 T' ∧ (ce T').Perm (s :: ce T) ∧ fr M M' (s :: ce T) ∧ ((ce T').map (M' 0)).Perm ((s :: ce T).map (M 0)) := by
  unfold sk_insert
  cases T with
  | nil =>
    have hx : x = -1 := hf
    subst hx
    rw [if_pos rfl]
    unfold sk_ins2
    rw [if_pos rfl, ins3_eq hs.1]
    obtain ⟨a1, a2, a3, a4, a5⟩ := ins3_ok hs hf List.Pairwise.nil hn
    exact ⟨nI s, _, 1, _, rfl, by decide, a1, a2, a3, a4, a5⟩
  | cons t T =>
    obtain ⟨r1, c1, S1⟩ := t
    obtain ⟨hx, h1, h2⟩ := hf
    dsimp only at hx h1 h2
    obtain rfl := hx
    rw [if_neg (nI_m1 (c200 (tr_lt h1))), gb (k := 3) (tr_lt h1)]
    try dsimp only
    unfold sk_ins2
    cases T with
    | nil =>
      have e : M 3 c1 = -1 := h2
      rw [if_pos e, ins3_eq hs.1]
      obtain ⟨a1, a2, a3, a4, a5⟩ := ins3_ok (T := [(r1, c1, S1)]) hs ⟨rfl, h1, h2⟩ (List.pairwise_singleton _ _) hn
      exact ⟨nI s, _, 2, _, by simp only [tk_tk], by decide, a1, a2, a3, a4, a5⟩
    | cons t2 T =>
      obtain ⟨r2, c2, S2⟩ := t2
      obtain ⟨hx2, h3, h4⟩ := h2
      dsimp only at hx2 h3 h4
      have hlc : S1.length ≤ 200 ∧ S2.length ≤ 200 := by
        simp only [ce_cons, List.length_append] at hl
        omega
      rw [hx2, if_neg (nI_m1 (c200 (tr_lt h3))), gb (k := 1) (tr_lt h1)]
      try dsimp only
      rw [gb (k := 1) (tr_lt h3)]
      try dsimp only
      rw [tr_rank h1, tr_rank h3]
      by_cases hr : nI r1 = nI r2
      · obtain rfl : r1 = r2 := nI_inj (rk_small h1 hlc.1) (rk_small h3 hlc.2) hr
        rw [if_pos rfl, gb (k := 3) (tr_lt h3)]
        try dsimp only
        have hn' : (s :: (S1 ++ S2)).Nodup := by
          refine hn.sublist (List.Sublist.cons_cons s ?_)
          simp only [ce_cons]
          rw [← List.append_assoc]
          exact List.sublist_append_left _ _
        obtain ⟨t, M', k, S', g1, g2, g3, g4, g5, g6⟩ := skew_ok (F := tk (tk (tk (tk F 1) 1) 1) 1) hs h1 h3 hn'
        have hdis : ∀ d ∈ ce T, d ∉ s :: (S1 ++ S2) := by
          intro d hd hq
          simp only [ce_cons, List.nodup_cons, List.nodup_append, List.mem_append, List.mem_cons] at hn hq
          grind
        rw [eb g1]
        try dsimp only
        rw [sb (k := 3) (tr_lt g3)]
        have ht : t ∈ s :: (S1 ++ S2) := g4.mem_iff.mp (tr_root g3)
        have pc : (ce ((r1 + 1, t, S') :: T)).Perm (s :: ce ((r1, c1, S1) :: (r1, c2, S2) :: T)) := by
          simp only [ce_cons]
          rw [← List.append_assoc]
          exact g4.append_right _
        have hnS : S'.Nodup := g4.symm.nodup hn'
        refine ⟨nI t, wm M' 3 t (M 3 c2), 4 + k + 1, (r1 + 1, t, S') :: T, by simp only [tk_tk], by omega, ⟨rfl, ?_, ?_⟩, ⟨(List.pairwise_cons.mp hi.1).2, fun t' ht' => (List.pairwise_cons.mp hi.1).1 t' ht'⟩, pc, ?_, ?_⟩
        · dsimp only
          refine tr_fr g3 hnS (fun k' _ d hd hq => ?_)
          rw [wm_app, if_neg (fun w => hq.elim (fun a => a w.1) (fun a => a w.2))]
        · dsimp only
          rw [wm_is]
          refine fo_fr h4 (fun k' _ d hd => ?_)
          have hdt : d ≠ t := fun q => hdis d hd (q.symm ▸ ht)
          rw [wm_ne _ hdt, g5 k' d (Or.inr (hdis d hd))]
        · refine fr_tr g5 (fr_wm (S := s :: (S1 ++ S2)) (by decide) ht) ?_ ?_ <;> intro d hd <;> simp only [ce_cons, List.mem_cons, List.mem_append] at hd ⊢ <;> grind
        · rw [wm_row _ (by decide)]
          have em : (ce T).map (M' 0) = (ce T).map (M 0) := List.map_congr_left (fun d hd => g5 0 d (Or.inr (hdis d hd)))
          simp only [ce_cons, List.map_append, List.map_cons]
          rw [em]
          have g6' := g6.append_right ((ce T).map (M 0))
          simp only [List.map_append, List.map_cons, List.cons_append, List.append_assoc] at g6'
          exact g6'
      · rw [if_neg hr, ins3_eq hs.1]
        have hinc : inc ((r1, c1, S1) :: (r2, c2, S2) :: T) := by
          refine List.pairwise_cons.mpr ⟨fun t' ht' => ?_, hi.1⟩
          have a := hi.2 t' ht'
          have b := hi.2 (r2, c2, S2) List.mem_cons_self
          dsimp only at a b ⊢
          have c : r1 ≠ r2 := fun q => hr (by rw [q])
          rcases List.mem_cons.mp ht' with rfl | ht''
          · dsimp only; omega
          · have d := (List.pairwise_cons.mp hi.1).1 t' ht''
            dsimp only at d
            omega
        obtain ⟨a1, a2, a3, a4, a5⟩ := ins3_ok (T := (r1, c1, S1) :: (r2, c2, S2) :: T) hs ⟨rfl, h1, hx2, h3, h4⟩ hinc hn
        exact ⟨nI s, _, 4, _, by simp only [tk_tk], by decide, a1, a2, a3, a4, a5⟩
end
section
/-! THE PLAIN LAW 3: put, norm, merge, turned -/
theorem mv_ok {M : Nat → Nat → Int32} {r c : Nat} {S : List Nat} {B : List Tr} {m : Int32} (ht : tr M r r c S) (hB : fo M B m) (hn : (S ++ ce B).Nodup) : fo (wm M 3 c m) ((r, c, S) :: B) (nI c) := by
  refine ⟨rfl, tr_fr ht (List.nodup_append.mp hn).1 (fun k _ d _ hq => ?_), ?_⟩
  · rw [wm_app, if_neg (fun w => hq.elim (fun a => a w.1) (fun a => a w.2))]
  · dsimp only
    rw [wm_is]
    refine fo_fr hB (fun k _ d hd => wm_ne _ (fun q => ?_))
    subst q
    exact (List.nodup_append.mp hn).2.2 d (tr_root ht) d hd rfl
theorem wm_fo {M : Nat → Nat → Int32} {k c : Nat} {x y : Int32} {T : List Tr} (h : fo M T y) (hc : c ∉ ce T) : fo (wm M k c x) T y := fo_fr h (fun _ _ d hd => wm_ne _ (fun q => hc (q ▸ hd)))
theorem put2_eq {M : Nat → Nat → Int32} {F : Nat → Int32} {t : Nat} {x : Int32} (ht : t < 200) : sk_put2 (M, F) (nI t) x = some (nI t, (wm M 3 t x, tk F 1)) := by
  unfold sk_put2
  rw [sb (k := 3) ht]
theorem put_ok : ∀ (T : List Tr) {M : Nat → Nat → Int32} {F : Nat → Int32} {r t : Nat} {St : List Nat} {x : Int32} {n : Nat}, tr M r r t St → fo M T x → inc T → (∀ t' ∈ T, r ≤ t'.1) → (St ++ ce T).Nodup → (St ++ ce T).length ≤ 200 → T.length < n → ∃ y M' k T', sk_putL n (M, F) (nI t) x = some (y, (M', tk F k)) ∧ k + 10 * T'.length ≤ 10 * T.length + 13 ∧ T' ≠ [] ∧ fo M' T' y ∧ inc T' ∧ (∀ t' ∈ T', r ≤ t'.1) ∧ (ce T').Perm (St ++ ce T) ∧ fr M M' (St ++ ce T) ∧ M' 0 = M 0 := by
  intro T
  induction T with
  | nil =>
    intro M F r t St x n ht hf hi hr hn hl hlt
    obtain ⟨n, rfl⟩ : ∃ m, n = m + 1 := ⟨n - 1, by simp only [List.length_nil] at hlt; omega⟩
    have hx : x = -1 := hf
    rw [sk_putL, if_pos hx, put2_eq (tr_lt ht)]
    refine ⟨nI t, wm M 3 t x, 1, [(r, t, St)], rfl, by simp only [List.length_cons, List.length_nil]; omega, List.cons_ne_nil _ _, mv_ok ht hf hn, List.pairwise_singleton _ _, ?_, ?_, fr_wm (by decide) (List.mem_append_left _ (tr_root ht)), wm_row _ (by decide)⟩
    · intro t' h'
      rw [List.mem_singleton] at h'
      subst h'
      exact Nat.le_refl _
    · rw [ce_cons]
  | cons t1 T ih =>
    intro M F r t St x n ht hf hi hr hn hl hlt
    obtain ⟨n, rfl⟩ : ∃ m, n = m + 1 := ⟨n - 1, by simp only [List.length_cons] at hlt; omega⟩
    obtain ⟨r1, c1, S1⟩ := t1
    have hf0 := hf
    obtain ⟨hx, h1, h2⟩ := hf
    dsimp only at hx h1 h2
    have hlc : St.length ≤ 200 ∧ S1.length ≤ 200 ∧ T.length < n := by
      simp only [ce_cons, List.length_append, List.length_cons] at hl hlt
      omega
    have hr1 : r ≤ r1 := hr (r1, c1, S1) List.mem_cons_self
    have hi1 : ∀ t' ∈ T, r1 < t'.1 := fun t' ht' => (List.pairwise_cons.mp hi).1 t' ht'
    subst hx
    rw [sk_putL, if_neg (nI_m1 (c200 (tr_lt h1))), gb (k := 1) (tr_lt h1)]
    try dsimp only
    rw [gb (k := 1) (tr_lt ht)]
    try dsimp only
    rw [tr_rank h1, tr_rank ht]
    by_cases he : nI r1 = nI r
    · obtain rfl : r1 = r := nI_inj (rk_small h1 hlc.2.1) (rk_small ht hlc.1) he
      rw [if_pos rfl, gb (k := 3) (tr_lt h1)]
      try dsimp only
      have hnl : (St ++ S1).Nodup := by
        refine hn.sublist ?_
        rw [ce_cons, ← List.append_assoc]
        exact List.sublist_append_left _ _
      obtain ⟨t2, M1, S2, g1, g2, g3, g4, g5⟩ := link_ok (F := tk (tk (tk F 1) 1) 1) ht h1 hnl
      have hdis : ∀ d ∈ ce T, d ∉ St ++ S1 := by
        intro d hd hq
        rw [ce_cons, ← List.append_assoc] at hn
        exact (List.nodup_append.mp hn).2.2 d hq d hd rfl
      have h2' : fo M1 T (M 3 c1) := fo_fr h2 (fun k _ d hd => g4 k d (Or.inr (hdis d hd)))
      have hp : (S2 ++ ce T).Perm (St ++ ce ((r1, c1, S1) :: T)) := by
        rw [ce_cons, ← List.append_assoc]
        exact g3.append_right _
      obtain ⟨y, M2, k, T2, f1, f2, f3, f4, f5, f6, f7, f8, f9⟩ := ih (F := tk (tk (tk (tk F 1) 1) 1) 7) (tr_mono g2 (Nat.le_succ _)) h2' (List.pairwise_cons.mp hi).2 (fun t' ht' => hi1 t' ht') (hp.symm.nodup hn) (by rw [hp.length_eq]; exact hl) hlc.2.2
      rw [eb g1]
      try dsimp only
      refine ⟨y, M2, 10 + k, T2, ?_, by simp only [List.length_cons]; omega, f3, f4, f5, fun t' ht' => Nat.le_of_lt (f6 t' ht'), f7.trans hp, ?_, f9.trans g5⟩
      · rw [f1]
        simp only [tk_tk]
      · refine fr_tr g4 f8 ?_ (fun d hd => hp.mem_iff.mp hd)
        intro d hd
        rw [ce_cons, ← List.append_assoc]
        exact List.mem_append_left _ hd
    · rw [if_neg he, put2_eq (tr_lt ht)]
      have hne : r ≠ r1 := fun q => he (by rw [q])
      refine ⟨nI t, wm M 3 t (nI c1), 3, (r, t, St) :: (r1, c1, S1) :: T, by simp only [tk_tk], by simp only [List.length_cons]; omega, List.cons_ne_nil _ _, mv_ok ht hf0 hn, ?_, ?_, ?_, fr_wm (by decide) (List.mem_append_left _ (tr_root ht)), wm_row _ (by decide)⟩
      · refine List.pairwise_cons.mpr ⟨fun t' ht' => ?_, hi⟩
        rcases List.mem_cons.mp ht' with rfl | ht''
        · dsimp only; omega
        · have d := hi1 t' ht''
          dsimp only; omega
      · intro t' ht'
        rcases List.mem_cons.mp ht' with rfl | ht''
        · exact Nat.le_refl _
        · exact hr t' ht''
      · rw [ce_cons (r, t, St)]
theorem norm_ok {M : Nat → Nat → Int32} {F : Nat → Int32} {T : List Tr} {x : Int32} (hf : fo M T x) (hs : sh2 T) (hn : (ce T).Nodup) (hl : (ce T).length ≤ 200) : ∃ y M' k T', sk_norm (M, F) x = some (y, (M', tk F k)) ∧ k + 10 * T'.length ≤ 10 * T.length + 4 ∧ fo M' T' y ∧ inc T' ∧ (ce T').Perm (ce T) ∧ fr M M' (ce T) ∧ M' 0 = M 0 := by
  unfold sk_norm
  cases T with
  | nil =>
    have hx : x = -1 := hf
    rw [if_pos hx]
    exact ⟨-1, M, 0, [], by rw [tk_0], by decide, rfl, List.Pairwise.nil, List.Perm.refl _, fr_rf, rfl⟩
  | cons t T =>
    obtain ⟨r, c, S⟩ := t
    have hlen := fo_len hf
    obtain ⟨hx, h1, h2⟩ := hf
    dsimp only at hx h1 h2
    subst hx
    rw [if_neg (nI_m1 (c200 (tr_lt h1))), gb (k := 3) (tr_lt h1)]
    try dsimp only
    rw [ce_cons] at hn hl ⊢
    obtain ⟨y, M', k, T', f1, f2, f3, f4, f5, f6, f7, f8, f9⟩ := put_ok T (F := tk F 1) (n := sk_FU) h1 h2 hs.1 (fun t' ht' => hs.2 t' ht') hn hl (by
      rw [ce_cons] at hlen
      simp only [List.length_cons] at hlen
      unfold sk_FU
      dsimp only at hl hlen
      omega)
    have h0 : 0 < T'.length := List.length_pos_iff.mpr f3
    unfold sk_put
    rw [eb f1]
    refine ⟨y, M', 1 + k, T', by simp only [tk_tk], by simp only [List.length_cons]; omega, f4, f5, f7, f8, f9⟩
theorem mer3_ok : ∀ (B : List Tr) {M : Nat → Nat → Int32} {F : Nat → Int32} {T : List Tr} {x a : Int32} {n : Nat}, fo M B a → fo M T x → inc T → B.Pairwise (fun a b => b.1 ≤ a.1) → (∀ b ∈ B, ∀ t ∈ T, b.1 ≤ t.1) → (ce B ++ ce T).Nodup → (ce B ++ ce T).length ≤ 200 → B.length < n → ∃ y M' k T', sk_mer3 n (M, F) x a = some (y, (M', tk F k)) ∧ k + 10 * T'.length ≤ 10 * T.length + 14 * B.length ∧ fo M' T' y ∧ inc T' ∧ (ce T').Perm (ce B ++ ce T) ∧ fr M M' (ce B ++ ce T) ∧ M' 0 = M 0 := by
  intro B
  induction B with
  | nil =>
    intro M F T x a n hB hf hi hd hb hn hl hlt
    obtain ⟨n, rfl⟩ : ∃ m, n = m + 1 := ⟨n - 1, by simp only [List.length_nil] at hlt; omega⟩
    have ha : a = -1 := hB
    rw [sk_mer3, if_pos ha]
    exact ⟨x, M, 0, T, by rw [tk_0], by simp only [List.length_nil]; omega, hf, hi, List.Perm.refl _, fr_rf, rfl⟩
  | cons b B ih =>
    intro M F T x a n hB hf hi hd hb hn hl hlt
    obtain ⟨n, rfl⟩ : ∃ m, n = m + 1 := ⟨n - 1, by simp only [List.length_cons] at hlt; omega⟩
    obtain ⟨r, c, S⟩ := b
    obtain ⟨hx, h1, h2⟩ := hB
    dsimp only at hx h1 h2
    subst hx
    rw [sk_mer3, if_neg (nI_m1 (c200 (tr_lt h1))), gb (k := 3) (tr_lt h1)]
    try dsimp only
    have hp0 : (ce ((r, c, S) :: B) ++ ce T).Perm (ce B ++ (S ++ ce T)) := by
      rw [ce_cons, List.perm_iff_count]
      intro z
      simp only [List.count_append]
      omega
    have hn0 := hp0.nodup hn
    have hn1 := (List.nodup_append.mp hn0).2.1
    have hlen := fo_len hf
    have hl0 : (S ++ ce T).length ≤ 200 ∧ T.length < sk_FU := by
      rw [ce_cons] at hl
      simp only [List.length_append] at hl ⊢
      unfold sk_FU
      omega
    obtain ⟨y, M1, k, T1, f1, f2, f3, f4, f5, f6, f7, f8, f9⟩ := put_ok T (F := tk F 1) (n := sk_FU) h1 hf hi (fun t' ht' => hb (r, c, S) List.mem_cons_self t' ht') hn1 hl0.1 hl0.2
    have hB1 : fo M1 B (M 3 c) := fo_fr h2 (fun k _ d hd => f8 k d (Or.inr (fun q => (List.nodup_append.mp hn0).2.2 d hd d q rfl)))
    have hp1 : (ce B ++ ce T1).Perm (ce ((r, c, S) :: B) ++ ce T) := (f7.append_left _).trans hp0.symm
    obtain ⟨y2, M2, k2, T2, e1, e2, e3, e4, e5, e6, e7⟩ := ih (F := tk (tk F 1) k) (n := n) hB1 f4 f5 (List.pairwise_cons.mp hd).2 (fun b' hb' t' ht' => Nat.le_trans ((List.pairwise_cons.mp hd).1 b' hb') (f6 t' ht')) (hp1.symm.nodup hn) (by rw [hp1.length_eq]; exact hl) (by simp only [List.length_cons] at hlt; omega)
    unfold sk_put
    rw [eb f1]
    try dsimp only
    rw [e1]
    refine ⟨y2, M2, 1 + k + k2, T2, by simp only [tk_tk], by simp only [List.length_cons]; omega, e3, e4, e5.trans hp1, ?_, e7.trans f9⟩
    refine fr_tr f8 e6 (fun d hd => hp0.mem_iff.mpr (List.mem_append_right _ hd)) (fun d hd => hp1.mem_iff.mp hd)
theorem merL_ok : ∀ (n : Nat) {M : Nat → Nat → Int32} {F : Nat → Int32} {X Y B : List Tr} {x y a : Int32}, fo M X x → fo M Y y → fo M B a → inc X → inc Y → B.Pairwise (fun a b => b.1 ≤ a.1) → (∀ b ∈ B, ∀ t ∈ X, b.1 ≤ t.1) → (∀ b ∈ B, ∀ t ∈ Y, b.1 ≤ t.1) → (ce B ++ (ce X ++ ce Y)).Nodup → (ce B ++ (ce X ++ ce Y)).length ≤ 200 → X.length + Y.length < n → ∃ z M' k T', sk_merL n (M, F) x y a = some (z, (M', tk F k)) ∧ k + 10 * T'.length ≤ 18 * (X.length + Y.length) + 14 * B.length ∧ fo M' T' z ∧ inc T' ∧ (ce T').Perm (ce B ++ (ce X ++ ce Y)) ∧ fr M M' (ce B ++ (ce X ++ ce Y)) ∧ M' 0 = M 0 := by
  intro n
  induction n with
  | zero =>
    intro M F X Y B x y a _ _ _ _ _ _ _ _ _ _ h
    omega
  | succ n ih =>
    intro M F X Y B x y a hX hY hB iX iY dB bX bY hn hl hlt
    have lenB := fo_len hB
    rw [sk_merL]
    cases X with
    | nil =>
      have hx : x = -1 := hX
      subst hx
      rw [if_pos rfl]
      unfold sk_mer2
      rw [if_pos rfl]
      simp only [ce_nil, List.nil_append] at hn hl ⊢
      have hBl : B.length < sk_FU := by
        simp only [List.length_append] at hl
        unfold sk_FU
        omega
      obtain ⟨z, M', k, T', e1, e2, e3, e4, e5, e6, e7⟩ := mer3_ok B (F := F) (n := sk_FU) hB hY iY dB bY hn hl hBl
      exact ⟨z, M', k, T', e1, by simp only [List.length_nil]; omega, e3, e4, e5, e6, e7⟩
    | cons t1 X =>
      obtain ⟨r1, c1, S1⟩ := t1
      have hX0 := hX
      obtain ⟨hx, h1, h1'⟩ := hX
      dsimp only at hx h1 h1'
      subst hx
      have m1 := nI_m1 (c200 (tr_lt h1))
      rw [if_neg m1]
      cases Y with
      | nil =>
        have hy : y = -1 := hY
        subst hy
        rw [if_pos rfl]
        unfold sk_mer2
        rw [if_neg m1]
        simp only [ce_nil, List.append_nil] at hn hl ⊢
        have hBl : B.length < sk_FU := by
          simp only [List.length_append] at hl
          unfold sk_FU
          omega
        obtain ⟨z, M', k, T', e1, e2, e3, e4, e5, e6, e7⟩ := mer3_ok B (F := F) (n := sk_FU) hB hX0 iX dB bX hn hl hBl
        exact ⟨z, M', k, T', e1, by simp only [List.length_nil]; omega, e3, e4, e5, e6, e7⟩
      | cons t2 Y =>
        obtain ⟨r2, c2, S2⟩ := t2
        have hY0 := hY
        obtain ⟨hy, h2, h2'⟩ := hY
        dsimp only at hy h2 h2'
        subst hy
        have m2 := nI_m1 (c200 (tr_lt h2))
        have hlc : S1.length ≤ 200 ∧ S2.length ≤ 200 := by
          simp only [ce_cons, List.length_append] at hl
          omega
        have q1 := rk_small h1 hlc.1
        have q2 := rk_small h2 hlc.2
        rw [if_neg m2, gb (k := 1) (tr_lt h1)]
        try dsimp only
        rw [gb (k := 1) (tr_lt h2)]
        try dsimp only
        rw [tr_rank h1, tr_rank h2]
        have iX' := List.pairwise_cons.mp iX
        have iY' := List.pairwise_cons.mp iY
        by_cases hc : nI r2 < nI r1
        · have hc' := (nI_ltI q2 q1).mp hc
          rw [if_pos hc, gb (k := 3) (tr_lt h2)]
          try dsimp only
          rw [sb (k := 3) (tr_lt h2)]
          try dsimp only
          have hp : (ce ((r2, c2, S2) :: B) ++ (ce ((r1, c1, S1) :: X) ++ ce Y)).Perm (ce B ++ (ce ((r1, c1, S1) :: X) ++ ce ((r2, c2, S2) :: Y))) := by
            rw [ce_cons (r2, c2, S2) B, ce_cons (r2, c2, S2) Y, List.perm_iff_count]
            intro z
            simp only [List.count_append]
            omega
          have hn' := hp.symm.nodup hn
          have hnB : (S2 ++ ce B).Nodup := by
            rw [ce_cons (r2, c2, S2) B] at hn'
            exact (List.nodup_append.mp hn').1
          have hcx : c2 ∉ ce ((r1, c1, S1) :: X) := fun q => (List.nodup_append.mp hn').2.2 c2 (by rw [ce_cons]; exact List.mem_append_left _ (tr_root h2)) c2 (List.mem_append_left _ q) rfl
          have hcy : c2 ∉ ce Y := fun q => (List.nodup_append.mp hn').2.2 c2 (by rw [ce_cons]; exact List.mem_append_left _ (tr_root h2)) c2 (List.mem_append_right _ q) rfl
          obtain ⟨z, M', k, T', e1, e2, e3, e4, e5, e6, e7⟩ := ih (F := tk (tk (tk (tk F 1) 1) 1) 1) (wm_fo (k := 3) (c := c2) (x := a) hX0 hcx) (wm_fo (k := 3) (c := c2) (x := a) h2' hcy) (mv_ok h2 hB hnB) iX iY'.2 (List.pairwise_cons.mpr ⟨fun b hb => bY b hb (r2, c2, S2) List.mem_cons_self, dB⟩) (by
            intro b hb t ht
            rcases List.mem_cons.mp hb with rfl | hb
            · rcases List.mem_cons.mp ht with rfl | ht
              · exact Nat.le_of_lt hc'
              · exact Nat.le_of_lt (Nat.lt_trans hc' (iX'.1 t ht))
            · exact bX b hb t ht) (by
            intro b hb t ht
            rcases List.mem_cons.mp hb with rfl | hb
            · exact Nat.le_of_lt (iY'.1 t ht)
            · exact bY b hb t (List.mem_cons_of_mem _ ht)) hn' (by rw [hp.length_eq]; exact hl) (by simp only [List.length_cons] at hlt ⊢; omega)
          rw [e1]
          refine ⟨z, M', 4 + k, T', by simp only [tk_tk], by simp only [List.length_cons] at e2 ⊢; omega, e3, e4, e5.trans hp, ?_, e7.trans (wm_row _ (by decide))⟩
          refine fr_tr (fr_wm (S := [c2]) (by decide) (List.mem_singleton.mpr rfl)) e6 ?_ (fun d hd => hp.mem_iff.mp hd)
          intro d hd
          rw [List.mem_singleton] at hd
          subst hd
          refine hp.mem_iff.mp (List.mem_append_left _ ?_)
          rw [ce_cons]
          exact List.mem_append_left _ (tr_root h2)
        · have hc' : r1 ≤ r2 := Nat.not_lt.mp (fun q => hc ((nI_ltI q2 q1).mpr q))
          rw [if_neg hc, gb (k := 3) (tr_lt h1)]
          try dsimp only
          rw [sb (k := 3) (tr_lt h1)]
          try dsimp only
          have hp : (ce ((r1, c1, S1) :: B) ++ (ce X ++ ce ((r2, c2, S2) :: Y))).Perm (ce B ++ (ce ((r1, c1, S1) :: X) ++ ce ((r2, c2, S2) :: Y))) := by
            rw [ce_cons (r1, c1, S1) B, ce_cons (r1, c1, S1) X, List.perm_iff_count]
            intro z
            simp only [List.count_append]
            omega
          have hn' := hp.symm.nodup hn
          have hnB : (S1 ++ ce B).Nodup := by
            rw [ce_cons (r1, c1, S1) B] at hn'
            exact (List.nodup_append.mp hn').1
          have hcx : c1 ∉ ce X := fun q => (List.nodup_append.mp hn').2.2 c1 (by rw [ce_cons]; exact List.mem_append_left _ (tr_root h1)) c1 (List.mem_append_left _ q) rfl
          have hcy : c1 ∉ ce ((r2, c2, S2) :: Y) := fun q => (List.nodup_append.mp hn').2.2 c1 (by rw [ce_cons]; exact List.mem_append_left _ (tr_root h1)) c1 (List.mem_append_right _ q) rfl
          obtain ⟨z, M', k, T', e1, e2, e3, e4, e5, e6, e7⟩ := ih (F := tk (tk (tk (tk F 1) 1) 1) 1) (wm_fo (k := 3) (c := c1) (x := a) h1' hcx) (wm_fo (k := 3) (c := c1) (x := a) hY0 hcy) (mv_ok h1 hB hnB) iX'.2 iY (List.pairwise_cons.mpr ⟨fun b hb => bX b hb (r1, c1, S1) List.mem_cons_self, dB⟩) (by
            intro b hb t ht
            rcases List.mem_cons.mp hb with rfl | hb
            · exact Nat.le_of_lt (iX'.1 t ht)
            · exact bX b hb t (List.mem_cons_of_mem _ ht)) (by
            intro b hb t ht
            rcases List.mem_cons.mp hb with rfl | hb
            · rcases List.mem_cons.mp ht with rfl | ht
              · exact hc'
              · exact Nat.le_of_lt (Nat.lt_of_le_of_lt hc' (iY'.1 t ht))
            · exact bY b hb t ht) hn' (by rw [hp.length_eq]; exact hl) (by simp only [List.length_cons] at hlt ⊢; omega)
          rw [e1]
          refine ⟨z, M', 4 + k, T', by simp only [tk_tk], by simp only [List.length_cons] at e2 ⊢; omega, e3, e4, e5.trans hp, ?_, e7.trans (wm_row _ (by decide))⟩
          refine fr_tr (fr_wm (S := [c1]) (by decide) (List.mem_singleton.mpr rfl)) e6 ?_ (fun d hd => hp.mem_iff.mp hd)
          intro d hd
          rw [List.mem_singleton] at hd
          subst hd
          refine hp.mem_iff.mp (List.mem_append_left _ ?_)
          rw [ce_cons]
          exact List.mem_append_left _ (tr_root h1)
theorem merge_ok {M : Nat → Nat → Int32} {F : Nat → Int32} {X Y : List Tr} {x y : Int32} (hX : fo M X x) (hY : fo M Y y) (iX : inc X) (iY : inc Y) (hn : (ce X ++ ce Y).Nodup) (hl : (ce X ++ ce Y).length ≤ 200) : ∃ z M' k T', sk_merge (M, F) x y = some (z, (M', tk F k)) ∧ k ≤ 18 * (X.length + Y.length) ∧ fo M' T' z ∧ inc T' ∧ (ce T').Perm (ce X ++ ce Y) ∧ fr M M' (ce X ++ ce Y) ∧ M' 0 = M 0 := by
  have l1 := fo_len hX
  have l2 := fo_len hY
  obtain ⟨z, M', k, T', e1, e2, e3, e4, e5, e6, e7⟩ := merL_ok sk_FU (F := F) (B := []) (a := -1) hX hY rfl iX iY List.Pairwise.nil (fun b hb => absurd hb List.not_mem_nil) (fun b hb => absurd hb List.not_mem_nil) hn hl (by
    simp only [List.length_append] at hl
    unfold sk_FU
    omega)
  exact ⟨z, M', k, T', e1, by simp only [List.length_nil] at e2; omega, e3, e4, e5, e6, e7⟩
theorem turL_ok : ∀ (T : List Tr) {M : Nat → Nat → Int32} {F : Nat → Int32} {B : List Tr} {x m : Int32} {n : Nat}, fo M T x → fo M B m → (ce T ++ ce B).Nodup → T.length < n → ∃ y M', sk_turL n (M, F) m x = some (y, (M', tk F (2 * T.length))) ∧ fo M' (T.reverse ++ B) y ∧ fr M M' (ce T) ∧ M' 0 = M 0 := by
  intro T
  induction T with
  | nil =>
    intro M F B x m n hT hB hn hlt
    obtain ⟨n, rfl⟩ : ∃ m, n = m + 1 := ⟨n - 1, by simp only [List.length_nil] at hlt; omega⟩
    have hx : x = -1 := hT
    rw [sk_turL, if_pos hx]
    exact ⟨m, M, by rw [show 2 * ([] : List Tr).length = 0 from rfl, tk_0], hB, fr_rf, rfl⟩
  | cons t T ih =>
    intro M F B x m n hT hB hn hlt
    obtain ⟨n, rfl⟩ : ∃ m, n = m + 1 := ⟨n - 1, by simp only [List.length_cons] at hlt; omega⟩
    obtain ⟨r, c, S⟩ := t
    obtain ⟨hx, h1, h2⟩ := hT
    dsimp only at hx h1 h2
    subst hx
    rw [sk_turL, if_neg (nI_m1 (c200 (tr_lt h1))), gb (k := 3) (tr_lt h1)]
    try dsimp only
    rw [sb (k := 3) (tr_lt h1)]
    try dsimp only
    have hp : (ce ((r, c, S) :: T) ++ ce B).Perm (ce T ++ ce ((r, c, S) :: B)) := by
      rw [ce_cons (r, c, S) T, ce_cons (r, c, S) B, List.perm_iff_count]
      intro z
      simp only [List.count_append]
      omega
    have hn' := hp.nodup hn
    have hnB : (S ++ ce B).Nodup := by
      rw [ce_cons (r, c, S) B] at hn'
      exact (List.nodup_append.mp hn').2.1
    have hcT : c ∉ ce T := fun q => (List.nodup_append.mp hn').2.2 c q c (by rw [ce_cons]; exact List.mem_append_left _ (tr_root h1)) rfl
    obtain ⟨y, M', e1, e2, e3, e4⟩ := ih (F := tk (tk F 1) 1) (n := n) (wm_fo (k := 3) (c := c) (x := m) h2 hcT) (mv_ok h1 hB hnB) hn' (by simp only [List.length_cons] at hlt; omega)
    rw [e1]
    refine ⟨y, M', ?_, ?_, ?_, e4.trans (wm_row _ (by decide))⟩
    · simp only [tk_tk, List.length_cons]
      rw [show 1 + 1 + 2 * T.length = 2 * (T.length + 1) by omega]
    · rw [List.reverse_cons, List.append_assoc]
      exact e2
    · rw [ce_cons]
      exact fr_tr (fr_wm (S := S) (by decide) (tr_root h1)) e3 (fun d hd => List.mem_append_left _ hd) (fun d hd => List.mem_append_right _ hd)
end
section
/-! THE PLAIN LAW 4: leastTree, remove, take's middle -/
theorem ltL_ok : ∀ (T : List Tr) {M : Nat → Nat → Int32} {F : Nat → Int32} {b n : Nat} {x : Int32}, fo M T x → b < 200 → T.length < n → ∃ c, sk_ltL n (M, F) (nI b) x = some (nI c, (M, tk F (3 * T.length))) ∧ (c = b ∨ ∃ t ∈ T, t.2.1 = c) ∧ M 0 c ≤ M 0 b ∧ ∀ t ∈ T, M 0 c ≤ M 0 t.2.1 := by
  intro T
  induction T with
  | nil =>
    intro M F b n x hf hb hlt
    obtain ⟨n, rfl⟩ : ∃ m, n = m + 1 := ⟨n - 1, by simp only [List.length_nil] at hlt; omega⟩
    have hx : x = -1 := hf
    rw [sk_ltL, if_pos hx]
    exact ⟨b, by rw [show 3 * ([] : List Tr).length = 0 from rfl, tk_0], Or.inl rfl, Int32.le_refl _, fun t ht => absurd ht List.not_mem_nil⟩
  | cons t T ih =>
    intro M F b n x hf hb hlt
    obtain ⟨n, rfl⟩ : ∃ m, n = m + 1 := ⟨n - 1, by simp only [List.length_cons] at hlt; omega⟩
    have hlt' : T.length < n := by
      simp only [List.length_cons] at hlt
      omega
    obtain ⟨r, c, S⟩ := t
    obtain ⟨hx, h1, h2⟩ := hf
    dsimp only at hx h1 h2
    subst hx
    rw [sk_ltL, if_neg (nI_m1 (c200 (tr_lt h1))), gb (k := 0) (tr_lt h1)]
    try dsimp only
    rw [gb (k := 0) hb]
    try dsimp only
    by_cases hk : M 0 b ≤ M 0 c
    · rw [if_pos hk, gb (k := 3) (tr_lt h1)]
      try dsimp only
      obtain ⟨d, e1, e2, e3, e4⟩ := ih (F := tk (tk (tk F 1) 1) 1) h2 hb hlt'
      rw [e1]
      refine ⟨d, ?_, e2.imp id (fun ⟨t, ht, q⟩ => ⟨t, List.mem_cons_of_mem _ ht, q⟩), e3, fun t ht => ?_⟩
      · simp only [tk_tk, List.length_cons]
        rw [show 1 + 1 + 1 + 3 * T.length = 3 * (T.length + 1) by omega]
      · rcases List.mem_cons.mp ht with rfl | ht
        · exact Int32.le_trans e3 hk
        · exact e4 t ht
    · rw [if_neg hk, gb (k := 3) (tr_lt h1)]
      try dsimp only
      have hk' : M 0 c ≤ M 0 b := (Int32.le_total (M 0 c) (M 0 b)).elim id (fun h => absurd h hk)
      obtain ⟨d, e1, e2, e3, e4⟩ := ih (F := tk (tk (tk F 1) 1) 1) h2 (tr_lt h1) hlt'
      rw [e1]
      refine ⟨d, ?_, Or.inr ?_, Int32.le_trans e3 hk', fun t ht => ?_⟩
      · simp only [tk_tk, List.length_cons]
        rw [show 1 + 1 + 1 + 3 * T.length = 3 * (T.length + 1) by omega]
      · rcases e2 with rfl | ⟨t, ht, q⟩
        · exact ⟨(r, d, S), List.mem_cons_self, rfl⟩
        · exact ⟨t, List.mem_cons_of_mem _ ht, q⟩
      · rcases List.mem_cons.mp ht with rfl | ht
        · exact e3
        · exact e4 t ht
theorem lt_ok {M : Nat → Nat → Int32} {F : Nat → Int32} {h : Nat} {T : List Tr} (hh : h < 8) (hf : fo M T (M 5 h)) (hT : T ≠ []) (hl : T.length < 256) : ∃ t ∈ T, sk_leastTree (M, F) (nI h) = some (nI t.2.1, (M, tk F (1 + 3 * T.length))) ∧ ∀ t' ∈ T, M 0 t.2.1 ≤ M 0 t'.2.1 := by
  unfold sk_leastTree
  rw [gb (k := 5) hh]
  try dsimp only
  cases T with
  | nil => exact absurd rfl hT
  | cons t T =>
    obtain ⟨r, c, S⟩ := t
    have hc : c < 200 := tr_lt hf.2.1
    have hx : M 5 h = nI c := hf.1
    obtain ⟨d, e1, e2, e3, e4⟩ := ltL_ok ((r, c, S) :: T) (F := tk F 1) (n := sk_FU) hf hc hl
    obtain ⟨t, ht, q⟩ : ∃ t ∈ (r, c, S) :: T, t.2.1 = d := e2.elim (fun q => ⟨(r, c, S), List.mem_cons_self, q.symm⟩) id
    refine ⟨t, ht, ?_, fun t' ht' => by rw [q]; exact e4 t' ht'⟩
    rw [hx] at e1 ⊢
    rw [e1, q, tk_tk]
theorem remL_ok : ∀ (T1 : List Tr) {M : Nat → Nat → Int32} {F : Nat → Int32} {r0 c0 r c n : Nat} {S0 S : List Nat} {T2 : List Tr}, fo M ((r0, c0, S0) :: (T1 ++ (r, c, S) :: T2)) (nI c0) → (ce ((r0, c0, S0) :: (T1 ++ (r, c, S) :: T2))).Nodup → T1.length < n → ∃ d k, d ∈ ce ((r0, c0, S0) :: T1) ∧ sk_remL n (M, F) (nI c) (M 3 c) (nI c0) = some (wm M 3 d (M 3 c), tk F k) ∧ k ≤ 2 * T1.length + 2 ∧ fo (wm M 3 d (M 3 c)) ((r0, c0, S0) :: (T1 ++ T2)) (nI c0) := by
  intro T1
  induction T1 with
  | nil =>
    intro M F r0 c0 r c n S0 S T2 hf hn hlt
    obtain ⟨n, rfl⟩ : ∃ m, n = m + 1 := ⟨n - 1, by simp only [List.length_nil] at hlt; omega⟩
    obtain ⟨-, h1, h2⟩ := hf
    dsimp only at h1 h2
    obtain ⟨h3, h4, h5⟩ := h2
    dsimp only at h3 h4 h5
    rw [sk_remL, gb (k := 3) (tr_lt h1)]
    try dsimp only
    rw [if_pos h3, sb (k := 3) (tr_lt h1)]
    refine ⟨c0, 2, ?_, by simp only [tk_tk], by simp only [List.length_nil]; omega, ?_⟩
    · rw [ce_cons]
      exact List.mem_append_left _ (tr_root h1)
    · refine mv_ok h1 h5 (hn.sublist ?_)
      simp only [List.nil_append, ce_cons]
      exact List.Sublist.append (List.Sublist.refl _) (List.sublist_append_right _ _)
  | cons t1 T1 ih =>
    intro M F r0 c0 r c n S0 S T2 hf hn hlt
    obtain ⟨n, rfl⟩ : ∃ m, n = m + 1 := ⟨n - 1, by simp only [List.length_cons] at hlt; omega⟩
    obtain ⟨r1, c1, S1⟩ := t1
    obtain ⟨-, h1, h2⟩ := hf
    dsimp only at h1 h2
    have h2' := h2
    obtain ⟨h3, h4, h5⟩ := h2
    dsimp only at h3 h4 h5
    have hc : tr M r r c S := fo_in h5 (r, c, S) (List.mem_append_right _ List.mem_cons_self)
    rw [ce_cons] at hn
    have hn2 := (List.nodup_append.mp hn).2.1
    have hne : c1 ≠ c := by
      intro q
      subst q
      have hn3 := hn2
      rw [List.cons_append, ce_cons] at hn3
      refine (List.nodup_append.mp hn3).2.2 c1 (tr_root h4) c1 ?_ rfl
      exact ce_in (t := (r, c1, S)) (List.mem_append_right _ List.mem_cons_self) (tr_root hc)
    rw [sk_remL, gb (k := 3) (tr_lt h1)]
    try dsimp only
    rw [h3, if_neg (fun q => hne (nI_inj (c200 (tr_lt h4)) (c200 (tr_lt hc)) q)), gb (k := 3) (tr_lt h1)]
    try dsimp only
    rw [h3] at h2' ⊢
    obtain ⟨d, k, e1, e2, e3, e4⟩ := ih (F := tk (tk F 1) 1) (n := n) h2' hn2 (by simp only [List.length_cons] at hlt; omega)
    have hd0 : d ∉ S0 := by
      intro q
      refine (List.nodup_append.mp hn).2.2 d q d ?_ rfl
      rw [List.cons_append, ce_cons, ce_app]
      rw [ce_cons] at e1
      exact (List.mem_append.mp e1).elim (List.mem_append_left _) (fun a => List.mem_append_right _ (List.mem_append_left _ a))
    rw [e2]
    refine ⟨d, 2 + k, ?_, by simp only [tk_tk], by simp only [List.length_cons]; omega, ⟨rfl, ?_, ?_⟩⟩
    · rw [ce_cons]
      exact List.mem_append_right _ e1
    · exact tr_frA h1 (fun k' _ d' hd' => wm_ne _ (fun q => hd0 (q ▸ hd')))
    · dsimp only
      have hcd : c0 ≠ d := fun q => hd0 (q ▸ tr_root h1)
      rw [wm_ne _ hcd, h3]
      exact e4
theorem remove_ok {M : Nat → Nat → Int32} {F : Nat → Int32} {h r c : Nat} {S : List Nat} {T1 T2 : List Tr} (hh : h < 8) (hf : fo M (T1 ++ (r, c, S) :: T2) (M 5 h)) (hn : (ce (T1 ++ (r, c, S) :: T2)).Nodup) (hl : T1.length < 256) : ∃ M' k, sk_remove (M, F) (nI h) (nI c) = some (M', tk F k) ∧ k ≤ 4 + 2 * T1.length ∧ fo M' (T1 ++ T2) (M' 5 h) ∧ tr M' r r c S ∧ (∀ k' d, (d ∉ ce T1 ∨ k' ≠ 3) → (k' ≠ 5 ∨ d ≠ h) → M' k' d = M k' d) := by
  have hc : tr M r r c S := fo_in hf (r, c, S) (List.mem_append_right _ List.mem_cons_self)
  unfold sk_remove
  rw [gb (k := 3) (tr_lt hc)]
  try dsimp only
  rw [gb (k := 5) hh]
  try dsimp only
  cases T1 with
  | nil =>
    obtain ⟨h1, h2, h3⟩ := hf
    dsimp only at h1 h2 h3
    rw [if_pos h1, sb (k := 5) hh]
    refine ⟨wm M 5 h (M 3 c), 3, by simp only [tk_tk], by omega, ?_, tr_frA h2 (fun k hk d _ => by rw [wm_row _ (by omega)]), ?_⟩
    · rw [wm_is]
      exact fo_fr h3 (fun k hk d _ => by rw [wm_row _ (by omega)])
    · intro k' d _ hq
      rw [wm_app, if_neg (fun w => hq.elim (fun a => a w.1) (fun a => a w.2))]
  | cons t0 T1 =>
    obtain ⟨r0, c0, S0⟩ := t0
    have h1 : M 5 h = nI c0 := hf.1
    have h0 : tr M r0 r0 c0 S0 := hf.2.1
    have hne : c0 ≠ c := by
      intro q
      subst q
      rw [List.cons_append, ce_cons] at hn
      refine (List.nodup_append.mp hn).2.2 c0 (tr_root h0) c0 ?_ rfl
      exact ce_in (t := (r, c0, S)) (List.mem_append_right _ List.mem_cons_self) (tr_root hc)
    rw [h1] at hf ⊢
    rw [if_neg (fun q => hne (nI_inj (c200 (tr_lt h0)) (c200 (tr_lt hc)) q))]
    obtain ⟨d, k, e1, e2, e3, e4⟩ := remL_ok T1 (F := tk (tk F 1) 1) (n := sk_FU) hf hn (by simp only [List.length_cons] at hl; unfold sk_FU; omega)
    rw [e2]
    have hdS : d ∉ S := by
      intro q
      rw [ce_app] at hn
      refine (List.nodup_append.mp hn).2.2 d e1 d ?_ rfl
      rw [ce_cons]
      exact List.mem_append_left _ q
    refine ⟨wm M 3 d (M 3 c), 2 + k, by simp only [tk_tk], by simp only [List.length_cons]; omega, ?_, tr_frA hc (fun k' _ d' hd' => wm_ne _ (fun q => hdS (q ▸ hd'))), ?_⟩
    · rw [wm_row _ (by decide), h1]
      exact e4
    · intro k' d' hq _
      have hx : ¬ (k' = 3 ∧ d' = d) := fun w => hq.elim (fun a => a (w.2.symm ▸ e1)) (fun a => a w.1)
      rw [wm_app, if_neg hx]
theorem kd_fo : ∀ (r : Nat) {M : Nat → Nat → Int32} {kk x : Int32} {S : List Nat}, kd M r kk x S → ∃ T, fo M T x ∧ ce T = S ∧ T.length = r ∧ T.Pairwise (fun a b => b.1 < a.1) ∧ ∀ t ∈ T, t.1 < r := by
  intro r
  induction r with
  | zero =>
    intro M kk x S h
    exact ⟨[], h.1, h.2.symm, rfl, List.Pairwise.nil, fun t ht => absurd ht List.not_mem_nil⟩
  | succ r ih =>
    intro M kk x S h
    obtain ⟨c, ss, Sc, Sk, h1, h2, h3, h4, h5, h6, h7, h8, rfl⟩ := h
    obtain ⟨T, g1, g2, g3, g4, g5⟩ := ih h8
    refine ⟨(r, c, c :: (ss ++ Sc)) :: T, ⟨h1, ⟨ss, Sc, h2, h3, h5, h6, h7, rfl⟩, g1⟩, ?_, by simp only [List.length_cons, g3], List.pairwise_cons.mpr ⟨fun t ht => g5 t ht, g4⟩, fun t ht => ?_⟩
    · rw [ce_cons, g2]
    · rcases List.mem_cons.mp ht with rfl | ht
      · exact Nat.lt_succ_self _
      · exact Nat.lt_succ_of_lt (g5 t ht)
theorem take3_ok : ∀ (ss : List Nat) {M : Nat → Nat → Int32} {F : Nat → Int32} {T : List Tr} {x y kk hI tI key : Int32} {n : Nat}, sg M kk ss y → fo M T x → sh2 T → (ss ++ ce T).Nodup → (ss ++ ce T).length ≤ 200 → ss.length < n → ∃ x' M' k T', sk_take3 n (M, F) hI tI key x y = sk_take4 (M', tk F k) hI tI key x' ∧ k ≤ 20 * ss.length ∧ fo M' T' x' ∧ sh2 T' ∧ (ce T').Perm (ss ++ ce T) ∧ fr M M' (ss ++ ce T) ∧ ((ce T').map (M' 0)).Perm ((ss ++ ce T).map (M 0)) := by
  intro ss
  induction ss with
  | nil =>
    intro M F T x y kk hI tI key n hs hf hi hn hl hlt
    obtain ⟨n, rfl⟩ : ∃ m, n = m + 1 := ⟨n - 1, by simp only [List.length_nil] at hlt; omega⟩
    have hy : y = -1 := hs
    rw [sk_take3, if_pos hy]
    exact ⟨x, M, 0, T, by rw [tk_0], Nat.zero_le _, hf, hi, List.Perm.refl _, fr_rf, List.Perm.refl _⟩
  | cons s ss ih =>
    intro M F T x y kk hI tI key n hs hf hi hn hl hlt
    obtain ⟨n, rfl⟩ : ∃ m, n = m + 1 := ⟨n - 1, by simp only [List.length_cons] at hlt; omega⟩
    obtain ⟨h1, h2, h3, h4, h5, h6, h7⟩ := hs
    subst h1
    rw [sk_take3, if_neg (nI_m1 (c200 h2)), gb (k := 3) h2]
    try dsimp only
    have hp0 : (s :: ss ++ ce T).Perm (ss ++ s :: ce T) := List.perm_middle.symm
    have hn0 := hp0.nodup hn
    have hl1 : (ce T).length ≤ 200 := by
      simp only [List.length_append, List.length_cons] at hl
      omega
    obtain ⟨x1, M1, k1, T1, e1, e2, e3, e4, e5, e6, e7⟩ := insert_ok (F := tk F 1) ⟨h2, h3, h4, h5⟩ hf hi (List.nodup_append.mp hn0).2.1 hl1
    have hs1 : sg M1 kk ss (M 3 s) := sg_fr h7 (fun k _ d hd => e6 k d (Or.inr (fun q => (List.nodup_append.mp hn0).2.2 d hd d q rfl)))
    have hp1 : (ss ++ ce T1).Perm (s :: ss ++ ce T) := (e5.append_left _).trans hp0.symm
    obtain ⟨x2, M2, k2, T2, f1, f2, f3, f4, f5, f6, f7⟩ := ih (F := tk (tk F 1) k1) (hI := hI) (tI := tI) (key := key) (n := n) hs1 e3 e4 (hp1.symm.nodup hn) (by rw [hp1.length_eq]; exact hl) (by simp only [List.length_cons] at hlt; omega)
    rw [eb e1]
    try dsimp only
    rw [f1]
    refine ⟨x2, M2, 1 + k1 + k2, T2, by simp only [tk_tk], by simp only [List.length_cons]; omega, f3, f4, f5.trans hp1, fr_tr e6 f6 (fun d hd => hp0.mem_iff.mpr (List.mem_append_right _ hd)) (fun d hd => hp1.mem_iff.mp hd), f7.trans ?_⟩
    have em : ss.map (M1 0) = ss.map (M 0) := List.map_congr_left (fun d hd => e6 0 d (Or.inr (fun q => (List.nodup_append.mp hn0).2.2 d hd d q rfl)))
    rw [List.map_append, em]
    refine (e7.append_left _).trans ?_
    rw [← List.map_append]
    exact hp0.symm.map _
end
section
/-! THE PLAIN LAW 5: take as a whole on one heap; how many trees there can be; what is few -/
theorem take2_ok {M : Nat → Nat → Int32} {F : Nat → Int32} {h : Nat} {T : List Tr} (hh : h < 8) (hH : sk_isHeap (M, F) (nI h) = 1) (hz : ¬ M 6 h = 0) (hf : fo M T (M 5 h)) (hs : sh2 T) (hn : (ce T).Nodup) (hl : (ce T).length ≤ 200) (hT : T ≠ []) : ∃ t r x M' k T', sk_take2 (M, F) (nI h) = sk_take4 (M', tk F k) (nI h) (nI t) (M 0 t) x ∧ k ≤ 33 * T.length + 50 * r + 20 ∧ 2 ^ r ≤ (ce T).length ∧ fo M' T' x ∧ sh2 T' ∧ t < 200 ∧ (t :: ce T').Perm (ce T) ∧ (M 0 t :: (ce T').map (M' 0)).Perm ((ce T).map (M 0)) ∧ (∀ d ∈ ce T, M 0 t ≤ M 0 d) ∧ (∀ k d, (5 ≤ k ∨ d ∉ ce T) → (k ≠ 5 ∨ d ≠ h) → M' k d = M k d) := by
  have hlen := fo_len hf
  have hT256 : T.length < 256 := by omega
  unfold sk_take2
  rw [if_neg (by rw [hH]; decide), rb (k := 6) hh]
  try dsimp only
  rw [if_neg hz]
  obtain ⟨t, ht, a1, a2⟩ := lt_ok (F := F) hh hf hT hT256
  obtain ⟨r, c, S⟩ := t
  dsimp only at a1 a2
  obtain ⟨T1, T2, rfl⟩ := List.append_of_mem ht
  have htr : tr M r r c S := fo_in hf (r, c, S) ht
  rw [eb a1]
  try dsimp only
  rw [gb (k := 0) (tr_lt htr)]
  try dsimp only
  have hT1 : T1.length < 256 ∧ T1.length + T2.length + 1 = (T1 ++ (r, c, S) :: T2).length := by
    simp only [List.length_append, List.length_cons] at hT256 ⊢
    omega
  obtain ⟨M1, k1, b1, b2, b3, b4, b5⟩ := remove_ok (F := tk (tk F (1 + 3 * (T1 ++ (r, c, S) :: T2).length)) 1) hh hf hn hT1.1
  rw [eb b1]
  try dsimp only
  rw [gb (k := 5) hh]
  try dsimp only
  have hmin : ∀ d ∈ ce (T1 ++ (r, c, S) :: T2), M 0 c ≤ M 0 d := by
    intro d hd
    obtain ⟨t', ht', hd'⟩ := List.mem_flatMap.mp hd
    exact Int32.le_trans (a2 t' ht') (tr_min (fo_in hf t' ht') d hd')
  have hrs : 2 ^ r ≤ (ce (T1 ++ (r, c, S) :: T2)).length := by
    have := tr_size htr
    rw [ce_app, ce_cons]
    simp only [List.length_append]
    omega
  obtain ⟨ss, Sc, c1, c2, c3, c4, c5, rfl⟩ := b4
  have hp : (c :: (ss ++ (Sc ++ ce (T1 ++ T2)))).Perm (ce (T1 ++ (r, c, c :: (ss ++ Sc)) :: T2)) := by
    rw [ce_app, ce_app, ce_cons, List.perm_iff_count]
    intro z
    simp only [List.count_append, List.count_cons]
    omega
  have hnp := hp.symm.nodup hn
  have hlp := hp.length_eq
  have hm1 : ∀ d, d ∈ ce T1 → d ∈ ce (T1 ++ T2) := fun d hd => by rw [ce_app]; exact List.mem_append_left _ hd
  generalize hU : ce (T1 ++ T2) = U at hp hnp hlp hm1
  have hcss : c ∉ ss ∧ c ∉ Sc ∧ c ∉ U := by
    have := (List.nodup_cons.mp hnp).1
    simp only [List.mem_append, not_or] at this
    exact this
  have hn2 := (List.nodup_cons.mp hnp).2
  have hnss := (List.nodup_append.mp hn2).1
  have hn3 := (List.nodup_append.mp hn2).2.1
  have hnSc := (List.nodup_append.mp hn3).1
  have hnU := (List.nodup_append.mp hn3).2.1
  have dss : ∀ d ∈ ss, d ∉ Sc ∧ d ∉ U := fun d hd => ⟨fun q => (List.nodup_append.mp hn2).2.2 d hd d (List.mem_append_left _ q) rfl, fun q => (List.nodup_append.mp hn2).2.2 d hd d (List.mem_append_right _ q) rfl⟩
  have dSU : ∀ d ∈ Sc, d ∉ U := fun d hd q => (List.nodup_append.mp hn3).2.2 d hd d q rfl
  have dUS : ∀ d ∈ U, d ∉ Sc := fun d hd q => dSU d q hd
  have hlen1 : ss.length + Sc.length + U.length ≤ 199 := by
    simp only [List.length_cons, List.length_append] at hlp
    omega
  -- the trees that are left
  have hs12 : sh2 (T1 ++ T2) := by
    cases T1 with
    | nil => exact inc_sh2 hs.1
    | cons t0 T1 =>
      have hi := hs.1
      refine ⟨?_, fun t' ht' => hs.2 t' ?_⟩
      · have q := List.pairwise_append.mp hi
        refine List.pairwise_append.mpr ⟨q.1, (List.pairwise_cons.mp q.2.1).2, fun a ha b hb => q.2.2 a ha b (List.mem_cons_of_mem _ hb)⟩
      · rcases List.mem_append.mp ht' with q | q
        · exact List.mem_append_left _ q
        · exact List.mem_append_right _ (List.mem_cons_of_mem _ q)
  obtain ⟨y2, M2, k2, Ta, d1, d2, d3, d4, d5, d6, d7⟩ := norm_ok (F := tk (tk (tk (tk F (1 + 3 * (T1 ++ (r, c, c :: (ss ++ Sc)) :: T2).length)) 1) k1) 1) b3 hs12 (by rw [hU]; exact hnU) (by rw [hU]; omega)
  rw [hU] at d5 d6
  rw [eb d1]
  try dsimp only
  rw [gb (k := 2) c1]
  try dsimp only
  have hkd2 : kd M2 r (M1 0 c) (M2 2 c) Sc := by
    rw [d6 2 c (Or.inr hcss.2.2)]
    exact kd_fr c5 (fun k _ d hd => d6 k d (Or.inr (dSU d hd)))
  obtain ⟨Tk, g1, g2, g3, g4, g5⟩ := kd_fo r hkd2
  have hTk256 : Tk.length < sk_FU := by
    have := fo_len g1
    rw [g2] at this
    unfold sk_FU
    omega
  obtain ⟨y3, M3, e1, e2, e3, e4⟩ := turL_ok Tk (F := tk (tk (tk (tk (tk (tk F (1 + 3 * (T1 ++ (r, c, c :: (ss ++ Sc)) :: T2).length)) 1) k1) 1) k2) 1) (B := []) (m := -1) (n := sk_FU) g1 rfl (by rw [g2, ce_nil, List.append_nil]; exact hnSc) hTk256
  rw [g2] at e3
  rw [List.append_nil] at e2
  unfold sk_turned
  rw [eb e1]
  try dsimp only
  have hcr : (ce Tk.reverse).Perm Sc := by
    rw [← g2]
    exact List.Perm.flatMap_right _ (List.reverse_perm Tk)
  have hincr : inc Tk.reverse := List.pairwise_reverse.mpr g4
  obtain ⟨y4, M4, k4, Tb, i1, i2, i3, i4, i5, i6, i7⟩ := norm_ok (F := tk (tk (tk (tk (tk (tk (tk F (1 + 3 * (T1 ++ (r, c, c :: (ss ++ Sc)) :: T2).length)) 1) k1) 1) k2) 1) (2 * Tk.length)) e2 (inc_sh2 hincr) (hcr.symm.nodup hnSc) (by rw [hcr.length_eq]; omega)
  rw [eb i1]
  try dsimp only
  have hbS : (ce Tb).Perm Sc := i5.trans hcr
  have i6' : fr M3 M4 Sc := fr_sub i6 (fun d hd => hcr.mem_iff.mp hd)
  have hTa4 : fo M4 Ta y2 := by
    refine fo_fr d3 (fun k _ d hd => ?_)
    have hdU : d ∉ Sc := dUS d (d5.mem_iff.mp hd)
    rw [i6' k d (Or.inr hdU), e3 k d (Or.inr hdU)]
  have hpab : (ce Ta ++ ce Tb).Perm (Sc ++ U) := (d5.append hbS).trans List.perm_append_comm
  obtain ⟨y5, M5, k5, Tc, j1, j2, j3, j4, j5, j6, j7⟩ := merge_ok (F := tk (tk (tk (tk (tk (tk (tk (tk F (1 + 3 * (T1 ++ (r, c, c :: (ss ++ Sc)) :: T2).length)) 1) k1) 1) k2) 1) (2 * Tk.length)) k4) hTa4 i3 d4 i4 (hpab.symm.nodup hn3) (by rw [hpab.length_eq, List.length_append]; omega)
  rw [eb j1]
  try dsimp only
  rw [gb (k := 4) c1]
  try dsimp only
  have j6' : fr M4 M5 (Sc ++ U) := fr_sub j6 (fun d hd => hpab.mem_iff.mp hd)
  have hpc : (ce Tc).Perm (Sc ++ U) := j5.trans hpab
  -- all the way: what lies outside of Sc and U is as after the removal
  have hout : ∀ k d, 5 ≤ k ∨ (d ∉ Sc ∧ d ∉ U) → M5 k d = M1 k d := by
    intro k d hq
    have q1 : 5 ≤ k ∨ d ∉ Sc ++ U := hq.imp id (fun w z => (List.mem_append.mp z).elim w.1 w.2)
    have q2 : 5 ≤ k ∨ d ∉ Sc := hq.imp id (fun w => w.1)
    have q3 : 5 ≤ k ∨ d ∉ U := hq.imp id (fun w => w.2)
    rw [j6' k d q1, i6' k d q2, e3 k d q2, d6 k d q3]
  have hkey : M5 0 = M 0 := by
    rw [j7, i7, e4, d7]
    funext d
    exact b5 0 d (Or.inr (by decide)) (Or.inl (by decide))
  have hsg5 : sg M5 (M1 0 c) ss (M5 4 c) := by
    rw [hout 4 c (Or.inr ⟨hcss.2.1, hcss.2.2⟩)]
    exact sg_fr c4 (fun k _ d hd => hout k d (Or.inr (dss d hd)))
  have hnt : (ss ++ ce Tc).Nodup := (hpc.append_left ss).symm.nodup hn2
  obtain ⟨x6, M6, k6, T6, l1, l2, l3, l4, l5, l6, l7⟩ := take3_ok ss (F := tk (tk (tk (tk (tk (tk (tk (tk (tk (tk F (1 + 3 * (T1 ++ (r, c, c :: (ss ++ Sc)) :: T2).length)) 1) k1) 1) k2) 1) (2 * Tk.length)) k4) k5) 1) (hI := nI h) (tI := nI c) (key := M 0 c) (n := sk_FU) hsg5 j3 (inc_sh2 j4) hnt (by rw [(hpc.append_left ss).length_eq, List.length_append, List.length_append]; omega) (by unfold sk_FU; omega)
  rw [l1]
  have hp6 : (c :: ce T6).Perm (ce (T1 ++ (r, c, c :: (ss ++ Sc)) :: T2)) := ((l5.trans (hpc.append_left ss)).cons c).trans hp
  refine ⟨c, r, x6, M6, 1 + 3 * (T1 ++ (r, c, c :: (ss ++ Sc)) :: T2).length + 1 + k1 + 1 + k2 + 1 + 2 * Tk.length + k4 + k5 + 1 + k6, T6, by simp only [tk_tk], ?_, hrs, l3, l4, c1, hp6, ?_, hmin, ?_⟩
  · have q1 := hT1.2
    have q2 : (T1 ++ T2).length = T1.length + T2.length := List.length_append
    have q3 : Tk.reverse.length = r := by rw [List.length_reverse, g3]
    omega
  · refine (l7.cons (M 0 c)).trans ?_
    rw [hkey]
    have q := hp6.map (M 0)
    refine List.Perm.trans ?_ q
    rw [List.map_cons]
    exact (l5.symm.map (M 0)).cons _
  · intro k d hq hq5
    have w : 5 ≤ k ∨ d ∉ c :: (ss ++ (Sc ++ U)) := hq.imp id (fun a b => a (hp.mem_iff.mp b))
    have w1 : 5 ≤ k ∨ d ∉ ss ++ ce Tc := w.imp id (fun a b => a (List.mem_cons_of_mem _ ((hpc.append_left ss).mem_iff.mp b)))
    have w2 : 5 ≤ k ∨ (d ∉ Sc ∧ d ∉ U) := w.imp id (fun a => by
      simp only [List.mem_cons, List.mem_append, not_or] at a
      exact ⟨a.2.2.1, a.2.2.2⟩)
    have w3 : d ∉ ce T1 ∨ k ≠ 3 := w2.elim (fun a => Or.inr (by omega)) (fun a => Or.inl (fun b => a.2 (hm1 d b)))
    rw [l6 k d w1, hout k d w2, b5 k d w3 hq5]
theorem take4_eq {M : Nat → Nat → Int32} {F : Nat → Int32} {h t : Nat} {key x : Int32} (hh : h < 8) (ht : t < 200) : sk_take4 (M, F) (nI h) (nI t) key x = some (key.toInt64, (wm (wm (wm M 5 h x) 6 h (M 6 h - 1)) 3 t (F 0), upd (upd (tk F 4) 0 (nI t)) 1 (F 1 + 1))) := by
  unfold sk_take4
  rw [sb (k := 5) hh]
  try dsimp only
  rw [gb (k := 6) hh]
  try dsimp only
  rw [sb (k := 6) hh]
  try dsimp only
  unfold sk_release
  rw [sb (k := 3) ht]
  try dsimp only
  rw [wm_row (k := 5) _ (by decide)]
  simp only [tk_tk]
  rw [tk_ne _ _ (by decide)]
  have e1 : sk_sF (sk_sF (wm (wm (wm M 5 h x) 6 h (M 6 h - 1)) 3 t (F 0), tk F (1 + 1 + 1 + 1)) 0 (nI t)) 1 ((sk_sF (wm (wm (wm M 5 h x) 6 h (M 6 h - 1)) 3 t (F 0), tk F (1 + 1 + 1 + 1)) 0 (nI t)).2 1 + 1) = (wm (wm (wm M 5 h x) 6 h (M 6 h - 1)) 3 t (F 0), upd (upd (tk F 4) 0 (nI t)) 1 (F 1 + 1)) := by
    unfold sk_sF
    dsimp only
    rw [show upd (tk F (1 + 1 + 1 + 1)) 0 (nI t) 1 = F 1 by
      unfold upd
      rw [if_neg (by decide)]
      exact tk_ne _ _ (by decide)]
  rw [e1]
  rfl
/-- ranks that rise: the last is at least their number less one -/
theorem inc_top : ∀ (T : List Tr) (m : Nat), inc T → (∀ t ∈ T, m ≤ t.1) → T ≠ [] → ∃ t ∈ T, m + T.length ≤ t.1 + 1 := by
  intro T
  induction T with
  | nil => intro m _ _ h; exact absurd rfl h
  | cons t T ih =>
    intro m hi hm _
    cases T with
    | nil =>
      refine ⟨t, List.mem_cons_self, ?_⟩
      have := hm t List.mem_cons_self
      simp only [List.length_cons, List.length_nil]
      omega
    | cons t2 T =>
      have hi' := List.pairwise_cons.mp hi
      obtain ⟨t', ht', h'⟩ := ih (m + 1) hi'.2 (fun s hs => by
        have a := hi'.1 s hs
        have b := hm t List.mem_cons_self
        omega) (List.cons_ne_nil _ _)
      refine ⟨t', List.mem_cons_of_mem _ ht', ?_⟩
      simp only [List.length_cons] at h' ⊢
      omega
theorem ce_ge {M : Nat → Nat → Int32} {T : List Tr} {x : Int32} (hf : fo M T x) {t : Tr} (ht : t ∈ T) : 2 ^ t.1 ≤ (ce T).length := by
  have a := tr_size (fo_in hf t ht)
  obtain ⟨T1, T2, rfl⟩ := List.append_of_mem ht
  rw [ce_app, ce_cons]
  simp only [List.length_append]
  omega
theorem lg_of {r n : Nat} (h : 2 ^ r ≤ n) : r ≤ Nat.log2 (n + 1) := by
  rw [Nat.le_log2 (by omega)]
  omega
theorem trees_le {M : Nat → Nat → Int32} {T : List Tr} {x : Int32} (hf : fo M T x) (hs : sh2 T) : T.length ≤ Nat.log2 ((ce T).length + 1) + 2 := by
  cases T with
  | nil => exact Nat.zero_le _
  | cons t T =>
    cases T with
    | nil => simp only [List.length_cons, List.length_nil]; omega
    | cons t2 T =>
      obtain ⟨t', ht', h'⟩ := inc_top (t2 :: T) 0 hs.1 (fun _ _ => Nat.zero_le _) (List.cons_ne_nil _ _)
      have a := lg_of (ce_ge hf (List.mem_cons_of_mem _ ht'))
      simp only [List.length_cons] at h' ⊢
      omega
theorem log2_mono {a b : Nat} (h : a ≤ b) (ha : 0 < a) : Nat.log2 a ≤ Nat.log2 b := by
  rw [Nat.le_log2 (by omega)]
  exact Nat.le_trans (Nat.log2_self_le (by omega)) h
theorem few_eq : ∀ n, n < 201 → sk_fewFor (nI n) = nI (200 * (2 + Nat.log2 (n + 1))) := by
  decide +kernel
theorem log2_small {n : Nat} (h : n ≤ 200) : Nat.log2 (n + 1) ≤ 7 := by
  have := log2_mono (a := n + 1) (b := 201) (by omega) (by omega)
  exact Nat.le_trans this (by decide)
end
section
/-! THE PLAIN LAW 6: going through a heap: await, the order, walk -/
theorem upd_upd (F : Nat → Int32) (k : Nat) (a b : Int32) : upd (upd F k a) k b = upd F k b := by
  unfold upd
  funext j
  by_cases h : j = k
  · simp [h]
  · simp [h]
theorem upd_is (F : Nat → Int32) (k : Nat) (a : Int32) : upd F k a k = a := by
  unfold upd
  rw [if_pos rfl]
theorem upd_ne (F : Nat → Int32) {k j : Nat} (a : Int32) (h : j ≠ k) : upd F k a j = F j := by
  unfold upd
  rw [if_neg h]
theorem nI_pred2 (n : Nat) : nI (n + 1) + (-1) = nI n := by
  rw [← Int32.sub_eq_add_neg]
  exact nI_pred n
def wt (M : Nat → Nat → Int32) (W : List Tr) : Prop := ∀ (j : Nat) (t : Tr), W[j]? = some t → M 8 j = nI t.2.1
def od (M : Nat → Nat → Int32) (L : List Int32) : Prop := ∀ (j : Nat) (v : Int32), L[j]? = some v → M 7 j = v
theorem awL_ok : ∀ (T : List Tr) {M : Nat → Nat → Int32} {F : Nat → Int32} {W : List Tr} {x : Int32} {n : Nat}, fo M T x → wt M W → F 5 = nI W.length → W.length + T.length ≤ 200 → T.length < n → ∃ M', sk_awL n (M, F) x = some (M', upd F 5 (nI (W ++ T).length)) ∧ (∀ k, k ≠ 8 → M' k = M k) ∧ wt M' (W ++ T) := by
  intro T
  induction T with
  | nil =>
    intro M F W x n hf hw h5 hl hlt
    obtain ⟨n, rfl⟩ : ∃ m, n = m + 1 := ⟨n - 1, by simp only [List.length_nil] at hlt; omega⟩
    have hx : x = -1 := hf
    rw [sk_awL, if_pos hx]
    refine ⟨M, ?_, fun _ _ => rfl, by rw [List.append_nil]; exact hw⟩
    rw [List.append_nil, ← h5]
    have : upd F 5 (F 5) = F := by
      unfold upd
      funext j
      by_cases h : j = 5
      · simp [h]
      · simp [h]
    rw [this]
  | cons t T ih =>
    intro M F W x n hf hw h5 hl hlt
    obtain ⟨n, rfl⟩ : ∃ m, n = m + 1 := ⟨n - 1, by simp only [List.length_cons] at hlt; omega⟩
    obtain ⟨hx, h1, h2⟩ := hf
    have hc := tr_lt h1
    subst hx
    have hW : W.length < 200 := by
      simp only [List.length_cons] at hl
      omega
    rw [sk_awL, if_neg (nI_m1 (c200 hc))]
    dsimp only
    rw [h5]
    unfold sk_sF
    dsimp only
    rw [wb (k := 8) hW]
    try dsimp only
    rw [rb (k := 3) hc]
    try dsimp only
    rw [wm_row _ (by decide)]
    have hfo : fo (wm M 8 W.length (nI t.2.1)) T (M 3 t.2.1) := fo_fr h2 (fun k hk d _ => by rw [wm_row _ (by omega)])
    have hwt : wt (wm M 8 W.length (nI t.2.1)) (W ++ [t]) := by
      intro j s hs
      by_cases hj : j < W.length
      · rw [List.getElem?_append_left hj] at hs
        rw [wm_ne _ (by omega)]
        exact hw j s hs
      · rw [List.getElem?_append_right (by omega)] at hs
        have hj2 : j - W.length < 1 := (List.getElem?_eq_some_iff.mp hs).1
        have hj3 : j = W.length := by omega
        subst hj3
        rw [Nat.sub_self] at hs
        cases hs
        exact wm_is _
    obtain ⟨M', e1, e2, e3⟩ := ih (F := upd F 5 (nI W.length + 1)) (W := W ++ [t]) (n := n) hfo hwt (by rw [upd_is, nI_1, List.length_append]; rfl) (by simp only [List.length_append, List.length_cons, List.length_nil] at hl ⊢; omega) (by simp only [List.length_cons] at hlt; omega)
    refine ⟨M', ?_, fun k hk => by rw [e2 k hk, wm_row _ hk], by rw [List.append_assoc] at e3; exact e3⟩
    rw [e1, upd_upd, List.append_assoc]
    rfl
theorem wk3_eq {M : Nat → Nat → Int32} {F : Nat → Int32} {c k : Nat} (hc : c < 200) (hk : k < 200) : sk_wk3 (M, F) (nI c) (nI k) = some (wm M 7 k (M 0 c), F) := by
  unfold sk_wk3
  rw [rb (k := 0) hc]
  try dsimp only
  rw [wb (k := 7) hk]
theorem wk2_ok : ∀ (m : Nat) {A B : List Int32} {M : Nat → Nat → Int32} {F : Nat → Int32} {c n : Nat}, A.length = m → c < 200 → (∀ (j : Nat) (v : Int32), A[j]? = some v → M 7 j = v) → (∀ (j : Nat) (v : Int32), B[j]? = some v → M 7 (A.length + 1 + j) = v) → (A ++ B).Pairwise (fun a b => a ≤ b) → (∀ b ∈ B, M 0 c ≤ b) → A.length + B.length + 1 ≤ 200 → m < n → ∃ M' L', sk_wk2 n (M, F) (nI c) (nI m) = some (M', F) ∧ (∀ k, k ≠ 7 → M' k = M k) ∧ od M' L' ∧ L'.Pairwise (fun a b => a ≤ b) ∧ L'.Perm (M 0 c :: (A ++ B)) := by
  intro m
  induction m with
  | zero =>
    intro A B M F c n hA hc h1 h2 hp hb hl hlt
    obtain ⟨n, rfl⟩ : ∃ m, n = m + 1 := ⟨n - 1, by omega⟩
    obtain rfl : A = [] := List.eq_nil_of_length_eq_zero hA
    rw [sk_wk2, if_pos (by decide), wk3_eq hc (by decide)]
    refine ⟨wm M 7 0 (M 0 c), M 0 c :: B, rfl, fun k hk => wm_row _ hk, ?_, List.pairwise_cons.mpr ⟨hb, hp⟩, List.Perm.refl _⟩
    intro j v hj
    cases j with
    | zero => cases hj; exact wm_is _
    | succ j =>
      rw [List.getElem?_cons_succ] at hj
      rw [wm_ne _ (by omega)]
      have := h2 j v hj
      rw [show ([] : List Int32).length + 1 + j = j + 1 by simp only [List.length_nil]; omega] at this
      exact this
  | succ m ih =>
    intro A B M F c n hA hc h1 h2 hp hb hl hlt
    obtain ⟨n, rfl⟩ : ∃ m, n = m + 1 := ⟨n - 1, by omega⟩
    obtain ⟨A', a, rfl⟩ : ∃ A' a, A = A' ++ [a] := by
      rcases List.eq_nil_or_concat A with rfl | ⟨L, b, rfl⟩
      · cases hA
      · exact ⟨L, b, by rw [List.concat_eq_append]⟩
    have hA' : A'.length = m := by
      rw [List.length_append] at hA
      simp only [List.length_cons, List.length_nil] at hA
      omega
    have ha : M 7 m = a := h1 m a (by rw [← hA', List.getElem?_append_right (Nat.le_refl _), Nat.sub_self]; rfl)
    rw [List.length_append, List.length_cons, List.length_nil] at hl
    have hpp := List.pairwise_append.mp hp
    have hpa := List.pairwise_append.mp hpp.1
    rw [sk_wk2, if_neg (nI_nle (by omega) (by omega)), nI_pred, rb (k := 7) (show m < 200 by omega)]
    try dsimp only
    rw [rb (k := 0) hc]
    try dsimp only
    rw [ha]
    by_cases hk : a ≤ M 0 c
    · rw [if_pos hk, wk3_eq hc (by omega)]
      refine ⟨wm M 7 (m + 1) (M 0 c), (A' ++ [a]) ++ M 0 c :: B, rfl, fun k hk => wm_row _ hk, ?_, ?_, List.perm_middle⟩
      · intro j v hj
        by_cases q : j < (A' ++ [a]).length
        · rw [List.getElem?_append_left q] at hj
          rw [hA] at q
          rw [wm_ne _ (by omega)]
          exact h1 j v hj
        · rw [List.getElem?_append_right (by omega)] at hj
          rw [hA] at hj q
          cases hz : j - (m + 1) with
          | zero =>
            rw [hz] at hj
            cases hj
            rw [show j = m + 1 by omega]
            exact wm_is _
          | succ i =>
            rw [hz, List.getElem?_cons_succ] at hj
            have := h2 i v hj
            rw [hA] at this
            rw [wm_ne _ (by omega), show j = m + 1 + 1 + i by omega]
            exact this
      · refine List.pairwise_append.mpr ⟨hpp.1, List.pairwise_cons.mpr ⟨hb, hpp.2.1⟩, fun x hx y hy => ?_⟩
        rcases List.mem_cons.mp hy with rfl | hy
        · rcases List.mem_append.mp hx with hx | hx
          · exact Int32.le_trans (hpa.2.2 x hx a (List.mem_singleton.mpr rfl)) hk
          · rw [List.mem_singleton.mp hx]
            exact hk
        · exact hpp.2.2 x hx y hy
    · rw [if_neg hk, rb (k := 7) (show m < 200 by omega)]
      try dsimp only
      rw [wb (k := 7) (show m + 1 < 200 by omega)]
      try dsimp only
      rw [nI_pred2]
      have hk' : M 0 c ≤ a := (Int32.le_total (M 0 c) a).elim id (fun h => absurd h hk)
      have e0 : wm M 7 (m + 1) (M 7 m) 0 c = M 0 c := by rw [wm_row _ (by decide)]
      obtain ⟨M', L', e1, e2, e3, e4, e5⟩ := ih (A := A') (B := a :: B) (M := wm M 7 (m + 1) (M 7 m)) (F := F) (c := c) (n := n) hA' hc (by
        intro j v hj
        have q : j < A'.length := (List.getElem?_eq_some_iff.mp hj).1
        rw [wm_ne _ (by omega)]
        exact h1 j v (by rw [List.getElem?_append_left q]; exact hj)) (by
        intro j v hj
        rw [hA']
        cases j with
        | zero =>
          cases hj
          rw [ha]
          exact wm_is _
        | succ j =>
          rw [List.getElem?_cons_succ] at hj
          rw [wm_ne _ (by omega)]
          have := h2 j v hj
          rw [hA] at this
          rw [show m + 1 + (j + 1) = m + 1 + 1 + j by omega]
          exact this) (by
        rw [List.append_assoc] at hp
        exact hp) (by
        intro b hb'
        rw [e0]
        rcases List.mem_cons.mp hb' with rfl | hb'
        · exact hk'
        · exact hb b hb') (by simp only [List.length_cons]; omega) (by omega)
      rw [e0] at e5
      refine ⟨M', L', e1, fun k hk => by rw [e2 k hk, wm_row _ hk], e3, e4, ?_⟩
      rw [List.append_assoc]
      exact e5
theorem sg_fo : ∀ {ss : List Nat} {M : Nat → Nat → Int32} {kk x : Int32}, sg M kk ss x → fo M (ss.map fun s => (0, s, [s])) x ∧ ce (ss.map fun s => (0, s, [s])) = ss := by
  intro ss
  induction ss with
  | nil => intro M kk x h; exact ⟨h, rfl⟩
  | cons s ss ih =>
    intro M kk x h
    obtain ⟨h1, h2, h3, h4, h5, h6, h7⟩ := h
    obtain ⟨a, b⟩ := ih h7
    refine ⟨⟨h1, one_tr ⟨h2, h3, h4, h5⟩, a⟩, ?_⟩
    rw [List.map_cons, ce_cons, b]
    rfl
theorem trs_len {M : Nat → Nat → Int32} : ∀ {W : List Tr}, (∀ t ∈ W, tr M t.1 t.1 t.2.1 t.2.2) → W.length ≤ (ce W).length := by
  intro W
  induction W with
  | nil => intro _; exact Nat.le_refl _
  | cons t W ih =>
    intro h
    have a := ih (fun t ht => h t (List.mem_cons_of_mem _ ht))
    have b := List.length_pos_of_mem (tr_root (h t List.mem_cons_self))
    rw [ce_cons, List.length_append, List.length_cons]
    omega
theorem wkL_ok : ∀ (n : Nat) {M : Nat → Nat → Int32} {F : Nat → Int32} {W : List Tr} {L : List Int32}, (∀ t ∈ W, tr M t.1 t.1 t.2.1 t.2.2) → wt M W → F 5 = nI W.length → od M L → L.Pairwise (fun a b => a ≤ b) → F 6 = nI L.length → L.length + (ce W).length ≤ 200 → (ce W).length < n → ∃ M' F' L', sk_wkL n (M, F) = some (M', F') ∧ (∀ k, k ≠ 7 → k ≠ 8 → M' k = M k) ∧ (∀ j, j ≠ 5 → j ≠ 6 → F' j = F j) ∧ F' 6 = nI L'.length ∧ od M' L' ∧ L'.Pairwise (fun a b => a ≤ b) ∧ L'.Perm (L ++ (ce W).map (M 0)) := by
  intro n
  induction n with
  | zero => intro M F W L _ _ _ _ _ _ _ h; omega
  | succ n ih =>
    intro M F W L hW hw h5 ho hs h6 hl hlt
    rw [sk_wkL]
    dsimp only
    rcases List.eq_nil_or_concat W with rfl | ⟨V, t, hV⟩
    · have h50 : F 5 = 0 := h5
      rw [if_pos (by rw [h50]; decide)]
      exact ⟨M, F, L, rfl, fun _ _ _ => rfl, fun _ _ _ => rfl, h6, ho, hs, by rw [ce_nil, List.map_nil, List.append_nil]⟩
    · rw [List.concat_eq_append] at hV
      subst hV
      obtain ⟨r, c, S⟩ := t
      have ht : tr M r r c S := hW (r, c, S) (List.mem_append_right _ (List.mem_singleton.mpr rfl))
      have hlW := trs_len hW
      have hcW : ce (V ++ [(r, c, S)]) = ce V ++ S := by
        rw [ce_app, ce_cons, ce_nil, List.append_nil]
      have hlen : (V ++ [(r, c, S)]).length = V.length + 1 := by rw [List.length_append]; rfl
      rw [hlen] at h5 hlW
      rw [hcW] at hl hlt hlW
      rw [List.length_append] at hl hlt hlW
      have hV200 : V.length < 200 := by omega
      have hSpos := List.length_pos_of_mem (tr_root ht)
      have h5n : ¬ F 5 ≤ 0 := by rw [h5]; exact nI_nle (by omega) (by omega)
      rw [if_neg h5n, h5, nI_pred]
      unfold sk_sF
      dsimp only
      rw [rb (k := 8) hV200]
      try dsimp only
      have h8 : M 8 V.length = nI c := hw V.length (r, c, S) (by rw [List.getElem?_append_right (Nat.le_refl _), Nat.sub_self]; rfl)
      rw [h8, upd_ne _ _ (by decide : (6 : Nat) ≠ 5), h6]
      obtain ⟨M1, L1, a1, a2, a3, a4, a5⟩ := wk2_ok L.length (A := L) (B := []) (M := M) (F := upd (upd F 5 (nI V.length)) 6 (nI L.length + 1)) (c := c) (n := sk_FU) rfl (tr_lt ht) ho (fun j v hj => by simp at hj) (by rw [List.append_nil]; exact hs) (fun b hb => absurd hb List.not_mem_nil) (by simp only [List.length_nil]; omega) (by unfold sk_FU; omega)
      rw [eb a1]
      try dsimp only
      rw [List.append_nil] at a5
      have hM1 : ∀ k, k < 5 → ∀ d, M1 k d = M k d := fun k hk d => by rw [a2 k (by omega)]
      obtain ⟨ss, Sc, t1, t2, t3, t4, t5, rfl⟩ := ht
      have hkd : kd M1 r (M 0 c) (M1 2 c) Sc := by
        rw [hM1 2 (by decide)]
        exact kd_fr t5 (fun k hk d _ => hM1 k hk d)
      obtain ⟨Tk, g1, g2, g3, g4, g5⟩ := kd_fo r hkd
      have lTk := fo_len g1
      rw [g2] at lTk
      rw [List.length_cons, List.length_append] at hl hlt hlW
      have lV : V.length ≤ (ce V).length := trs_len (fun t ht => hW t (List.mem_append_left _ ht))
      have hwV : wt M1 V := fun j t hj => by
        rw [a2 8 (by decide)]
        exact hw j t (by rw [List.getElem?_append_left (List.getElem?_eq_some_iff.mp hj).1]; exact hj)
      obtain ⟨M2, b1, b2, b3⟩ := awL_ok Tk (F := upd (upd F 5 (nI V.length)) 6 (nI L.length + 1)) (W := V) (n := sk_FU) g1 hwV (by rw [upd_ne _ _ (by decide), upd_is]) (by omega) (by unfold sk_FU; omega)
      rw [rb (k := 2) t1]
      try dsimp only
      unfold sk_await
      rw [eb b1]
      try dsimp only
      rw [rb (k := 4) t1]
      try dsimp only
      have hM2 : ∀ k, k < 5 → ∀ d, M2 k d = M k d := fun k hk d => by rw [b2 k (by omega), hM1 k hk d]
      have hsg : sg M2 (M 0 c) ss (M2 4 c) := by
        rw [hM2 4 (by decide)]
        exact sg_fr t4 (fun k hk d _ => hM2 k hk d)
      obtain ⟨s1, s2⟩ := sg_fo hsg
      have lS : (ss.map fun s => ((0, s, [s]) : Tr)).length = ss.length := List.length_map _
      have lVk : (V ++ Tk).length = V.length + Tk.length := List.length_append
      obtain ⟨M3, d1, d2, d3⟩ := awL_ok (ss.map fun s => (0, s, [s])) (F := upd (upd (upd F 5 (nI V.length)) 6 (nI L.length + 1)) 5 (nI (V ++ Tk).length)) (W := V ++ Tk) (n := sk_FU) s1 b3 (by rw [upd_is]) (by rw [lS, lVk]; omega) (by rw [lS]; unfold sk_FU; omega)
      rw [eb d1]
      have hM3 : ∀ k, k < 5 → ∀ d, M3 k d = M k d := fun k hk d => by rw [d2 k (by omega), hM2 k hk d]
      have hce : ce (V ++ Tk ++ ss.map fun s => ((0, s, [s]) : Tr)) = ce V ++ Sc ++ ss := by
        rw [ce_app, ce_app, g2, s2]
      have hL1 : L1.length = L.length + 1 := by rw [a5.length_eq]; rfl
      obtain ⟨M', F', L', f1, f2, f3, f4, f5, f6, f7⟩ := ih (M := M3) (F := upd (upd (upd (upd F 5 (nI V.length)) 6 (nI L.length + 1)) 5 (nI (V ++ Tk).length)) 5 (nI (V ++ Tk ++ ss.map fun s => ((0, s, [s]) : Tr)).length)) (W := V ++ Tk ++ ss.map fun s => (0, s, [s])) (L := L1) (by
        intro t ht
        rcases List.mem_append.mp ht with ht | ht
        · rcases List.mem_append.mp ht with ht | ht
          · exact tr_frA (hW t (List.mem_append_left _ ht)) (fun k hk d _ => hM3 k hk d)
          · exact tr_frA (fo_in g1 t ht) (fun k hk d _ => by rw [hM3 k hk d, hM1 k hk d])
        · exact tr_frA (fo_in s1 t ht) (fun k hk d _ => by rw [hM3 k hk d, hM2 k hk d])) d3 (by rw [upd_is]) (by
        intro j v hj
        rw [d2 7 (by decide), b2 7 (by decide)]
        exact a3 j v hj) a4 (by
        rw [upd_ne _ _ (by decide), upd_ne _ _ (by decide), upd_is, hL1, nI_1]) (by
        rw [hce, hL1]
        simp only [List.length_append]
        omega) (by
        rw [hce]
        simp only [List.length_append]
        omega)
      refine ⟨M', F', L', f1, fun k h7 h8 => ?_, fun j h5 h6 => ?_, f4, f5, f6, ?_⟩
      · rw [f2 k h7 h8, d2 k h8, b2 k h8, a2 k h7]
      · rw [f3 j h5 h6, upd_ne _ _ h5, upd_ne _ _ h5, upd_ne _ _ h6, upd_ne _ _ h5]
      · rw [hce] at f7
        have hk0 : M3 0 = M 0 := funext (fun d => hM3 0 (by decide) d)
        rw [hk0] at f7
        refine f7.trans ?_
        rw [hcW, List.perm_iff_count]
        intro z
        have q := a5.count_eq z
        simp only [List.map_append, List.map_cons, List.count_append, List.count_cons] at q ⊢
        omega
theorem walk_ok {M : Nat → Nat → Int32} {F : Nat → Int32} {h : Nat} {T : List Tr} (hh : h < 8) (hf : fo M T (M 5 h)) (hl : (ce T).length ≤ 200) : ∃ M' F' L, sk_walk (M, F) (nI h) = some (M', F') ∧ (∀ k, k ≠ 7 → k ≠ 8 → M' k = M k) ∧ (∀ j, j ≠ 5 → j ≠ 6 → F' j = F j) ∧ F' 6 = nI L.length ∧ od M' L ∧ L.Pairwise (fun a b => a ≤ b) ∧ L.Perm ((ce T).map (M 0)) := by
  unfold sk_walk sk_sF
  dsimp only
  rw [rb (k := 5) hh]
  try dsimp only
  have lT := fo_len hf
  obtain ⟨M1, b1, b2, b3⟩ := awL_ok T (F := upd (upd F 6 0) 5 0) (W := []) (n := sk_FU) hf (fun j t hj => by simp at hj) (by rw [upd_is]; rfl) (by simp only [List.length_nil]; omega) (by unfold sk_FU; omega)
  unfold sk_await
  rw [eb b1]
  rw [List.nil_append] at b3 ⊢
  have hM1 : ∀ k, k < 5 → ∀ d, M1 k d = M k d := fun k hk d => by rw [b2 k (by omega)]
  obtain ⟨M', F', L', f1, f2, f3, f4, f5, f6, f7⟩ := wkL_ok sk_FU (M := M1) (F := upd (upd (upd F 6 0) 5 0) 5 (nI T.length)) (W := T) (L := []) (fun t ht => tr_frA (fo_in hf t ht) (fun k hk d _ => hM1 k hk d)) b3 (by rw [upd_is]) (fun j v hj => by simp at hj) List.Pairwise.nil (by rw [upd_ne _ _ (by decide), upd_ne _ _ (by decide), upd_is]; rfl) (by simp only [List.length_nil]; omega) (by unfold sk_FU; omega)
  refine ⟨M', F', L', f1, fun k h7 h8 => by rw [f2 k h7 h8, b2 k h8], fun j h5 h6 => by rw [f3 j h5 h6, upd_ne _ _ h5, upd_ne _ _ h5, upd_ne _ _ h6], f4, f5, f6, ?_⟩
  have hk0 : M1 0 = M 0 := funext (fun d => hM1 0 (by decide) d)
  rw [hk0, List.nil_append] at f7
  exact f7
end
section
/-! THE PLAIN LAW 7: the reference's loops -/
theorem mr_eq {N : Nat → Nat → Int32} {G : Nat → Int32} {k c : Nat} (h : c < 200) : md_rd (N, G) k (nI c) = some (N k c) := by
  unfold md_rd
  rw [if_neg (nI_in h (by decide)), nI_clamp (c200 h)]
theorem mw_eq {N : Nat → Nat → Int32} {G : Nat → Int32} {k c : Nat} {x : Int32} (h : c < 200) : md_wr (N, G) k (nI c) x = some (wm N k c x, G) := by
  unfold md_wr
  rw [if_neg (nI_in h (by decide)), nI_clamp (c200 h)]
  rfl
theorem mrb {β : Type} {N : Nat → Nat → Int32} {G : Nat → Int32} {k c : Nat} {f : Int32 → Option β} (h : c < 200) : (md_rd (N, G) k (nI c)).bind f = f (N k c) := by
  rw [mr_eq h]
  rfl
theorem mwb {β : Type} {N : Nat → Nat → Int32} {G : Nat → Int32} {k c : Nat} {x : Int32} {f : sk_T → Option β} (h : c < 200) : (md_wr (N, G) k (nI c) x).bind f = f (wm N k c x, G) := by
  rw [mw_eq h]
  rfl
def ow (N : Nat → Nat → Int32) (h : Int32) (k m : Nat) : List Nat := (List.range' k m).filter fun i => decide (N 0 i = h)
def cd (N : Nat → Nat → Int32) (h : Int32) (k m : Nat) : List Nat := (List.range' k m).filter fun i => decide (N 0 i = h ∧ N 2 i = 0)
theorem ow_succ (N : Nat → Nat → Int32) (h : Int32) (k m : Nat) : ow N h k (m + 1) = if N 0 k = h then k :: ow N h (k + 1) m else ow N h (k + 1) m := by
  unfold ow
  rw [show List.range' k (m + 1) = k :: List.range' (k + 1) m from rfl, List.filter_cons]
  by_cases q : N 0 k = h
  · simp [q]
  · simp [q]
theorem cd_succ (N : Nat → Nat → Int32) (h : Int32) (k m : Nat) : cd N h k (m + 1) = if N 0 k = h ∧ N 2 k = 0 then k :: cd N h (k + 1) m else cd N h (k + 1) m := by
  unfold cd
  rw [show List.range' k (m + 1) = k :: List.range' (k + 1) m from rfl, List.filter_cons]
  by_cases q : N 0 k = h ∧ N 2 k = 0
  · simp [q]
  · simp [q]
theorem soL_ok : ∀ (m : Nat) {N : Nat → Nat → Int32} {G : Nat → Int32} {h : Int32} {k a fuel : Nat}, G 1 = nI (k + m) → k + m ≤ 200 → m < fuel → md_soL fuel (N, G) h (nI a) (nI k) = some (nI (a + (ow N h k m).length)) := by
  intro m
  induction m with
  | zero =>
    intro N G h k a fuel hG hl hf
    obtain ⟨f, rfl⟩ : ∃ f, fuel = f + 1 := ⟨fuel - 1, by omega⟩
    rw [md_soL]
    dsimp only
    rw [if_pos (by rw [hG]; exact nI_le (Nat.le_refl _) (by omega))]
    rfl
  | succ m ih =>
    intro N G h k a fuel hG hl hf
    obtain ⟨f, rfl⟩ : ∃ f, fuel = f + 1 := ⟨fuel - 1, by omega⟩
    rw [md_soL]
    dsimp only
    rw [if_neg (by rw [hG]; exact nI_ge (by omega) (by omega)), mrb (show k < 200 by omega), ow_succ]
    have hG' : G 1 = nI (k + 1 + m) := by rw [hG]; congr 1; omega
    by_cases q : N 0 k = h
    · rw [if_pos q, if_pos q, nI_1, nI_1, ih hG' (by omega) (by omega), List.length_cons]
      congr 2
      omega
    · rw [if_neg q, if_neg q, Int32.add_zero, nI_1, ih hG' (by omega) (by omega)]
theorem sizeOf_ok {N : Nat → Nat → Int32} {G : Nat → Int32} {h : Int32} {n : Nat} (hG : G 1 = nI n) (hn : n ≤ 200) : md_sizeOf (N, G) h = some (nI (ow N h 0 n).length) := by
  unfold md_sizeOf
  have := soL_ok n (N := N) (G := G) (h := h) (k := 0) (a := 0) (fuel := sk_FU) (by rw [hG, Nat.zero_add]) (by omega) (by unfold sk_FU; omega)
  rw [Nat.zero_add] at this
  exact this
theorem poL_b : ∀ (m : Nat) {N : Nat → Nat → Int32} {G : Nat → Int32} {h : Int32} {k j0 fuel : Nat}, G 1 = nI (k + m) → k + m ≤ 200 → m < fuel → j0 < 200 → ∃ j, md_poL fuel (N, G) h (nI j0) (nI k) = some (nI j) ∧ (j = j0 ∨ j ∈ cd N h k m) ∧ N 1 j ≤ N 1 j0 ∧ ∀ i ∈ cd N h k m, N 1 j ≤ N 1 i := by
  intro m
  induction m with
  | zero =>
    intro N G h k j0 fuel hG hl hf hj
    obtain ⟨f, rfl⟩ : ∃ f, fuel = f + 1 := ⟨fuel - 1, by omega⟩
    rw [md_poL]
    dsimp only
    rw [if_pos (by rw [hG]; exact nI_le (Nat.le_refl _) (by omega))]
    exact ⟨j0, rfl, Or.inl rfl, Int32.le_refl _, fun i hi => absurd hi List.not_mem_nil⟩
  | succ m ih =>
    intro N G h k j0 fuel hG hl hf hj
    obtain ⟨f, rfl⟩ : ∃ f, fuel = f + 1 := ⟨fuel - 1, by omega⟩
    have hG' : G 1 = nI (k + 1 + m) := by rw [hG]; congr 1; omega
    have hk : k < 200 := by omega
    rw [md_poL]
    dsimp only
    rw [if_neg (by rw [hG]; exact nI_ge (by omega) (by omega)), mrb hk, cd_succ, nI_1]
    by_cases q : N 0 k = h
    · rw [if_pos q, mrb hk]
      by_cases q2 : N 2 k = 0
      · rw [if_pos q2, if_neg (nI_pos (c200 hj)), mrb hk, mrb hj, if_pos (show N 0 k = h ∧ N 2 k = 0 from ⟨q, q2⟩)]
        by_cases q3 : N 1 j0 ≤ N 1 k
        · rw [if_pos q3]
          obtain ⟨j, e1, e2, e3, e4⟩ := ih (N := N) (h := h) (fuel := f) hG' (by omega) (by omega) hj
          refine ⟨j, e1, e2.imp id (List.mem_cons_of_mem _), e3, fun i hi => ?_⟩
          rcases List.mem_cons.mp hi with rfl | hi
          · exact Int32.le_trans e3 q3
          · exact e4 i hi
        · rw [if_neg q3]
          have q4 : N 1 k ≤ N 1 j0 := (Int32.le_total (N 1 k) (N 1 j0)).elim id (fun h => absurd h q3)
          obtain ⟨j, e1, e2, e3, e4⟩ := ih (N := N) (h := h) (fuel := f) hG' (by omega) (by omega) hk
          refine ⟨j, e1, Or.inr (e2.elim (fun w => w ▸ List.mem_cons_self) (List.mem_cons_of_mem _)), Int32.le_trans e3 q4, fun i hi => ?_⟩
          rcases List.mem_cons.mp hi with rfl | hi
          · exact e3
          · exact e4 i hi
      · rw [if_neg q2, if_neg (show ¬ (N 0 k = h ∧ N 2 k = 0) from fun w => q2 w.2)]
        exact ih hG' (by omega) (by omega) hj
    · rw [if_neg q, if_neg (show ¬ (N 0 k = h ∧ N 2 k = 0) from fun w => q w.1)]
      exact ih hG' (by omega) (by omega) hj
theorem poL_a : ∀ (m : Nat) {N : Nat → Nat → Int32} {G : Nat → Int32} {h : Int32} {k fuel : Nat}, G 1 = nI (k + m) → k + m ≤ 200 → m < fuel → ∃ r, md_poL fuel (N, G) h (-1) (nI k) = some r ∧ ((cd N h k m = [] ∧ r = -1) ∨ ∃ j ∈ cd N h k m, r = nI j ∧ ∀ i ∈ cd N h k m, N 1 j ≤ N 1 i) := by
  intro m
  induction m with
  | zero =>
    intro N G h k fuel hG hl hf
    obtain ⟨f, rfl⟩ : ∃ f, fuel = f + 1 := ⟨fuel - 1, by omega⟩
    rw [md_poL]
    dsimp only
    rw [if_pos (by rw [hG]; exact nI_le (Nat.le_refl _) (by omega))]
    exact ⟨-1, rfl, Or.inl ⟨rfl, rfl⟩⟩
  | succ m ih =>
    intro N G h k fuel hG hl hf
    obtain ⟨f, rfl⟩ : ∃ f, fuel = f + 1 := ⟨fuel - 1, by omega⟩
    have hG' : G 1 = nI (k + 1 + m) := by rw [hG]; congr 1; omega
    have hk : k < 200 := by omega
    rw [md_poL]
    dsimp only
    rw [if_neg (by rw [hG]; exact nI_ge (by omega) (by omega)), mrb hk, cd_succ, nI_1]
    by_cases q : N 0 k = h
    · rw [if_pos q, mrb hk]
      by_cases q2 : N 2 k = 0
      · rw [if_pos q2, if_pos (show (-1 : Int32) < 0 by decide), if_pos (show N 0 k = h ∧ N 2 k = 0 from ⟨q, q2⟩)]
        obtain ⟨j, e1, e2, e3, e4⟩ := poL_b m (N := N) (h := h) (fuel := f) hG' (by omega) (by omega) hk
        refine ⟨nI j, e1, Or.inr ⟨j, e2.elim (fun w => w ▸ List.mem_cons_self) (List.mem_cons_of_mem _), rfl, fun i hi => ?_⟩⟩
        rcases List.mem_cons.mp hi with rfl | hi
        · exact e3
        · exact e4 i hi
      · rw [if_neg q2, if_neg (show ¬ (N 0 k = h ∧ N 2 k = 0) from fun w => q2 w.2)]
        exact ih hG' (by omega) (by omega)
    · rw [if_neg q, if_neg (show ¬ (N 0 k = h ∧ N 2 k = 0) from fun w => q w.1)]
      exact ih hG' (by omega) (by omega)
theorem placeOf_ok {N : Nat → Nat → Int32} {G : Nat → Int32} {h : Int32} {n : Nat} (hG : G 1 = nI n) (hn : n ≤ 200) : ∃ r, md_placeOf (N, G) h = some r ∧ ((cd N h 0 n = [] ∧ r = -1) ∨ ∃ j ∈ cd N h 0 n, r = nI j ∧ ∀ i ∈ cd N h 0 n, N 1 j ≤ N 1 i) :=
  poL_a n (k := 0) (fuel := sk_FU) (by rw [hG, Nat.zero_add]) (by omega) (by unfold sk_FU; omega)
theorem unL_ok : ∀ (m : Nat) {N : Nat → Nat → Int32} {G : Nat → Int32} {k fuel : Nat}, k + m = 200 → m < fuel → ∃ N', md_unL fuel (N, G) (nI k) = some (N', G) ∧ (∀ r, r ≠ 2 → N' r = N r) ∧ (∀ j, k ≤ j → j < 200 → N' 2 j = 0) ∧ ∀ j, j < k → N' 2 j = N 2 j := by
  intro m
  induction m with
  | zero =>
    intro N G k fuel hk hf
    obtain ⟨f, rfl⟩ : ∃ f, fuel = f + 1 := ⟨fuel - 1, by omega⟩
    obtain rfl : k = 200 := by omega
    rw [md_unL, if_pos (by decide)]
    exact ⟨N, rfl, fun _ _ => rfl, fun j h1 h2 => by omega, fun _ _ => rfl⟩
  | succ m ih =>
    intro N G k fuel hk hf
    obtain ⟨f, rfl⟩ : ∃ f, fuel = f + 1 := ⟨fuel - 1, by omega⟩
    have h200 : ¬ (200 : Int32) ≤ nI k := by
      have := nI_ge (a := k) (b := 200) (by omega) (by decide)
      exact this
    rw [md_unL, if_neg h200, mwb (show k < 200 by omega), nI_1]
    obtain ⟨N', e1, e2, e3, e4⟩ := ih (N := wm N 2 k 0) (G := G) (k := k + 1) (fuel := f) (by omega) (by omega)
    refine ⟨N', e1, fun r hr => by rw [e2 r hr, wm_row _ hr], fun j h1 h2 => ?_, fun j hj => ?_⟩
    · by_cases q : j = k
      · subst q
        rw [e4 j (by omega)]
        exact wm_is _
      · exact e3 j (by omega) h2
    · rw [e4 j (by omega), wm_ne _ (by omega)]
theorem untell_ok {N : Nat → Nat → Int32} {G : Nat → Int32} : ∃ N', md_untell (N, G) = some (N', G) ∧ (∀ r, r ≠ 2 → N' r = N r) ∧ ∀ j, j < 200 → N' 2 j = 0 := by
  obtain ⟨N', e1, e2, e3, e4⟩ := unL_ok 200 (N := N) (G := G) (k := 0) (fuel := sk_FU) (by decide) (by decide)
  exact ⟨N', e1, e2, fun j hj => e3 j (Nat.zero_le _) hj⟩
theorem cd_ow {N : Nat → Nat → Int32} {h : Int32} {n : Nat} (hn : n ≤ 200) (h2 : ∀ j, j < 200 → N 2 j = 0) : cd N h 0 n = ow N h 0 n := by
  unfold cd ow
  refine List.filter_congr (fun i hi => ?_)
  have := List.mem_range'_1.mp hi
  rw [h2 i (by omega)]
  simp
theorem ow_row {N N' : Nat → Nat → Int32} (e : N' 0 = N 0) (h : Int32) (k m : Nat) : ow N' h k m = ow N h k m := by
  unfold ow
  rw [e]
def mk (N : Nat → Nat → Int32) (h : Int32) (n : Nat) : List Int32 := (ow N h 0 n).map (N 1)
def pl (N : Nat → Nat → Int32) (n : Nat) : List (Int32 × Int32) := (List.range' 0 n).map fun k => (N 0 k, N 1 k)
theorem mk_pl (N : Nat → Nat → Int32) (h : Int32) (n : Nat) : mk N h n = ((pl N n).filter fun p => decide (p.1 = h)).map fun p => p.2 := by
  unfold mk pl ow
  rw [List.filter_map, List.map_map]
  rfl
theorem mk_len (N : Nat → Nat → Int32) (h : Int32) (n : Nat) : (mk N h n).length = (ow N h 0 n).length := List.length_map _
theorem ow_le (N : Nat → Nat → Int32) (h : Int32) (n : Nat) : (ow N h 0 n).length ≤ n := by
  have := List.length_filter_le (fun i => decide (N 0 i = h)) (List.range' 0 n)
  rw [List.length_range'] at this
  exact this
theorem mk_perm {N N' : Nat → Nat → Int32} {n m : Nat} {x : Int32 × Int32} (hp : (pl N n).Perm (x :: pl N' m)) (h : Int32) : (mk N h n).Perm (if x.1 = h then x.2 :: mk N' h m else mk N' h m) := by
  rw [mk_pl, mk_pl]
  have := (hp.filter fun p => decide (p.1 = h)).map fun p => p.2
  rw [List.filter_cons] at this
  by_cases q : x.1 = h
  · rw [if_pos q]
    simpa [q] using this
  · rw [if_neg q]
    simpa [q] using this
theorem rem_pl {N : Nat → Nat → Int32} {m j : Nat} (hj : j ≤ m) : (pl N (m + 1)).Perm ((N 0 j, N 1 j) :: pl (wm (wm N 0 j (N 0 m)) 1 j (N 1 m)) m) := by
  have hN : ∀ k, (wm (wm N 0 j (N 0 m)) 1 j (N 1 m) 0 k, wm (wm N 0 j (N 0 m)) 1 j (N 1 m) 1 k) = if k = j then (N 0 m, N 1 m) else (N 0 k, N 1 k) := by
    intro k
    by_cases q : k = j
    · subst q
      rw [if_pos rfl, wm_row _ (by decide), wm_is, wm_is]
    · rw [if_neg q, wm_ne _ q, wm_ne _ q, wm_ne _ q, wm_ne _ q]
  unfold pl
  rw [List.range'_1_concat, List.map_append, Nat.zero_add]
  have e1 : (List.range' 0 m).map (fun k => (wm (wm N 0 j (N 0 m)) 1 j (N 1 m) 0 k, wm (wm N 0 j (N 0 m)) 1 j (N 1 m) 1 k)) = (List.range' 0 m).map (fun k => if k = j then (N 0 m, N 1 m) else (N 0 k, N 1 k)) := List.map_congr_left (fun k _ => hN k)
  rw [e1]
  rcases Nat.lt_or_ge j m with hlt | hge
  · have er : List.range' 0 m = List.range' 0 j ++ j :: List.range' (j + 1) (m - j - 1) := by
      have a := List.range'_append_1 (s := 0) (m := j) (n := m - j)
      rw [Nat.zero_add, show j + (m - j) = m by omega] at a
      rw [← a]
      congr 1
      rw [show m - j = (m - j - 1) + 1 by omega]
      rfl
    rw [er]
    have ea : (List.range' 0 j).map (fun k => if k = j then (N 0 m, N 1 m) else (N 0 k, N 1 k)) = (List.range' 0 j).map (fun k => (N 0 k, N 1 k)) := List.map_congr_left (fun k hk => by
      have := List.mem_range'_1.mp hk
      rw [if_neg (by omega)])
    have eb : (List.range' (j + 1) (m - j - 1)).map (fun k => if k = j then (N 0 m, N 1 m) else (N 0 k, N 1 k)) = (List.range' (j + 1) (m - j - 1)).map (fun k => (N 0 k, N 1 k)) := List.map_congr_left (fun k hk => by
      have := List.mem_range'_1.mp hk
      rw [if_neg (by omega)])
    simp only [List.map_append, List.map_cons, List.map_nil]
    rw [ea, eb]
    simp only [if_true]
    rw [List.perm_iff_count]
    intro z
    simp only [List.count_append, List.count_cons, List.count_nil]
    omega
  · obtain rfl : j = m := by omega
    have ea : (List.range' 0 j).map (fun k => if k = j then (N 0 j, N 1 j) else (N 0 k, N 1 k)) = (List.range' 0 j).map (fun k => (N 0 k, N 1 k)) := List.map_congr_left (fun k hk => by
      have := List.mem_range'_1.mp hk
      rw [if_neg (by omega)])
    rw [ea]
    exact List.perm_append_singleton _ _
theorem add_pl {N : Nat → Nat → Int32} {n : Nat} {h key : Int32} : pl (wm (wm N 0 n h) 1 n key) (n + 1) = pl N n ++ [(h, key)] := by
  unfold pl
  rw [List.range'_1_concat, List.map_append, Nat.zero_add]
  congr 1
  · refine List.map_congr_left (fun k hk => ?_)
    have := List.mem_range'_1.mp hk
    rw [wm_ne _ (by omega), wm_ne _ (by omega), wm_ne _ (by omega), wm_ne _ (by omega)]
  · simp only [List.map_cons, List.map_nil]
    rw [wm_row _ (by decide), wm_is, wm_is]
/-- the owners b become a -/
theorem meL_ok : ∀ (m : Nat) {N : Nat → Nat → Int32} {G : Nat → Int32} {a b : Int32} {k fuel : Nat}, G 1 = nI (k + m) → k + m ≤ 200 → m < fuel → ∃ N', md_meL fuel (N, G) a b (nI k) = (md_sizeOf (N', G) a).bind (fun r => some (r, (N', G))) ∧ N' 1 = N 1 ∧ (∀ j, k ≤ j → j < k + m → N' 0 j = if N 0 j = b then a else N 0 j) ∧ ∀ j, j < k → N' 0 j = N 0 j := by
  intro m
  induction m with
  | zero =>
    intro N G a b k fuel hG hl hf
    obtain ⟨f, rfl⟩ : ∃ f, fuel = f + 1 := ⟨fuel - 1, by omega⟩
    rw [md_meL]
    dsimp only
    rw [if_pos (by rw [hG]; exact nI_le (Nat.le_refl _) (by omega))]
    exact ⟨N, rfl, rfl, fun j h1 h2 => by omega, fun _ _ => rfl⟩
  | succ m ih =>
    intro N G a b k fuel hG hl hf
    obtain ⟨f, rfl⟩ : ∃ f, fuel = f + 1 := ⟨fuel - 1, by omega⟩
    have hG' : G 1 = nI (k + 1 + m) := by rw [hG]; congr 1; omega
    have hk : k < 200 := by omega
    rw [md_meL]
    dsimp only
    rw [if_neg (by rw [hG]; exact nI_ge (by omega) (by omega)), mrb hk, nI_1]
    have key : ∀ x : Int32, x = (if N 0 k = b then a else N 0 k) → ∃ N', md_meL f (wm N 0 k x, G) a b (nI (k + 1)) = (md_sizeOf (N', G) a).bind (fun r => some (r, (N', G))) ∧ N' 1 = N 1 ∧ (∀ j, k ≤ j → j < k + (m + 1) → N' 0 j = if N 0 j = b then a else N 0 j) ∧ ∀ j, j < k → N' 0 j = N 0 j := by
      intro x hx
      obtain ⟨N', e1, e2, e3, e4⟩ := ih (N := wm N 0 k x) (a := a) (b := b) (fuel := f) hG' (by omega) (by omega)
      refine ⟨N', e1, by rw [e2, wm_row _ (by decide)], fun j h1 h2 => ?_, fun j hj => ?_⟩
      · by_cases q : j = k
        · subst q
          rw [e4 j (by omega), wm_is, hx]
        · rw [e3 j (by omega) (by omega), wm_ne _ q]
      · rw [e4 j (by omega), wm_ne _ (by omega)]
    by_cases q : N 0 k = b
    · rw [if_pos q, mwb hk]
      exact key a (by rw [if_pos q])
    · rw [if_neg q, mrb hk, mwb hk]
      exact key (N 0 k) (by rw [if_neg q])
theorem meld_l1 {a b : Int32} (hab : a ≠ b) (l : List (Int32 × Int32)) : (((l.map fun p => if p.1 = b then (a, p.2) else p).filter fun p => decide (p.1 = a)).map fun p => p.2).Perm (((l.filter fun p => decide (p.1 = a)).map fun p => p.2) ++ ((l.filter fun p => decide (p.1 = b)).map fun p => p.2)) := by
  induction l with
  | nil => exact List.Perm.refl _
  | cons p l ih =>
    obtain ⟨p1, p2⟩ := p
    by_cases q : p1 = b
    · have qa : ¬ p1 = a := fun w => hab (w.symm.trans q)
      simp only [List.map_cons, List.filter_cons, decide_eq_true_eq, if_pos q, if_neg qa, if_true]
      exact (ih.cons p2).trans List.perm_middle.symm
    · by_cases qa : p1 = a
      · simp only [List.map_cons, List.filter_cons, decide_eq_true_eq, if_neg q, if_pos qa]
        exact ih.cons p2
      · simp only [List.map_cons, List.filter_cons, decide_eq_true_eq, if_neg q, if_neg qa]
        exact ih
theorem meld_l2 {a b : Int32} (hab : a ≠ b) (l : List (Int32 × Int32)) : ((l.map fun p => if p.1 = b then (a, p.2) else p).filter fun p => decide (p.1 = b)).map (fun p => p.2) = [] := by
  induction l with
  | nil => rfl
  | cons p l ih =>
    obtain ⟨p1, p2⟩ := p
    by_cases q : p1 = b
    · simp only [List.map_cons, List.filter_cons, decide_eq_true_eq, if_pos q, if_neg hab]
      exact ih
    · simp only [List.map_cons, List.filter_cons, decide_eq_true_eq, if_neg q]
      exact ih
theorem meld_l3 {a b h : Int32} (ha : h ≠ a) (hb : h ≠ b) (l : List (Int32 × Int32)) : ((l.map fun p => if p.1 = b then (a, p.2) else p).filter fun p => decide (p.1 = h)).map (fun p => p.2) = (l.filter fun p => decide (p.1 = h)).map (fun p => p.2) := by
  induction l with
  | nil => rfl
  | cons p l ih =>
    obtain ⟨p1, p2⟩ := p
    by_cases q : p1 = b
    · have qh : ¬ p1 = h := fun w => hb (w.symm.trans q)
      simp only [List.map_cons, List.filter_cons, decide_eq_true_eq, if_pos q, if_neg (Ne.symm ha), if_neg qh]
      exact ih
    · by_cases qh : p1 = h
      · simp only [List.map_cons, List.filter_cons, decide_eq_true_eq, if_neg q, if_pos qh]
        exact congrArg _ ih
      · simp only [List.map_cons, List.filter_cons, decide_eq_true_eq, if_neg q, if_neg qh]
        exact ih
theorem meld_mk {N N' : Nat → Nat → Int32} {n : Nat} {a b : Int32} (hab : a ≠ b) (h1 : N' 1 = N 1) (h0 : ∀ j, j < n → N' 0 j = if N 0 j = b then a else N 0 j) : (mk N' a n).Perm (mk N a n ++ mk N b n) ∧ mk N' b n = [] ∧ ∀ h, h ≠ a → h ≠ b → mk N' h n = mk N h n := by
  have e : pl N' n = (pl N n).map (fun p => if p.1 = b then (a, p.2) else p) := by
    unfold pl
    rw [List.map_map]
    refine List.map_congr_left (fun k hk => ?_)
    have := List.mem_range'_1.mp hk
    rw [h0 k (by omega), h1]
    by_cases q : N 0 k = b
    · simp [q]
    · simp [q]
  refine ⟨?_, ?_, fun h ha hb => ?_⟩
  · rw [mk_pl, mk_pl, mk_pl, e]
    exact meld_l1 hab _
  · rw [mk_pl, e]
    exact meld_l2 hab _
  · rw [mk_pl, mk_pl, e]
    exact meld_l3 ha hb _
end
section
/-! THE PLAIN LAW 8: the k-th key, sums -/
theorem kth {L A R : List Int32} {x : Int32} (hL : L.Pairwise (fun a b => a ≤ b)) (hp : L.Perm (A ++ x :: R)) (hA : A.Pairwise (fun a b => a ≤ b)) (h1 : ∀ a ∈ A, a ≤ x) (h2 : ∀ b ∈ R, x ≤ b) : L[A.length]? = some x := by
  have hs : (R.mergeSort (fun a b => decide (a ≤ b))).Pairwise (fun a b => a ≤ b) := by
    have := List.pairwise_mergeSort (le := fun (a b : Int32) => decide (a ≤ b)) (fun a b c h1 h2 => by
      simp only [decide_eq_true_eq] at h1 h2 ⊢
      exact Int32.le_trans h1 h2) (fun a b => by
      simp only [Bool.or_eq_true, decide_eq_true_eq]
      exact Int32.le_total a b) R
    exact this.imp (fun h => by simpa using h)
  have hpR := List.mergeSort_perm R (fun a b => decide (a ≤ b))
  generalize R.mergeSort (fun a b => decide (a ≤ b)) = R' at hs hpR
  have hm : ∀ b ∈ R', x ≤ b := fun b hb => h2 b (hpR.mem_iff.mp hb)
  have he : L = A ++ x :: R' := by
    refine List.Perm.eq_of_pairwise (le := fun a b => a ≤ b) (fun a b _ _ h1 h2 => Int32.le_antisymm h1 h2) hL ?_ (hp.trans ((hpR.symm.cons x).append_left A))
    refine List.pairwise_append.mpr ⟨hA, List.pairwise_cons.mpr ⟨hm, hs⟩, fun a ha b hb => ?_⟩
    rcases List.mem_cons.mp hb with rfl | hb
    · exact h1 a ha
    · exact Int32.le_trans (h1 a ha) (hm b hb)
  rw [he, List.getElem?_append_right (Nat.le_refl _), Nat.sub_self]
  rfl
theorem cd_nodup (N : Nat → Nat → Int32) (h : Int32) (n : Nat) : (cd N h 0 n).Nodup := (List.nodup_range' (s := 0) (n := n)).sublist List.filter_sublist
theorem cd_mark {N : Nat → Nat → Int32} {h : Int32} {n j : Nat} (hj : j ∈ cd N h 0 n) : (cd N h 0 n).Perm (j :: cd (wm N 2 j 1) h 0 n) := by
  have hj' := hj
  unfold cd at hj'
  rw [List.mem_filter] at hj'
  rw [List.perm_ext_iff_of_nodup (cd_nodup N h n) (List.nodup_cons.mpr ⟨?_, cd_nodup _ h n⟩)]
  · intro i
    unfold cd
    simp only [List.mem_cons, List.mem_filter, decide_eq_true_eq]
    by_cases q : i = j
    · subst q
      simp only [true_or, iff_true]
      exact ⟨hj'.1, by simpa using hj'.2⟩
    · rw [wm_row (k' := 0) _ (by decide), wm_ne _ q]
      simp only [q, false_or]
  · unfold cd
    rw [List.mem_filter, wm_is]
    intro w
    have := w.2
    simp at this
theorem kyL_ok {n : Nat} (hn : n ≤ 200) {G : Nat → Int32} (hG : G 1 = nI n) {h : Int32} {k : Nat} : ∀ (m : Nat) {N : Nat → Nat → Int32} {i fuel : Nat} {J : List Nat}, i + m = k → m < fuel → (J ++ cd N h 0 n).Perm (ow N h 0 n) → J.length = i → (J.map (N 1)).Pairwise (fun a b => a ≤ b) → (∀ a ∈ J, ∀ b ∈ cd N h 0 n, N 1 a ≤ N 1 b) → k < (ow N h 0 n).length → ∃ x N' A R, md_kyL fuel (N, G) h (nI k) (nI i) = some (Int32.toInt64 x, (N', G)) ∧ N' 0 = N 0 ∧ N' 1 = N 1 ∧ A.length = k ∧ (mk N h n).Perm (A ++ x :: R) ∧ A.Pairwise (fun a b => a ≤ b) ∧ (∀ a ∈ A, a ≤ x) ∧ ∀ b ∈ R, x ≤ b := by
  intro m
  induction m with
  | zero =>
    intro N i fuel J hi hf hp hJ hs hb hk
    obtain ⟨f, rfl⟩ : ∃ f, fuel = f + 1 := ⟨fuel - 1, by omega⟩
    obtain rfl : i = k := by omega
    have hol := ow_le N h n
    rw [md_kyL, if_pos (nI_le (Nat.le_refl _) (by omega))]
    obtain ⟨r, e1, e2⟩ := placeOf_ok (N := N) (h := h) hG hn
    rcases e2 with ⟨e2, -⟩ | ⟨j, hj, rfl, hmin⟩
    · have := hp.length_eq
      rw [e2, List.append_nil] at this
      omega
    · have hj2 : j < 200 := by
        unfold cd at hj
        have := List.mem_range'_1.mp (List.mem_filter.mp hj).1
        omega
      rw [eb e1, mrb hj2]
      have hm := cd_mark hj
      refine ⟨N 1 j, N, J.map (N 1), (cd (wm N 2 j 1) h 0 n).map (N 1), rfl, rfl, rfl, by rw [List.length_map]; exact hJ, ?_, hs, ?_, ?_⟩
      · unfold mk
        refine (hp.symm.map (N 1)).trans ?_
        rw [List.map_append]
        exact (hm.map (N 1)).append_left _
      · intro a ha
        obtain ⟨a', ha', rfl⟩ := List.mem_map.mp ha
        exact hb a' ha' j hj
      · intro b hb'
        obtain ⟨b', hb2, rfl⟩ := List.mem_map.mp hb'
        exact hmin b' (hm.mem_iff.mpr (List.mem_cons_of_mem _ hb2))
  | succ m ih =>
    intro N i fuel J hi hf hp hJ hs hb hk
    obtain ⟨f, rfl⟩ : ∃ f, fuel = f + 1 := ⟨fuel - 1, by omega⟩
    have hol := ow_le N h n
    rw [md_kyL, if_neg (nI_ge (show i < k by omega) (by omega))]
    obtain ⟨r, e1, e2⟩ := placeOf_ok (N := N) (h := h) hG hn
    rcases e2 with ⟨e2, -⟩ | ⟨j, hj, rfl, hmin⟩
    · have := hp.length_eq
      rw [e2, List.append_nil] at this
      omega
    · have hj2 : j < 200 := by
        unfold cd at hj
        have := List.mem_range'_1.mp (List.mem_filter.mp hj).1
        omega
      rw [eb e1, mwb hj2, nI_1]
      have hm := cd_mark hj
      have e0 : wm N 2 j 1 0 = N 0 := wm_row _ (by decide)
      have e1' : wm N 2 j 1 1 = N 1 := wm_row _ (by decide)
      have eo : ow (wm N 2 j 1) h 0 n = ow N h 0 n := ow_row e0 h 0 n
      obtain ⟨x, N', A, R, f1, f2, f3, f4, f5, f6, f7, f8⟩ := ih (N := wm N 2 j 1) (i := i + 1) (fuel := f) (J := J ++ [j]) (by omega) (by omega) (by
        rw [eo, List.append_assoc]
        exact ((hm.symm.append_left J).trans hp)) (by rw [List.length_append, hJ]; rfl) (by
        rw [e1', List.map_append]
        refine List.pairwise_append.mpr ⟨hs, List.pairwise_singleton _ _, fun a ha b hb' => ?_⟩
        obtain ⟨a', ha', rfl⟩ := List.mem_map.mp ha
        rw [List.map_cons, List.map_nil, List.mem_singleton] at hb'
        rw [hb']
        exact hb a' ha' j hj) (by
        intro a ha b hb'
        rw [e1']
        have hb2 : b ∈ cd N h 0 n := hm.mem_iff.mpr (List.mem_cons_of_mem _ hb')
        rcases List.mem_append.mp ha with ha | ha
        · exact hb a ha b hb2
        · rw [List.mem_singleton.mp ha]
          exact hmin b hb2) (by rw [eo]; exact hk)
      refine ⟨x, N', A, R, f1, f2.trans e0, f3.trans e1', f4, ?_, f6, f7, f8⟩
      unfold mk at f5 ⊢
      rw [eo, e1'] at f5
      exact f5
def sm (l : List Int32) (a : Int64) : Int64 := l.foldl (fun s x => s + Int32.toInt64 x) a
theorem sm_perm {l1 l2 : List Int32} (h : l1.Perm l2) (a : Int64) : sm l1 a = sm l2 a := by
  unfold sm
  refine h.foldl_eq' (fun x _ y _ z => ?_) a
  rw [Int64.add_assoc, Int64.add_assoc, Int64.add_comm (Int32.toInt64 x)]
theorem smL_ok {G : Nat → Int32} {h : Int32} : ∀ (m : Nat) {N : Nat → Nat → Int32} {k fuel : Nat} {a : Int64}, md_isHeap (N, G) h = 1 → G 1 = nI (k + m) → k + m ≤ 200 → m < fuel → md_smL fuel (N, G) h a (nI k) = some (sm ((ow N h k m).map (N 1)) a, (N, G)) := by
  intro m
  induction m with
  | zero =>
    intro N k fuel a hH hG hl hf
    obtain ⟨f, rfl⟩ : ∃ f, fuel = f + 1 := ⟨fuel - 1, by omega⟩
    rw [md_smL]
    dsimp only
    rw [if_pos (by rw [hG]; exact nI_le (Nat.le_refl _) (by omega))]
    rfl
  | succ m ih =>
    intro N k fuel a hH hG hl hf
    obtain ⟨f, rfl⟩ : ∃ f, fuel = f + 1 := ⟨fuel - 1, by omega⟩
    have hG' : G 1 = nI (k + 1 + m) := by rw [hG]; congr 1; omega
    have hk : k < 200 := by omega
    rw [md_smL]
    dsimp only
    rw [if_neg (by rw [hG]; exact nI_ge (by omega) (by omega)), if_neg (by rw [hH]; decide), mrb hk, ow_succ, nI_1]
    by_cases q : N 0 k = h
    · rw [if_pos q, if_pos q, mrb hk, ih hH hG' (by omega) (by omega)]
      rfl
    · rw [if_neg q, if_neg q, Int64.add_zero, ih hH hG' (by omega) (by omega)]
theorem smL_no {G : Nat → Int32} {h : Int32} : ∀ (m : Nat) {N : Nat → Nat → Int32} {k fuel : Nat} {a : Int64}, md_isHeap (N, G) h = 0 → G 1 = nI (k + m) → k + m ≤ 200 → m < fuel → md_smL fuel (N, G) h a (nI k) = some (a, (N, G)) := by
  intro m
  induction m with
  | zero =>
    intro N k fuel a hH hG hl hf
    obtain ⟨f, rfl⟩ : ∃ f, fuel = f + 1 := ⟨fuel - 1, by omega⟩
    rw [md_smL]
    dsimp only
    rw [if_pos (by rw [hG]; exact nI_le (Nat.le_refl _) (by omega))]
  | succ m ih =>
    intro N k fuel a hH hG hl hf
    obtain ⟨f, rfl⟩ : ∃ f, fuel = f + 1 := ⟨fuel - 1, by omega⟩
    have hG' : G 1 = nI (k + 1 + m) := by rw [hG]; congr 1; omega
    rw [md_smL]
    dsimp only
    rw [if_neg (by rw [hG]; exact nI_ge (by omega) (by omega)), if_pos hH, Int64.add_zero, nI_1]
    exact ih hH hG' (by omega) (by omega)
theorem sumL_ok {M : Nat → Nat → Int32} {F : Nat → Int32} : ∀ (l : List Int32) {k fuel : Nat} {a : Int64}, F 6 = nI (k + l.length) → k + l.length ≤ 200 → l.length < fuel → (∀ (j : Nat) (v : Int32), l[j]? = some v → M 7 (k + j) = v) → sk_sumL fuel (M, F) a (nI k) = some (sm l a, (M, F)) := by
  intro l
  induction l with
  | nil =>
    intro k fuel a hF hl hf ho
    obtain ⟨f, rfl⟩ : ∃ f, fuel = f + 1 := ⟨fuel - 1, by simp only [List.length_nil] at hf; omega⟩
    rw [sk_sumL]
    dsimp only
    rw [if_pos (by rw [hF]; exact nI_le (Nat.le_refl _) (by simp only [List.length_nil] at hl; omega))]
    rfl
  | cons x l ih =>
    intro k fuel a hF hl hf ho
    obtain ⟨f, rfl⟩ : ∃ f, fuel = f + 1 := ⟨fuel - 1, by simp only [List.length_cons] at hf; omega⟩
    rw [List.length_cons] at hF hl hf
    have hF' : F 6 = nI (k + 1 + l.length) := by rw [hF]; congr 1; omega
    rw [sk_sumL]
    dsimp only
    rw [if_neg (by rw [hF]; exact nI_ge (by omega) (by omega)), rb (k := 7) (show k < 200 by omega), nI_1]
    have hx : M 7 k = x := ho 0 x rfl
    rw [hx, ih hF' (by omega) (by omega) (fun j v hj => by
      have := ho (j + 1) v (by rw [List.getElem?_cons_succ]; exact hj)
      rw [show k + 1 + j = k + (j + 1) by omega]
      exact this)]
    rfl
end
section
/-! THE PLAIN LAW 9: the invariant; heap, least, size, key, sum, free, few, the start -/
def ch (M : Nat → Nat → Int32) : List Nat → Int32 → Prop
  | [], x => x = -1
  | c :: L, x => x = nI c ∧ c < 200 ∧ ch M L (M 3 c)
theorem ch_fr {M M' : Nat → Nat → Int32} : ∀ {L : List Nat} {x : Int32}, ch M L x → (∀ c ∈ L, M' 3 c = M 3 c) → ch M' L x := by
  intro L
  induction L with
  | nil => intro x h _; exact h
  | cons c L ih =>
    intro x h hf
    refine ⟨h.1, h.2.1, ?_⟩
    rw [hf c List.mem_cons_self]
    exact ih h.2.2 (fun d hd => hf d (List.mem_cons_of_mem _ hd))
/-- one heap, and the reference's keys of it -/
def hp (M : Nat → Nat → Int32) (N : Nat → Nat → Int32) (n i : Nat) (T : List Tr) : Prop := fo M T (M 5 i) ∧ sh2 T ∧ (ce T).Nodup ∧ M 6 i = nI (ce T).length ∧ ((ce T).map (M 0)).Perm (mk N (nI i) n)
def iv (M : Nat → Nat → Int32) (F : Nat → Int32) (N : Nat → Nat → Int32) (G : Nat → Int32) (H n : Nat) (T : Nat → List Tr) (Fl : List Nat) : Prop :=
  (F 2 = nI H ∧ G 0 = nI H ∧ H ≤ 8) ∧ (G 1 = nI n ∧ Fl.length + n = 200) ∧ (∀ i, i < H → hp M N n i (T i)) ∧ (∀ i j, i < H → j < H → i ≠ j → ∀ d ∈ ce (T i), d ∉ ce (T j)) ∧ (∀ i, i < H → ∀ d ∈ ce (T i), d ∉ Fl) ∧ (ch M Fl (F 0) ∧ Fl.Nodup ∧ F 1 = nI Fl.length) ∧ (∀ k, k < n → ∃ i, i < H ∧ N 0 k = nI i) ∧ ¬ F 4 < F 3
def iv_J (u v : sk_T) : Prop := ∃ H n T Fl, iv u.1 u.2 v.1 v.2 H n T Fl
theorem mk_row {N N' : Nat → Nat → Int32} (e0 : N' 0 = N 0) (e1 : N' 1 = N 1) (h : Int32) (n : Nat) : mk N' h n = mk N h n := by
  unfold mk
  rw [ow_row e0, e1]
theorem hp_len {M N : Nat → Nat → Int32} {n i : Nat} {T : List Tr} (h : hp M N n i T) : (ce T).length = (ow N (nI i) 0 n).length ∧ (ce T).length ≤ n := by
  have a := h.2.2.2.2.length_eq
  rw [List.length_map, mk_len] at a
  exact ⟨a, by rw [a]; exact ow_le _ _ _⟩
theorem hp_fr {M M' N N' : Nat → Nat → Int32} {n i : Nat} {T : List Tr} (h : hp M N n i T) (hf : ∀ k, k < 5 → ∀ d ∈ ce T, M' k d = M k d) (h5 : M' 5 i = M 5 i) (h6 : M' 6 i = M 6 i) (hN : mk N' (nI i) n = mk N (nI i) n) : hp M' N' n i T := by
  obtain ⟨a, b, c, d, e⟩ := h
  refine ⟨by rw [h5]; exact fo_fr a hf, b, c, by rw [h6]; exact d, ?_⟩
  rw [hN, List.map_congr_left (fun x hx => hf 0 (by decide) x hx)]
  exact e
theorem iv_alt {M M' : Nat → Nat → Int32} {F F' : Nat → Int32} {N N' : Nat → Nat → Int32} {G : Nat → Int32} {H n : Nat} {T : Nat → List Tr} {Fl : List Nat} (h : iv M F N G H n T Fl) (hM : ∀ k, k ≠ 7 → k ≠ 8 → M' k = M k) (hF : ∀ j, j < 3 → F' j = F j) (h8 : ¬ F' 4 < F' 3) (hN0 : N' 0 = N 0) (hN1 : N' 1 = N 1) : iv M' F' N' G H n T Fl := by
  obtain ⟨⟨a1, a2, a3⟩, a4, a5, a6, a7, ⟨a8, a9, a10⟩, a11, a12⟩ := h
  refine ⟨⟨by rw [hF 2 (by decide)]; exact a1, a2, a3⟩, a4, fun i hi => ?_, a6, a7, ⟨?_, a9, by rw [hF 1 (by decide)]; exact a10⟩, fun k hk => by rw [hN0]; exact a11 k hk, h8⟩
  · exact hp_fr (a5 i hi) (fun k hk d _ => by rw [hM k (by omega) (by omega)]) (by rw [hM 5 (by decide) (by decide)]) (by rw [hM 6 (by decide) (by decide)]) (mk_row hN0 hN1 _ _)
  · rw [hF 0 (by decide)]
    exact ch_fr a8 (fun c _ => by rw [hM 3 (by decide) (by decide)])
def up (T : Nat → List Tr) (i : Nat) (x : List Tr) : Nat → List Tr := fun j => if j = i then x else T j
theorem up_is (T : Nat → List Tr) (i : Nat) (x : List Tr) : up T i x i = x := if_pos rfl
theorem up_ne (T : Nat → List Tr) {i j : Nat} (x : List Tr) (h : j ≠ i) : up T i x j = T j := if_neg h
def bg (F : Nat → Int32) (m : Int32) : Nat → Int32 := upd (upd F 3 0) 4 m
theorem begin_eq (M : Nat → Nat → Int32) (F : Nat → Int32) (m : Int32) : sk_begin (M, F) m = (M, bg F m) := rfl
theorem bg_ne (F : Nat → Int32) (m : Int32) {j : Nat} (h3 : j ≠ 3) (h4 : j ≠ 4) : bg F m j = F j := by
  unfold bg
  rw [upd_ne _ _ h4, upd_ne _ _ h3]
theorem bg_4 (F : Nat → Int32) (m : Int32) : bg F m 4 = m := upd_is _ _ _
theorem bg_3 (F : Nat → Int32) (m : Int32) : bg F m 3 = 0 := by
  unfold bg
  rw [upd_ne _ _ (by decide), upd_is]
theorem tk_3 (F : Nat → Int32) (m : Int32) (k : Nat) : tk (bg F m) k 3 = nI k := by
  unfold tk
  rw [upd_is, bg_3, Int32.zero_add]
theorem max_nlt : ¬ sk_MAX < 0 := by decide
theorem iv_max {M : Nat → Nat → Int32} {F : Nat → Int32} {N N' : Nat → Nat → Int32} {G : Nat → Int32} {H n : Nat} {T : Nat → List Tr} {Fl : List Nat} (h : iv M F N G H n T Fl) (hN0 : N' 0 = N 0) (hN1 : N' 1 = N 1) : iv M (bg F sk_MAX) N' G H n T Fl :=
  iv_alt h (fun _ _ _ => rfl) (fun j hj => bg_ne _ _ (by omega) (by omega)) (by rw [bg_4, bg_3]; exact max_nlt) hN0 hN1
theorem isH {H : Nat} (hH : H ≤ 8) (x : Int32) : (∃ i, i < H ∧ x = nI i ∧ (∀ (M : Nat → Nat → Int32) (F : Nat → Int32), F 2 = nI H → sk_isHeap (M, F) x = 1) ∧ ∀ (N : Nat → Nat → Int32) (G : Nat → Int32), G 0 = nI H → md_isHeap (N, G) x = 1) ∨ ((∀ (M : Nat → Nat → Int32) (F : Nat → Int32), F 2 = nI H → sk_isHeap (M, F) x = 0) ∧ ∀ (N : Nat → Nat → Int32) (G : Nat → Int32), G 0 = nI H → md_isHeap (N, G) x = 0) := by
  by_cases h0 : x < 0
  · refine Or.inr ⟨fun M F _ => ?_, fun N G _ => ?_⟩
    · unfold sk_isHeap
      rw [if_pos h0]
    · unfold md_isHeap
      rw [if_pos h0]
  · obtain ⟨j, hj, rfl⟩ := nI_of h0
    by_cases hjH : j < H
    · refine Or.inl ⟨j, hjH, rfl, fun M F hF => ?_, fun N G hG => ?_⟩
      · unfold sk_isHeap
        rw [if_neg h0]
        dsimp only
        rw [if_neg (by rw [hF]; exact nI_ge hjH (by omega))]
      · unfold md_isHeap
        rw [if_neg h0]
        dsimp only
        rw [if_neg (by rw [hG]; exact nI_ge hjH (by omega))]
    · refine Or.inr ⟨fun M F hF => ?_, fun N G hG => ?_⟩
      · unfold sk_isHeap
        rw [if_neg h0]
        dsimp only
        rw [if_pos (by rw [hF]; exact nI_le (by omega) hj)]
      · unfold md_isHeap
        rw [if_neg h0]
        dsimp only
        rw [if_pos (by rw [hG]; exact nI_le (by omega) hj)]
theorem op_heap (u v : sk_T) (h : iv_J u v) : ∃ r u1 v1, sk_heap u = some (r, u1) ∧ md_heap v = some (r, v1) ∧ iv_J u1 v1 := by
  obtain ⟨M, F⟩ := u
  obtain ⟨N, G⟩ := v
  obtain ⟨H, n, T, Fl, h⟩ := h
  dsimp only at h
  have h' := h
  obtain ⟨⟨a1, a2, a3⟩, a4, a5, a6, a7, ⟨a8, a9, a10⟩, a11, a12⟩ := h
  unfold sk_heap md_heap
  rw [begin_eq]
  unfold sk_heap2
  dsimp only
  have e2 : bg F sk_MAX 2 = nI H := by rw [bg_ne _ _ (by decide) (by decide)]; exact a1
  by_cases h8 : H = 8
  · subst h8
    rw [if_pos (by rw [e2]; rfl), if_pos (by rw [a2]; rfl)]
    exact ⟨-1, _, _, rfl, rfl, 8, n, T, Fl, iv_max h' rfl rfl⟩
  · have hn8 : ¬ nI H = 8 := fun q => h8 (nI_inj (b := 8) (by omega) (by decide) q)
    have hH8 : H < 8 := by omega
    rw [if_neg (by rw [e2]; exact hn8), if_neg (by rw [a2]; exact hn8), e2, wb (k := 5) hH8]
    dsimp only
    rw [e2, wb (k := 6) hH8]
    unfold sk_sF
    dsimp only
    rw [e2, a2, upd_is, nI_1, nI_pred]
    refine ⟨nI H, _, _, rfl, rfl, H + 1, n, up T H [], Fl, ?_⟩
    dsimp only
    have hmk : mk N (nI H) n = [] := by
      unfold mk ow
      rw [List.map_eq_nil_iff, List.filter_eq_nil_iff]
      intro k hk
      have := List.mem_range'_1.mp hk
      obtain ⟨i, hi, e⟩ := a11 k (by omega)
      rw [e]
      simp only [decide_eq_true_eq]
      exact fun q => by
        have := nI_inj (by omega) (by omega) q
        omega
    have hlow : ∀ k, k < 5 → ∀ d, wm (wm M 5 H (-1)) 6 H 0 k d = M k d := fun k hk d => by rw [wm_row _ (by omega), wm_row _ (by omega)]
    refine ⟨⟨upd_is _ _ _, upd_is _ _ _, by omega⟩, ⟨by rw [upd_ne _ _ (by decide)]; exact a4.1, a4.2⟩, fun i hi => ?_, fun i j hi hj hij => ?_, fun i hi => ?_, ⟨?_, a9, ?_⟩, fun k hk => ?_, ?_⟩
    · by_cases q : i = H
      · subst q
        rw [up_is]
        refine ⟨?_, trivial, List.Pairwise.nil, ?_, ?_⟩
        · rw [wm_row _ (by decide), wm_is]
          exact rfl
        · rw [wm_is]
          rfl
        · rw [hmk]
          exact List.Perm.refl _
      · rw [up_ne _ _ q]
        exact hp_fr (a5 i (by omega)) (fun k hk d _ => hlow k hk d) (by rw [wm_row _ (by decide), wm_ne _ q]) (by rw [wm_ne _ q, wm_row _ (by decide)]) rfl
    · by_cases q1 : i = H
      · subst q1
        rw [up_is]
        intro d hd
        exact absurd hd List.not_mem_nil
      · by_cases q2 : j = H
        · subst q2
          rw [up_is]
          intro d _ hd
          exact absurd hd List.not_mem_nil
        · rw [up_ne _ _ q1, up_ne _ _ q2]
          exact a6 i j (by omega) (by omega) hij
    · by_cases q1 : i = H
      · subst q1
        rw [up_is]
        intro d hd
        exact absurd hd List.not_mem_nil
      · rw [up_ne _ _ q1]
        exact a7 i (by omega)
    · rw [upd_ne _ _ (by decide), bg_ne _ _ (by decide) (by decide)]
      exact ch_fr a8 (fun c _ => hlow 3 (by decide) c)
    · rw [upd_ne _ _ (by decide), bg_ne _ _ (by decide) (by decide)]
      exact a10
    · obtain ⟨i, hi, e⟩ := a11 k hk
      exact ⟨i, by omega, e⟩
    · rw [upd_ne _ _ (by decide), upd_ne _ _ (by decide), bg_4, bg_3]
      exact max_nlt
theorem op_size (u v : sk_T) (x : Int32) (h : iv_J u v) : ∃ r u1 v1, sk_size u x = some (r, u1) ∧ md_size v x = some (r, v1) ∧ iv_J u1 v1 := by
  obtain ⟨M, F⟩ := u
  obtain ⟨N, G⟩ := v
  obtain ⟨H, n, T, Fl, h⟩ := h
  dsimp only at h
  have h' := h
  obtain ⟨⟨a1, a2, a3⟩, a4, a5, a6, a7, ⟨a8, a9, a10⟩, a11, a12⟩ := h
  unfold sk_size md_size
  rw [begin_eq]
  unfold sk_size2
  have e2 : bg F sk_MAX 2 = nI H := by rw [bg_ne _ _ (by decide) (by decide)]; exact a1
  rcases isH a3 x with ⟨i, hi, rfl, q1, q2⟩ | ⟨q1, q2⟩
  · rw [if_neg (by rw [q1 _ _ e2]; decide), if_neg (by rw [q2 _ _ a2]; decide), rb (k := 6) (show i < 8 by omega), eb (sizeOf_ok a4.1 (by omega))]
    refine ⟨M 6 i, (M, bg F sk_MAX), (N, G), rfl, ?_, H, n, T, Fl, iv_max h' rfl rfl⟩
    rw [(a5 i hi).2.2.2.1, (hp_len (a5 i hi)).1]
  · rw [if_pos (q1 _ _ e2), if_pos (q2 _ _ a2)]
    exact ⟨-1, _, _, rfl, rfl, H, n, T, Fl, iv_max h' rfl rfl⟩
theorem op_free (u v : sk_T) (h : iv_J u v) : ∃ r u1 v1, sk_free u = some (r, u1) ∧ md_free v = some (r, v1) ∧ iv_J u1 v1 := by
  obtain ⟨M, F⟩ := u
  obtain ⟨N, G⟩ := v
  obtain ⟨H, n, T, Fl, h⟩ := h
  dsimp only at h
  have h' := h
  obtain ⟨⟨a1, a2, a3⟩, a4, a5, a6, a7, ⟨a8, a9, a10⟩, a11, a12⟩ := h
  unfold sk_free md_free
  rw [begin_eq]
  dsimp only
  refine ⟨bg F sk_MAX 1, (M, bg F sk_MAX), (N, G), rfl, ?_, H, n, T, Fl, iv_max h' rfl rfl⟩
  rw [bg_ne _ _ (by decide) (by decide), a10, a4.1]
  have e : (200 : Int32) - nI n = nI Fl.length := by
    have e1 : nI Fl.length + nI n = 200 := by rw [nI_add, a4.2]; rfl
    rw [← e1, Int32.add_sub_cancel]
  rw [e]
theorem op_few (u v : sk_T) (h : iv_J u v) : sk_few u = md_few v := by
  obtain ⟨H, n, T, Fl, h⟩ := h
  obtain ⟨-, -, -, -, -, -, -, a12⟩ := h
  unfold sk_few md_few
  rw [if_neg a12]
theorem op_sum (u v : sk_T) (x : Int32) (h : iv_J u v) : ∃ r u1 v1, sk_sum u x = some (r, u1) ∧ md_sum v x = some (r, v1) ∧ iv_J u1 v1 := by
  obtain ⟨M, F⟩ := u
  obtain ⟨N, G⟩ := v
  obtain ⟨H, n, T, Fl, h⟩ := h
  dsimp only at h
  have h' := h
  obtain ⟨⟨a1, a2, a3⟩, a4, a5, a6, a7, ⟨a8, a9, a10⟩, a11, a12⟩ := h
  unfold sk_sum md_sum
  rw [begin_eq]
  unfold sk_sum2 sk_sF
  dsimp only
  have e2 : upd (bg F sk_MAX) 6 0 2 = nI H := by rw [upd_ne _ _ (by decide), bg_ne _ _ (by decide) (by decide)]; exact a1
  have e34 : ∀ j, j < 5 → upd (bg F sk_MAX) 6 0 j = bg F sk_MAX j := fun j hj => upd_ne _ _ (by omega)
  rcases isH a3 x with ⟨i, hi, rfl, q1, q2⟩ | ⟨q1, q2⟩
  · rw [if_neg (by rw [q1 _ _ e2]; decide)]
    have hn := (hp_len (a5 i hi)).2
    obtain ⟨M', F', L, w1, w2, w3, w4, w5, w6, w7⟩ := walk_ok (F := upd (bg F sk_MAX) 6 0) (show i < 8 by omega) (a5 i hi).1 (by omega)
    rw [eb w1]
    have hL : L.length ≤ 200 := by rw [w7.length_eq, List.length_map]; omega
    have s1 := sumL_ok (M := M') (F := F') L (k := 0) (fuel := sk_FU) (a := 0) (by rw [w4, Nat.zero_add]) (by omega) (by unfold sk_FU; omega) (fun j v hj => by rw [Nat.zero_add]; exact w5 j v hj)
    have s2 := smL_ok (G := G) (h := nI i) n (N := N) (k := 0) (fuel := sk_FU) (a := 0) (q2 _ _ a2) (by rw [a4.1, Nat.zero_add]) (by omega) (by unfold sk_FU; omega)
    have e0 : (0 : Int32) = nI 0 := rfl
    rw [e0, s1, s2]
    have hF' : ∀ j, j < 3 → F' j = F j := fun j hj => by rw [w3 j (by omega) (by omega), e34 j (by omega), bg_ne _ _ (by omega) (by omega)]
    have h8' : ¬ F' 4 < F' 3 := by
      rw [w3 4 (by decide) (by decide), w3 3 (by decide) (by decide), e34 4 (by decide), e34 3 (by decide), bg_4, bg_3]
      exact max_nlt
    refine ⟨sm L 0, (M', F'), (N, G), rfl, ?_, H, n, T, Fl, iv_alt h' w2 hF' h8' rfl rfl⟩
    · have := sm_perm (w7.trans (a5 i hi).2.2.2.2) 0
      rw [this]
      rfl
  · rw [if_pos (q1 _ _ e2)]
    have s1 := sumL_ok (M := M) (F := upd (bg F sk_MAX) 6 0) [] (k := 0) (fuel := sk_FU) (a := 0) (by rw [upd_is]; rfl) (by simp) (by decide) (fun j v hj => by simp at hj)
    have s2 := smL_no (G := G) (h := x) n (N := N) (k := 0) (fuel := sk_FU) (a := 0) (q2 _ _ a2) (by rw [a4.1, Nat.zero_add]) (by omega) (by unfold sk_FU; omega)
    have e0 : (0 : Int32) = nI 0 := rfl
    have hF' : ∀ j, j < 3 → upd (bg F sk_MAX) 6 0 j = F j := fun j hj => by rw [e34 j (by omega), bg_ne _ _ (by omega) (by omega)]
    have h8' : ¬ upd (bg F sk_MAX) 6 0 4 < upd (bg F sk_MAX) 6 0 3 := by
      rw [e34 4 (by decide), e34 3 (by decide), bg_4, bg_3]
      exact max_nlt
    refine ⟨0, (M, upd (bg F sk_MAX) 6 0), (N, G), s1, s2, H, n, T, Fl, iv_alt h' (fun _ _ _ => rfl) hF' h8' rfl rfl⟩
theorem op_key (u v : sk_T) (x y : Int32) (h : iv_J u v) : ∃ r u1 v1, sk_key u x y = some (r, u1) ∧ md_key v x y = some (r, v1) ∧ iv_J u1 v1 := by
  obtain ⟨M, F⟩ := u
  obtain ⟨N, G⟩ := v
  obtain ⟨H, n, T, Fl, h⟩ := h
  dsimp only at h
  have h' := h
  obtain ⟨⟨a1, a2, a3⟩, a4, a5, a6, a7, ⟨a8, a9, a10⟩, a11, a12⟩ := h
  unfold sk_key md_key
  rw [begin_eq]
  unfold sk_key2
  have e2 : bg F sk_MAX 2 = nI H := by rw [bg_ne _ _ (by decide) (by decide)]; exact a1
  rcases isH a3 x with ⟨i, hi, rfl, q1, q2⟩ | ⟨q1, q2⟩
  · have g1 : ¬ sk_isHeap (M, bg F sk_MAX) (nI i) = 0 := by rw [q1 _ _ e2]; decide
    have g2 : ¬ md_isHeap (N, G) (nI i) = 0 := by rw [q2 _ _ a2]; decide
    rw [if_neg g1, if_neg g2]
    by_cases hy : y < 0
    · rw [if_pos hy, if_pos hy]
      exact ⟨sk_MIN, (M, bg F sk_MAX), (N, G), rfl, rfl, H, n, T, Fl, iv_max h' rfl rfl⟩
    · rw [if_neg hy, if_neg hy, rb (k := 6) (show i < 8 by omega), eb (sizeOf_ok a4.1 (by omega)), (a5 i hi).2.2.2.1, (hp_len (a5 i hi)).1]
      by_cases hlt : y < nI (ow N (nI i) 0 n).length
      · rw [if_pos hlt, if_pos hlt]
        obtain ⟨k, hk, rfl⟩ := nI_of hy
        have hle := ow_le N (nI i) n
        have hkl : k < (ow N (nI i) 0 n).length := (nI_ltI hk (by omega)).mp hlt
        have hn := (hp_len (a5 i hi)).2
        obtain ⟨M', F', L, w1, w2, w3, w4, w5, w6, w7⟩ := walk_ok (F := bg F sk_MAX) (show i < 8 by omega) (a5 i hi).1 (by omega)
        obtain ⟨N1, t1, t2, t3⟩ := untell_ok (N := N) (G := G)
        have eo : ow N1 (nI i) 0 n = ow N (nI i) 0 n := ow_row (t2 0 (by decide)) _ _ _
        obtain ⟨z, N', A, R, f1, f2, f3, f4, f5, f6, f7, f8⟩ := kyL_ok (show n ≤ 200 by omega) (h := nI i) (k := k) a4.1 k (N := N1) (i := 0) (fuel := sk_FU) (J := []) (by omega) (by unfold sk_FU; omega) (by rw [List.nil_append, cd_ow (by omega) t3]) rfl List.Pairwise.nil (fun a ha => absurd ha List.not_mem_nil) (by rw [eo]; exact hkl)
        rw [eb w1, eb t1]
        try dsimp only
        rw [rb (k := 7) (show k < 200 by omega)]
        have hLp : L.Perm (A ++ z :: R) := by
          refine (w7.trans (a5 i hi).2.2.2.2).trans ?_
          rw [← mk_row (N' := N1) (t2 0 (by decide)) (t2 1 (by decide))]
          exact f5
        have hz := kth w6 hLp f6 f7 f8
        rw [f4] at hz
        have e0 : (0 : Int32) = nI 0 := rfl
        rw [w5 k z hz, e0, f1]
        have hF' : ∀ j, j < 3 → F' j = F j := fun j hj => by rw [w3 j (by omega) (by omega), bg_ne _ _ (by omega) (by omega)]
        have h8' : ¬ F' 4 < F' 3 := by
          rw [w3 4 (by decide) (by decide), w3 3 (by decide) (by decide), bg_4, bg_3]
          exact max_nlt
        exact ⟨Int32.toInt64 z, (M', F'), (N', G), rfl, rfl, H, n, T, Fl, iv_alt h' w2 hF' h8' (f2.trans (t2 0 (by decide))) (f3.trans (t2 1 (by decide)))⟩
      · rw [if_neg hlt, if_neg hlt]
        exact ⟨sk_MIN, (M, bg F sk_MAX), (N, G), rfl, rfl, H, n, T, Fl, iv_max h' rfl rfl⟩
  · rw [if_pos (q1 _ _ e2), if_pos (q2 _ _ a2)]
    exact ⟨sk_MIN, (M, bg F sk_MAX), (N, G), rfl, rfl, H, n, T, Fl, iv_max h' rfl rfl⟩
end
section
/-! THE PLAIN LAW 10: the start, least, add -/
theorem inL_ok : ∀ (m : Nat) {M : Nat → Nat → Int32} {F : Nat → Int32} {k fuel : Nat}, k + m = 200 → m < fuel → ∃ M', sk_inL fuel (M, F) (nI k) = some (M', F) ∧ (∀ r, r ≠ 3 → M' r = M r) ∧ (∀ j, k ≤ j → j < 200 → M' 3 j = if j + 1 < 200 then nI (j + 1) else -1) ∧ ∀ j, j < k → M' 3 j = M 3 j := by
  intro m
  induction m with
  | zero =>
    intro M F k fuel hk hf
    obtain ⟨f, rfl⟩ : ∃ f, fuel = f + 1 := ⟨fuel - 1, by omega⟩
    obtain rfl : k = 200 := by omega
    rw [sk_inL, if_pos (by decide)]
    exact ⟨M, rfl, fun _ _ => rfl, fun j h1 h2 => by omega, fun _ _ => rfl⟩
  | succ m ih =>
    intro M F k fuel hk hf
    obtain ⟨f, rfl⟩ : ∃ f, fuel = f + 1 := ⟨fuel - 1, by omega⟩
    have h200 : ¬ (200 : Int32) ≤ nI k := nI_ge (a := k) (b := 200) (by omega) (by decide)
    rw [sk_inL, if_neg h200, nI_1]
    have key : ∀ x : Int32, x = (if k + 1 < 200 then nI (k + 1) else -1) → ∃ M', sk_inL f (wm M 3 k x, F) (nI (k + 1)) = some (M', F) ∧ (∀ r, r ≠ 3 → M' r = M r) ∧ (∀ j, k ≤ j → j < 200 → M' 3 j = if j + 1 < 200 then nI (j + 1) else -1) ∧ ∀ j, j < k → M' 3 j = M 3 j := by
      intro x hx
      obtain ⟨M', e1, e2, e3, e4⟩ := ih (M := wm M 3 k x) (F := F) (k := k + 1) (fuel := f) (by omega) (by omega)
      refine ⟨M', e1, fun r hr => by rw [e2 r hr, wm_row _ hr], fun j h1 h2 => ?_, fun j hj => ?_⟩
      · by_cases q : j = k
        · subst q
          rw [e4 j (by omega), wm_is, hx]
        · exact e3 j (by omega) h2
      · rw [e4 j (by omega), wm_ne _ (by omega)]
    by_cases q : k + 1 < 200
    · have q2 : ¬ (200 : Int32) ≤ nI (k + 1) := nI_ge (a := k + 1) (b := 200) q (by decide)
      rw [if_neg q2, wb (k := 3) (show k < 200 by omega)]
      exact key _ (by rw [if_pos q])
    · have q2 : (200 : Int32) ≤ nI (k + 1) := nI_le (a := 200) (b := k + 1) (by omega) (by omega)
      rw [if_pos q2, wb (k := 3) (show k < 200 by omega)]
      exact key _ (by rw [if_neg q])
theorem ch_range {M : Nat → Nat → Int32} (h : ∀ j, j < 200 → M 3 j = if j + 1 < 200 then nI (j + 1) else -1) : ∀ (m k : Nat), k + (m + 1) = 200 → ch M (List.range' k (m + 1)) (nI k) := by
  intro m
  induction m with
  | zero =>
    intro k hk
    refine ⟨rfl, by omega, ?_⟩
    rw [h k (by omega), if_neg (by omega)]
    exact rfl
  | succ m ih =>
    intro k hk
    refine ⟨rfl, by omega, ?_⟩
    rw [h k (by omega), if_pos (by omega)]
    exact ih (k + 1) (by omega)
theorem iv_start : ∃ z, sk_inL sk_FU sk_z0 0 = some z ∧ iv_J z md_z0 := by
  obtain ⟨M', e1, e2, e3, -⟩ := inL_ok 200 (M := sk_z0.1) (F := sk_z0.2) (k := 0) (fuel := sk_FU) (by decide) (by decide)
  refine ⟨(M', sk_z0.2), e1, 0, 0, fun _ => [], List.range' 0 200, ⟨rfl, rfl, by decide⟩, ⟨rfl, by rw [List.length_range']⟩, fun i hi => absurd hi (Nat.not_lt_zero _), fun i j hi => absurd hi (Nat.not_lt_zero _), fun i hi => absurd hi (Nat.not_lt_zero _), ⟨?_, List.nodup_range', ?_⟩, fun k hk => absurd hk (Nat.not_lt_zero _), (show ¬ sk_z0.2 4 < sk_z0.2 3 by decide)⟩
  · exact ch_range (fun j hj => e3 j (Nat.zero_le _) hj) 199 0 rfl
  · rw [List.length_range']
    rfl
theorem min_eq {M N : Nat → Nat → Int32} {n i c j : Nat} {T : List Tr} (h : hp M N n i T) (hc : c ∈ ce T) (hm : ∀ d ∈ ce T, M 0 c ≤ M 0 d) (hj : j ∈ ow N (nI i) 0 n) (hmj : ∀ k ∈ ow N (nI i) 0 n, N 1 j ≤ N 1 k) : N 1 j = M 0 c := by
  have p := h.2.2.2.2
  have q1 : M 0 c ∈ mk N (nI i) n := p.mem_iff.mp (List.mem_map.mpr ⟨c, hc, rfl⟩)
  have q2 : N 1 j ∈ (ce T).map (M 0) := p.mem_iff.mpr (List.mem_map.mpr ⟨j, hj, rfl⟩)
  obtain ⟨k, hk, e1⟩ := List.mem_map.mp q1
  obtain ⟨d, hd, e2⟩ := List.mem_map.mp q2
  refine Int32.le_antisymm ?_ ?_
  · rw [← e1]
    exact hmj k hk
  · rw [← e2]
    exact hm d hd
theorem few_tk (F : Nat → Int32) {k B : Nat} (h : k ≤ B) (hB : B < 2 ^ 31) : ¬ tk (bg F (nI B)) k 4 < tk (bg F (nI B)) k 3 := by
  rw [tk_3, tk_ne _ _ (by decide), bg_4]
  exact nI_nlt h hB
theorem tk_low (F : Nat → Int32) (m : Int32) (k : Nat) {j : Nat} (h : j < 3) : tk (bg F m) k j = F j := by
  rw [tk_ne _ _ (by omega), bg_ne _ _ (by omega) (by omega)]
theorem op_least (u v : sk_T) (x : Int32) (h : iv_J u v) : ∃ r u1 v1, sk_least u x = some (r, u1) ∧ md_least v x = some (r, v1) ∧ iv_J u1 v1 := by
  obtain ⟨M, F⟩ := u
  obtain ⟨N, G⟩ := v
  obtain ⟨H, n, T, Fl, h⟩ := h
  dsimp only at h
  have h' := h
  obtain ⟨⟨a1, a2, a3⟩, a4, a5, a6, a7, ⟨a8, a9, a10⟩, a11, a12⟩ := h
  unfold sk_least md_least
  obtain ⟨N1, t1, t2, t3⟩ := untell_ok (N := N) (G := G)
  rw [eb t1]
  rcases isH a3 x with ⟨i, hi, rfl, q1, q2⟩ | ⟨q1, q2⟩
  · have g1 : ¬ sk_isHeap (M, F) (nI i) = 0 := by rw [q1 _ _ a1]; decide
    have g2 : ¬ md_isHeap (N1, G) (nI i) = 0 := by rw [q2 _ _ a2]; decide
    have hi8 : i < 8 := by omega
    rw [if_neg g1, if_neg g2, rb (k := 6) hi8, begin_eq, (a5 i hi).2.2.2.1]
    have hl := hp_len (a5 i hi)
    have hl2 : (ce (T i)).length ≤ 200 := by omega
    rw [few_eq _ (by omega)]
    have hlog := log2_small hl2
    generalize hB : 200 * (2 + Nat.log2 ((ce (T i)).length + 1)) = B
    unfold sk_least2
    have e2 : bg F (nI B) 2 = nI H := by rw [bg_ne _ _ (by decide) (by decide)]; exact a1
    have g3 : ¬ sk_isHeap (M, bg F (nI B)) (nI i) = 0 := by rw [q1 _ _ e2]; decide
    rw [if_neg g3, rb (k := 6) hi8, (a5 i hi).2.2.2.1]
    obtain ⟨r, p1, p2⟩ := placeOf_ok (N := N1) (h := nI i) a4.1 (show n ≤ 200 by omega)
    rw [cd_ow (show n ≤ 200 by omega) t3, ow_row (t2 0 (by decide))] at p2
    rw [eb p1]
    by_cases hz : (ce (T i)).length = 0
    · rw [hz, if_pos (by decide)]
      rcases p2 with ⟨-, rfl⟩ | ⟨j, hj, -, -⟩
      · unfold md_least2
        rw [if_neg (by decide)]
        refine ⟨sk_MIN, (M, bg F (nI B)), (N1, G), rfl, rfl, H, n, T, Fl, iv_alt h' (fun _ _ _ => rfl) (fun j hj => bg_ne _ _ (by omega) (by omega)) ?_ (t2 0 (by decide)) (t2 1 (by decide))⟩
        have := few_tk F (Nat.zero_le B) (by omega)
        rw [tk_0] at this
        exact this
      · have := List.length_pos_of_mem hj
        omega
    · rw [if_neg (nI_nle (by omega) (by omega))]
      have hT : T i ≠ [] := fun q => hz (by rw [q]; rfl)
      have hT2 := trees_le (a5 i hi).1 (a5 i hi).2.1
      obtain ⟨t, ht, b1, b2⟩ := lt_ok (F := bg F (nI B)) hi8 (a5 i hi).1 hT (by omega)
      have htr := fo_in (a5 i hi).1 t ht
      rw [eb b1]
      try dsimp only
      rw [gb (k := 0) (tr_lt htr)]
      try dsimp only
      rcases p2 with ⟨w, -⟩ | ⟨j, hj, rfl, hjm⟩
      · rw [w] at hl
        exact absurd hl.1 hz
      · have hj2 : j < 200 := by
          unfold ow at hj
          have := List.mem_range'_1.mp (List.mem_filter.mp hj).1
          omega
        have hmin : ∀ d ∈ ce (T i), M 0 t.2.1 ≤ M 0 d := by
          intro d hd
          obtain ⟨t', ht', hd'⟩ := List.mem_flatMap.mp hd
          exact Int32.le_trans (b2 t' ht') (tr_min (fo_in (a5 i hi).1 t' ht') d hd')
        rw [t2 1 (by decide)] at hjm
        have hv := min_eq (a5 i hi) (ce_in ht (tr_root htr)) hmin hj hjm
        unfold md_least2
        rw [if_pos (nI_pos' (c200 hj2)), mrb hj2, t2 1 (by decide), hv, tk_tk]
        refine ⟨Int32.toInt64 (M 0 t.2.1), (M, tk (bg F (nI B)) (1 + 3 * (T i).length + 1)), (N1, G), rfl, rfl, H, n, T, Fl, iv_alt h' (fun _ _ _ => rfl) (fun j hj => tk_low _ _ _ hj) (few_tk F ?_ (by omega)) (t2 0 (by decide)) (t2 1 (by decide))⟩
        omega
  · rw [if_pos (q1 _ _ a1), if_pos (q2 _ _ a2), begin_eq]
    have e2 : bg F sk_MAX 2 = nI H := by rw [bg_ne _ _ (by decide) (by decide)]; exact a1
    unfold sk_least2 md_least2
    rw [if_pos (q1 _ _ e2), if_neg (by decide)]
    exact ⟨sk_MIN, (M, bg F sk_MAX), (N1, G), rfl, rfl, H, n, T, Fl, iv_max h' (t2 0 (by decide)) (t2 1 (by decide))⟩
theorem hp_fr2 {M M' N N' : Nat → Nat → Int32} {n n' i : Nat} {T : List Tr} (h : hp M N n i T) (hf : ∀ k, k < 5 → ∀ d ∈ ce T, M' k d = M k d) (h5 : M' 5 i = M 5 i) (h6 : M' 6 i = M 6 i) (hN : (mk N (nI i) n).Perm (mk N' (nI i) n')) : hp M' N' n' i T := by
  obtain ⟨a, b, c, d, e⟩ := h
  refine ⟨by rw [h5]; exact fo_fr a hf, b, c, by rw [h6]; exact d, ?_⟩
  rw [List.map_congr_left (fun x hx => hf 0 (by decide) x hx)]
  exact e.trans hN
def mkM (M : Nat → Nat → Int32) (c : Nat) (key : Int32) : Nat → Nat → Int32 := wm (wm (wm (wm M 0 c key) 1 c 0) 2 c (-1)) 4 c (-1)
theorem tk_up (F : Nat → Int32) (a b : Int32) (k m : Nat) : tk (upd (upd (tk F k) 0 a) 1 b) m = tk (upd (upd F 0 a) 1 b) (k + m) := by
  funext j
  unfold tk upd
  by_cases h3 : j = 3
  · subst h3
    simp [Int32.add_assoc, nI_add]
  · simp [h3]
theorem make_eq {M : Nat → Nat → Int32} {F : Nat → Int32} {c : Nat} {key : Int32} (h0 : F 0 = nI c) (hc : c < 200) : sk_make (M, F) key = some (nI c, (mkM M c key, tk (upd (upd F 0 (M 3 c)) 1 (F 1 - 1)) 5)) := by
  unfold sk_make
  dsimp only
  rw [h0, gb (k := 3) hc]
  unfold sk_sF
  dsimp only
  rw [sb (k := 0) hc]
  try dsimp only
  rw [sb (k := 1) hc]
  try dsimp only
  rw [sb (k := 2) hc]
  try dsimp only
  rw [sb (k := 4) hc]
  try dsimp only
  rw [show upd (tk F 1) 0 (M 3 c) 1 = F 1 by rw [upd_ne _ _ (by decide), tk_ne _ _ (by decide)]]
  simp only [tk_tk]
  rw [tk_up]
  rfl
theorem mkM_ne (M : Nat → Nat → Int32) {c d : Nat} (key : Int32) (k : Nat) (h : d ≠ c) : mkM M c key k d = M k d := by
  unfold mkM
  rw [wm_ne _ h, wm_ne _ h, wm_ne _ h, wm_ne _ h]
theorem mkM_row (M : Nat → Nat → Int32) (c : Nat) (key : Int32) {k : Nat} (h : 5 ≤ k) : mkM M c key k = M k := by
  unfold mkM
  rw [wm_row _ (by omega), wm_row _ (by omega), wm_row _ (by omega), wm_row _ (by omega)]
theorem mkM_one (M : Nat → Nat → Int32) {c : Nat} (key : Int32) (h : c < 200) : one (mkM M c key) c ∧ mkM M c key 0 c = key := by
  unfold mkM
  refine ⟨⟨h, ?_, ?_, ?_⟩, ?_⟩
  · rw [wm_row _ (by decide), wm_row _ (by decide), wm_is]
    rfl
  · rw [wm_row _ (by decide), wm_is]
  · rw [wm_is]
  · rw [wm_row _ (by decide), wm_row _ (by decide), wm_row _ (by decide), wm_is]
theorem op_add (u v : sk_T) (x y : Int32) (h : iv_J u v) : ∃ r u1 v1, sk_add u x y = some (r, u1) ∧ md_add v x y = some (r, v1) ∧ iv_J u1 v1 := by
  obtain ⟨M, F⟩ := u
  obtain ⟨N, G⟩ := v
  obtain ⟨H, n, T, Fl, h⟩ := h
  dsimp only at h
  have h' := h
  obtain ⟨⟨a1, a2, a3⟩, a4, a5, a6, a7, ⟨a8, a9, a10⟩, a11, a12⟩ := h
  unfold sk_add md_add
  rw [begin_eq]
  unfold sk_add2
  have e2 : bg F 100 2 = nI H := by rw [bg_ne _ _ (by decide) (by decide)]; exact a1
  have h100 : iv M (bg F 100) N G H n T Fl := iv_alt h' (fun _ _ _ => rfl) (fun j hj => bg_ne _ _ (by omega) (by omega)) (by rw [bg_4, bg_3]; decide) rfl rfl
  have e1 : bg F 100 1 = nI Fl.length := by rw [bg_ne _ _ (by decide) (by decide)]; exact a10
  rcases isH a3 x with ⟨i, hi, rfl, q1, q2⟩ | ⟨q1, q2⟩
  · have g1 : ¬ sk_isHeap (M, bg F 100) (nI i) = 0 := by rw [q1 _ _ e2]; decide
    have g2 : ¬ md_isHeap (N, G) (nI i) = 0 := by rw [q2 _ _ a2]; decide
    have hi8 : i < 8 := by omega
    rw [if_neg g1, if_neg g2]
    dsimp only
    cases Fl with
    | nil =>
      have hn : n = 200 := by
        have := a4.2
        simp only [List.length_nil] at this
        omega
      subst hn
      rw [if_pos (by rw [e1]; rfl), if_pos (by rw [a4.1]; rfl)]
      exact ⟨-2, (M, bg F 100), (N, G), rfl, rfl, H, 200, T, [], h100⟩
    | cons c Fl =>
      rw [List.length_cons] at a4 a10 e1
      have hn : n < 200 := by omega
      have hl := hp_len (a5 i hi)
      have gz : ¬ bg F 100 1 = 0 := by rw [e1]; exact nI_ne0 (by omega) (by omega)
      have gn : ¬ G 1 = 200 := by
        rw [a4.1]
        intro q
        have := nI_inj (a := n) (b := 200) (by omega) (by decide) q
        omega
      rw [if_neg gz, if_neg gn, a4.1]
      have hc := a8.2.1
      have hF0 : bg F 100 0 = nI c := by rw [bg_ne _ _ (by decide) (by decide)]; exact a8.1
      rw [eb (make_eq (M := M) (F := bg F 100) (key := y) hF0 hc)]
      dsimp only
      rw [e1, nI_pred, gb (k := 5) hi8]
      try dsimp only
      rw [mkM_row _ _ _ (by decide)]
      have hcT : ∀ j, j < H → c ∉ ce (T j) := fun j hj q => a7 j hj c q List.mem_cons_self
      have hcd : ∀ j, j < H → ∀ d ∈ ce (T j), d ≠ c := fun j hj d hd q => hcT j hj (q ▸ hd)
      obtain ⟨o1, o2⟩ := mkM_one M y hc
      have hfo : fo (mkM M c y) (T i) (M 5 i) := fo_fr (a5 i hi).1 (fun k _ d hd => mkM_ne _ _ _ (hcd i hi d hd))
      generalize hF1 : tk (tk (upd (upd (bg F 100) 0 (M 3 c)) 1 (nI Fl.length)) 5) 1 = F1
      obtain ⟨z, M1, k, T1, b1, b2, b3, b4, b5, b6, b7⟩ := insert_ok (F := F1) o1 hfo (a5 i hi).2.1 (List.nodup_cons.mpr ⟨hcT i hi, (a5 i hi).2.2.1⟩) (by omega)
      rw [eb b1]
      try dsimp only
      rw [sb (k := 5) hi8]
      try dsimp only
      rw [gb (k := 6) hi8]
      try dsimp only
      rw [sb (k := 6) hi8]
      have e6 : wm M1 5 i z 6 i = nI (ce (T i)).length := by
        rw [wm_row _ (by decide), b6 6 i (Or.inl (by decide)), mkM_row _ _ _ (by decide)]
        exact (a5 i hi).2.2.2.1
      rw [e6, nI_1, mwb hn]
      try dsimp only
      rw [a4.1, mwb hn]
      unfold sk_sF
      dsimp only
      rw [a4.1, nI_1]
      have hs := sizeOf_ok (N := wm (wm N 0 n (nI i)) 1 n y) (G := upd G 1 (nI (n + 1))) (h := nI i) (n := n + 1) (upd_is _ _ _) (by omega)
      rw [eb hs]
      have hpl : (pl (wm (wm N 0 n (nI i)) 1 n y) (n + 1)).Perm ((nI i, y) :: pl N n) := by
        rw [add_pl]
        exact List.perm_append_singleton _ _
      have hmk := fun q => mk_perm hpl q
      dsimp only at hmk
      have hmi := hmk (nI i)
      rw [if_pos rfl] at hmi
      have hlen : (ow (wm (wm N 0 n (nI i)) 1 n y) (nI i) 0 (n + 1)).length = (ce (T i)).length + 1 := by
        rw [← mk_len, hmi.length_eq, List.length_cons, mk_len, ← hl.1]
      rw [hlen]
      have hM0 : ∀ k', k' < 5 → ∀ d, wm (wm M1 5 i z) 6 i (nI ((ce (T i)).length + 1)) k' d = M1 k' d := fun k' hk' d => by rw [wm_row _ (by omega), wm_row _ (by omega)]
      have hM1 : ∀ k' d, (d ≠ c ∧ d ∉ ce (T i)) → M1 k' d = M k' d := fun k' d hd => by
        rw [b6 k' d (Or.inr (fun q => (List.mem_cons.mp q).elim hd.1 hd.2)), mkM_ne _ _ _ hd.1]
      have hT1 : ∀ d ∈ ce T1, d = c ∨ d ∈ ce (T i) := fun d hd => List.mem_cons.mp (b5.mem_iff.mp hd)
      have hF1v : ∀ j, j ≠ 0 → j ≠ 1 → j ≠ 3 → F1 j = bg F 100 j := fun j q0 q1 q3 => by
        rw [← hF1, tk_ne _ _ q3, tk_ne _ _ q3, upd_ne _ _ q1, upd_ne _ _ q0]
      refine ⟨nI ((ce (T i)).length + 1), (wm (wm M1 5 i z) 6 i (nI ((ce (T i)).length + 1)), tk (tk (tk (tk F1 k) 1) 1) 1), (wm (wm N 0 n (nI i)) 1 n y, upd G 1 (nI (n + 1))), rfl, rfl, H, n + 1, up T i T1, Fl, ⟨?_, ?_, a3⟩, ⟨upd_is G 1 (nI (n + 1)), by omega⟩, fun j hj => ?_, fun j1 j2 hj1 hj2 hne d hd => ?_, fun j hj d hd => ?_, ⟨?_, (List.nodup_cons.mp a9).2, ?_⟩, fun k' hk' => ?_, ?_⟩
      · dsimp only
        rw [tk_ne _ _ (by decide), tk_ne _ _ (by decide), tk_ne _ _ (by decide), tk_ne _ _ (by decide), hF1v 2 (by decide) (by decide) (by decide)]
        exact e2
      · dsimp only
        rw [upd_ne _ _ (by decide)]
        exact a2
      · dsimp only
        by_cases q : j = i
        · subst q
          rw [up_is]
          refine ⟨?_, b4, b5.symm.nodup (List.nodup_cons.mpr ⟨hcT j hj, (a5 j hj).2.2.1⟩), ?_, ?_⟩
          · rw [wm_row _ (by decide), wm_is]
            exact fo_fr b3 (fun k' hk' d _ => hM0 k' hk' d)
          · rw [wm_is, b5.length_eq, List.length_cons]
          · rw [show wm (wm M1 5 j z) 6 j (nI ((ce (T j)).length + 1)) 0 = M1 0 from funext (fun d => hM0 0 (by decide) d)]
            refine b7.trans (List.Perm.trans ?_ hmi.symm)
            rw [List.map_cons, o2, List.map_congr_left (fun d hd => mkM_ne M y 0 (hcd j hj d hd))]
            exact (a5 j hj).2.2.2.2.cons _
        · rw [up_ne _ _ q]
          refine hp_fr2 (a5 j hj) (fun k' hk' d hd => ?_) ?_ ?_ ?_
          · rw [hM0 k' hk' d, hM1 k' d ⟨hcd j hj d hd, a6 j i hj hi q d hd⟩]
          · rw [wm_row _ (by decide), wm_ne _ q, b6 5 j (Or.inl (by decide)), mkM_row _ _ _ (by decide)]
          · rw [wm_ne _ q, wm_row _ (by decide), b6 6 j (Or.inl (by decide)), mkM_row _ _ _ (by decide)]
          · have := hmk (nI j)
            rw [if_neg (fun w => q (nI_inj (by omega) (by omega) w.symm))] at this
            exact this.symm
      · by_cases w1 : j1 = i
        · subst w1
          rw [up_is] at hd
          rw [up_ne _ _ (Ne.symm hne)]
          rcases hT1 d hd with rfl | hd
          · exact hcT j2 hj2
          · exact a6 j1 j2 hj1 hj2 hne d hd
        · rw [up_ne _ _ w1] at hd
          by_cases w2 : j2 = i
          · subst w2
            rw [up_is]
            intro q
            rcases hT1 d q with w | w
            · exact hcd j1 hj1 d hd w
            · exact a6 j1 j2 hj1 hj2 hne d hd w
          · rw [up_ne _ _ w2]
            exact a6 j1 j2 hj1 hj2 hne d hd
      · by_cases w1 : j = i
        · subst w1
          rw [up_is] at hd
          rcases hT1 d hd with rfl | hd
          · exact (List.nodup_cons.mp a9).1
          · exact fun q => a7 j hj d hd (List.mem_cons_of_mem _ q)
        · rw [up_ne _ _ w1] at hd
          exact fun q => a7 j hj d hd (List.mem_cons_of_mem _ q)
      · dsimp only
        rw [tk_ne _ _ (by decide), tk_ne _ _ (by decide), tk_ne _ _ (by decide), tk_ne _ _ (by decide), ← hF1, tk_ne _ _ (by decide), tk_ne _ _ (by decide), upd_ne _ _ (by decide), upd_is]
        refine ch_fr a8.2.2 (fun d hd => ?_)
        rw [hM0 3 (by decide), hM1 3 d ⟨fun q => (List.nodup_cons.mp a9).1 (q ▸ hd), fun q => a7 i hi d q (List.mem_cons_of_mem _ hd)⟩]
      · dsimp only
        rw [tk_ne _ _ (by decide), tk_ne _ _ (by decide), tk_ne _ _ (by decide), tk_ne _ _ (by decide), ← hF1, tk_ne _ _ (by decide), tk_ne _ _ (by decide), upd_is]
      · dsimp only
        rw [wm_row _ (by decide), wm_app]
        by_cases q : k' = n
        · rw [if_pos ⟨rfl, q⟩]
          exact ⟨i, hi, rfl⟩
        · rw [if_neg (fun w => q w.2)]
          exact a11 k' (by omega)
      · dsimp only
        simp only [tk_tk]
        rw [tk_ne _ _ (by decide), hF1v 4 (by decide) (by decide) (by decide), bg_4]
        have e3 : tk F1 (k + 1 + 1 + 1) 3 = nI (6 + (k + 1 + 1 + 1)) := by
          rw [← hF1, tk_tk, tk_tk]
          unfold tk
          rw [upd_is, upd_ne _ _ (by decide), upd_ne _ _ (by decide), bg_3, Int32.zero_add]
          congr 1
          omega
        rw [e3]
        exact nI_nlt (a := 100) (b := 6 + (k + 1 + 1 + 1)) (by omega) (by decide)
  · rw [if_pos (q1 _ _ e2), if_pos (q2 _ _ a2)]
    exact ⟨-1, (M, bg F 100), (N, G), rfl, rfl, H, n, T, Fl, h100⟩
end
section
/-! THE PLAIN LAW 11: take, meld; all ten calls -/
theorem wm_cg {N N1 : Nat → Nat → Int32} {k c r : Nat} {x : Int32} (h : N1 r = N r) : wm N1 k c x r = wm N k c x r := by
  funext d
  rw [wm_app, wm_app, h]
theorem op_take (u v : sk_T) (x : Int32) (h : iv_J u v) : ∃ r u1 v1, sk_take u x = some (r, u1) ∧ md_take v x = some (r, v1) ∧ iv_J u1 v1 := by
  obtain ⟨M, F⟩ := u
  obtain ⟨N, G⟩ := v
  obtain ⟨H, n, T, Fl, h⟩ := h
  dsimp only at h
  have h' := h
  obtain ⟨⟨a1, a2, a3⟩, a4, a5, a6, a7, ⟨a8, a9, a10⟩, a11, a12⟩ := h
  unfold sk_take md_take
  obtain ⟨N1, t1, t2, t3⟩ := untell_ok (N := N) (G := G)
  rw [eb t1]
  rcases isH a3 x with ⟨i, hi, rfl, q1, q2⟩ | ⟨q1, q2⟩
  · have g1 : ¬ sk_isHeap (M, F) (nI i) = 0 := by rw [q1 _ _ a1]; decide
    have g2 : ¬ md_isHeap (N1, G) (nI i) = 0 := by rw [q2 _ _ a2]; decide
    have hi8 : i < 8 := by omega
    rw [if_neg g1, if_neg g2, rb (k := 6) hi8, begin_eq, (a5 i hi).2.2.2.1]
    have hl := hp_len (a5 i hi)
    have hl2 : (ce (T i)).length ≤ 200 := by omega
    rw [few_eq _ (by omega)]
    have hlog := log2_small hl2
    generalize hB : 200 * (2 + Nat.log2 ((ce (T i)).length + 1)) = B
    have e2 : bg F (nI B) 2 = nI H := by rw [bg_ne _ _ (by decide) (by decide)]; exact a1
    have g3 : ¬ sk_isHeap (M, bg F (nI B)) (nI i) = 0 := by rw [q1 _ _ e2]; decide
    obtain ⟨r, p1, p2⟩ := placeOf_ok (N := N1) (h := nI i) a4.1 (show n ≤ 200 by omega)
    rw [cd_ow (show n ≤ 200 by omega) t3, ow_row (t2 0 (by decide))] at p2
    rw [eb p1]
    by_cases hz : (ce (T i)).length = 0
    · unfold sk_take2
      rw [if_neg g3, rb (k := 6) hi8, (a5 i hi).2.2.2.1, hz, if_pos (by decide)]
      rcases p2 with ⟨-, rfl⟩ | ⟨j, hj, -, -⟩
      · unfold md_take2
        rw [if_neg (by decide)]
        refine ⟨sk_MIN, (M, bg F (nI B)), (N1, G), rfl, rfl, H, n, T, Fl, iv_alt h' (fun _ _ _ => rfl) (fun j hj => bg_ne _ _ (by omega) (by omega)) ?_ (t2 0 (by decide)) (t2 1 (by decide))⟩
        have := few_tk F (Nat.zero_le B) (by omega)
        rw [tk_0] at this
        exact this
      · have := List.length_pos_of_mem hj
        omega
    · have hT : T i ≠ [] := fun q => hz (by rw [q]; rfl)
      have hT2 := trees_le (a5 i hi).1 (a5 i hi).2.1
      have hnz : ¬ M 6 i = 0 := by
        rw [(a5 i hi).2.2.2.1]
        exact nI_ne0 (by omega) (by omega)
      obtain ⟨t, rk, y, M', k, T', b1, b2, b3, b4, b5, b6, b7, b8, b9, b10⟩ := take2_ok (F := bg F (nI B)) hi8 (q1 _ _ e2) hnz (a5 i hi).1 (a5 i hi).2.1 (a5 i hi).2.2.1 hl2 hT
      rw [b1, take4_eq hi8 b6]
      have hrk := lg_of b3
      have ht : t ∈ ce (T i) := b7.mem_iff.mp List.mem_cons_self
      rcases p2 with ⟨w, -⟩ | ⟨j, hj, rfl, hjm⟩
      · rw [w] at hl
        exact absurd hl.1 hz
      · rw [t2 1 (by decide)] at hjm
        have hjo := hj
        unfold ow at hjo
        rw [List.mem_filter] at hjo
        have hjn : j < n := by
          have := List.mem_range'_1.mp hjo.1
          omega
        have hjown : N 0 j = nI i := by simpa using hjo.2
        obtain ⟨m, rfl⟩ : ∃ m, n = m + 1 := ⟨n - 1, by omega⟩
        have hv := min_eq (a5 i hi) ht b9 hj hjm
        have hj2 : j < 200 := by omega
        have hm2 : m < 200 := by omega
        unfold md_take2
        rw [if_pos (nI_pos' (c200 hj2)), mrb hj2]
        unfold sk_sF
        dsimp only
        rw [a4.1, nI_pred, upd_is, mrb hm2, mwb hj2]
        dsimp only
        rw [upd_is, mrb hm2, mwb hj2, wm_row _ (by decide), t2 0 (by decide), t2 1 (by decide), hv]
        have e6 : M' 6 i = nI (ce (T i)).length := by
          rw [b10 6 i (Or.inl (by decide)) (Or.inl (by decide))]
          exact (a5 i hi).2.2.2.1
        have hlT : (ce (T i)).length = (ce T').length + 1 := by
          rw [← b7.length_eq, List.length_cons]
        rw [e6, hlT, nI_pred]
        have hF0 : tk (bg F (nI B)) k 0 = F 0 := tk_low _ _ _ (by decide)
        have hF1 : tk (bg F (nI B)) k 1 = F 1 := tk_low _ _ _ (by decide)
        rw [hF0, hF1, a10, nI_1, tk_tk]
        have hN01 : wm (wm N1 0 j (N 0 m)) 1 j (N 1 m) 0 = wm (wm N 0 j (N 0 m)) 1 j (N 1 m) 0 := wm_cg (wm_cg (t2 0 (by decide)))
        have hN11 : wm (wm N1 0 j (N 0 m)) 1 j (N 1 m) 1 = wm (wm N 0 j (N 0 m)) 1 j (N 1 m) 1 := wm_cg (wm_cg (t2 1 (by decide)))
        have hpl := rem_pl (N := N) (m := m) (j := j) (by omega)
        have hmk := fun q => mk_perm hpl q
        dsimp only at hmk
        rw [hjown, hv] at hmk
        have hmk' : ∀ q, (mk N q (m + 1)).Perm (if nI i = q then M 0 t :: mk (wm (wm N1 0 j (N 0 m)) 1 j (N 1 m)) q m else mk (wm (wm N1 0 j (N 0 m)) 1 j (N 1 m)) q m) := by
          intro q
          rw [mk_row hN01 hN11]
          exact hmk q
        have hnt : (t :: ce T').Nodup := b7.symm.nodup (a5 i hi).2.2.1
        have htT := (List.nodup_cons.mp hnt).1
        have hT' : ∀ d ∈ ce T', d ∈ ce (T i) := fun d hd => b7.mem_iff.mp (List.mem_cons_of_mem _ hd)
        have hM4 : ∀ k' d, k' < 5 → d ≠ t → wm (wm (wm M' 5 i y) 6 i (nI (ce T').length)) 3 t (F 0) k' d = M' k' d := fun k' d hk' hd => by
          rw [wm_ne _ hd, wm_row _ (by omega), wm_row _ (by omega)]
        have hM5 : ∀ k' d, k' < 5 → d ∉ ce (T i) → wm (wm (wm M' 5 i y) 6 i (nI (ce T').length)) 3 t (F 0) k' d = M k' d := fun k' d hk' hd => by
          rw [hM4 k' d hk' (fun q => hd (q ▸ ht)), b10 k' d (Or.inr hd) (Or.inl (by omega))]
        refine ⟨Int32.toInt64 (M 0 t), (wm (wm (wm M' 5 i y) 6 i (nI (ce T').length)) 3 t (F 0), upd (upd (tk (bg F (nI B)) (k + 4)) 0 (nI t)) 1 (nI (Fl.length + 1))), (wm (wm N1 0 j (N 0 m)) 1 j (N 1 m), upd G 1 (nI m)), rfl, rfl, H, m, up T i T', t :: Fl, ⟨?_, ?_, a3⟩, ⟨upd_is G 1 (nI m), by rw [List.length_cons]; omega⟩, fun j1 hj1 => ?_, fun j1 j2 hj1 hj2 hne d hd => ?_, fun j1 hj1 d hd => ?_, ⟨⟨?_, b6, ?_⟩, List.nodup_cons.mpr ⟨a7 i hi t ht, a9⟩, ?_⟩, fun k' hk' => ?_, ?_⟩
        · dsimp only
          rw [upd_ne _ _ (by decide), upd_ne _ _ (by decide), tk_low _ _ _ (by decide)]
          exact a1
        · dsimp only
          rw [upd_ne _ _ (by decide)]
          exact a2
        · dsimp only
          by_cases q : j1 = i
          · subst q
            rw [up_is]
            refine ⟨?_, b5, (List.nodup_cons.mp hnt).2, ?_, ?_⟩
            · rw [wm_row _ (by decide), wm_row _ (by decide), wm_is]
              exact fo_fr b4 (fun k' hk' d hd => hM4 k' d hk' (fun w => htT (w ▸ hd)))
            · rw [wm_row _ (by decide), wm_is]
            · rw [List.map_congr_left (fun d hd => hM4 0 d (by decide) (fun w => htT (w ▸ hd)))]
              have w := hmk' (nI j1)
              rw [if_pos rfl] at w
              exact ((b8.trans (a5 j1 hj1).2.2.2.2).trans w).cons_inv
          · rw [up_ne _ _ q]
            refine hp_fr2 (a5 j1 hj1) (fun k' hk' d hd => hM5 k' d hk' (a6 j1 i hj1 hi q d hd)) ?_ ?_ ?_
            · rw [wm_row _ (by decide), wm_row _ (by decide), wm_ne _ q, b10 5 j1 (Or.inl (by decide)) (Or.inr q)]
            · rw [wm_row _ (by decide), wm_ne _ q, wm_row _ (by decide), b10 6 j1 (Or.inl (by decide)) (Or.inl (by decide))]
            · have w := hmk' (nI j1)
              rw [if_neg (fun e => q (nI_inj (by omega) (by omega) e.symm))] at w
              exact w
        · by_cases w1 : j1 = i
          · subst w1
            rw [up_is] at hd
            rw [up_ne _ _ (Ne.symm hne)]
            exact a6 j1 j2 hj1 hj2 hne d (hT' d hd)
          · rw [up_ne _ _ w1] at hd
            by_cases w2 : j2 = i
            · subst w2
              rw [up_is]
              exact fun q => a6 j1 j2 hj1 hj2 hne d hd (hT' d q)
            · rw [up_ne _ _ w2]
              exact a6 j1 j2 hj1 hj2 hne d hd
        · intro q
          by_cases w1 : j1 = i
          · subst w1
            rw [up_is] at hd
            rcases List.mem_cons.mp q with rfl | q
            · exact htT hd
            · exact a7 j1 hj1 d (hT' d hd) q
          · rw [up_ne _ _ w1] at hd
            rcases List.mem_cons.mp q with rfl | q
            · exact a6 j1 i hj1 hi w1 d hd ht
            · exact a7 j1 hj1 d hd q
        · dsimp only
          rw [upd_ne _ _ (by decide), upd_is]
        · dsimp only
          rw [wm_is]
          exact ch_fr a8 (fun d hd => hM5 3 d (by decide) (fun q => a7 i hi d q hd))
        · dsimp only
          rw [upd_is, List.length_cons]
        · dsimp only
          rw [hN01, wm_row _ (by decide), wm_app]
          by_cases q : k' = j
          · rw [if_pos ⟨rfl, q⟩]
            exact a11 m (by omega)
          · rw [if_neg (fun w => q w.2)]
            exact a11 k' (by omega)
        · dsimp only
          rw [upd_ne _ _ (by decide), upd_ne _ _ (by decide), upd_ne _ _ (by decide), upd_ne _ _ (by decide)]
          exact few_tk F (by omega) (by omega)
  · rw [if_pos (q1 _ _ a1), if_pos (q2 _ _ a2), begin_eq]
    have e2 : bg F sk_MAX 2 = nI H := by rw [bg_ne _ _ (by decide) (by decide)]; exact a1
    unfold sk_take2 md_take2
    rw [if_pos (q1 _ _ e2), if_neg (by decide)]
    exact ⟨sk_MIN, (M, bg F sk_MAX), (N1, G), rfl, rfl, H, n, T, Fl, iv_max h' (t2 0 (by decide)) (t2 1 (by decide))⟩
theorem op_meld (u v : sk_T) (x y : Int32) (h : iv_J u v) : ∃ r u1 v1, sk_meld u x y = some (r, u1) ∧ md_meld v x y = some (r, v1) ∧ iv_J u1 v1 := by
  obtain ⟨M, F⟩ := u
  obtain ⟨N, G⟩ := v
  obtain ⟨H, n, T, Fl, h⟩ := h
  dsimp only at h
  have h' := h
  obtain ⟨⟨a1, a2, a3⟩, a4, a5, a6, a7, ⟨a8, a9, a10⟩, a11, a12⟩ := h
  have hno : ∃ r u1 v1, sk_meld3 (M, F) = some (r, u1) ∧ (some (-1, (N, G)) : Option (Int32 × sk_T)) = some (r, v1) ∧ iv_J u1 v1 := by
    unfold sk_meld3
    rw [begin_eq]
    exact ⟨-1, (M, bg F sk_MAX), (N, G), rfl, rfl, H, n, T, Fl, iv_max h' rfl rfl⟩
  unfold sk_meld md_meld
  rcases isH a3 x with ⟨a, ha, rfl, q1, q2⟩ | ⟨q1, q2⟩
  · have g1 : ¬ sk_isHeap (M, F) (nI a) = 0 := by rw [q1 _ _ a1]; decide
    have g2 : ¬ md_isHeap (N, G) (nI a) = 0 := by rw [q2 _ _ a2]; decide
    rw [if_neg g1, if_neg g2]
    rcases isH a3 y with ⟨b, hb, rfl, q3, q4⟩ | ⟨q3, q4⟩
    · have g3 : ¬ sk_isHeap (M, F) (nI b) = 0 := by rw [q3 _ _ a1]; decide
      have g4 : ¬ md_isHeap (N, G) (nI b) = 0 := by rw [q4 _ _ a2]; decide
      rw [if_neg g3, if_neg g4]
      by_cases hab : nI a = nI b
      · rw [if_pos hab, if_pos hab]
        exact hno
      · rw [if_neg hab, if_neg hab]
        have hne : a ≠ b := fun q => hab (by rw [q])
        have ha8 : a < 8 := by omega
        have hb8 : b < 8 := by omega
        obtain ⟨N', n1, n2, n3, -⟩ := meL_ok n (N := N) (G := G) (a := nI a) (b := nI b) (k := 0) (fuel := sk_FU) (by rw [a4.1, Nat.zero_add]) (by omega) (by unfold sk_FU; omega)
        obtain ⟨mk1, mk2, mk3⟩ := meld_mk (N := N) (N' := N') (n := n) hab n2 (fun j hj => n3 j (Nat.zero_le _) (by omega))
        have la := hp_len (a5 a ha)
        have lb := hp_len (a5 b hb)
        have lab : (ow N' (nI a) 0 n).length = (ce (T a)).length + (ce (T b)).length := by
          rw [← mk_len, mk1.length_eq, List.length_append, mk_len, mk_len, ← la.1, ← lb.1]
        have labn := ow_le N' (nI a) n
        have e0 : (0 : Int32) = nI 0 := rfl
        rw [e0, n1, eb (sizeOf_ok a4.1 (by omega)), lab, rb (k := 6) ha8, rb (k := 6) hb8, begin_eq, (a5 a ha).2.2.2.1, (a5 b hb).2.2.2.1, nI_add, few_eq _ (by omega)]
        have hlog := log2_small (n := (ce (T a)).length + (ce (T b)).length) (by omega)
        have hTa := trees_le (a5 a ha).1 (a5 a ha).2.1
        have hTb := trees_le (a5 b hb).1 (a5 b hb).2.1
        have hLa := log2_mono (a := (ce (T a)).length + 1) (b := (ce (T a)).length + (ce (T b)).length + 1) (by omega) (by omega)
        have hLb := log2_mono (a := (ce (T b)).length + 1) (b := (ce (T a)).length + (ce (T b)).length + 1) (by omega) (by omega)
        generalize hB : 200 * (2 + Nat.log2 ((ce (T a)).length + (ce (T b)).length + 1)) = B
        unfold sk_meld2
        rw [gb (k := 5) ha8]
        try dsimp only
        obtain ⟨z1, M1, k1, Ta, c1, c2, c3, c4, c5, c6, c7⟩ := norm_ok (F := tk (bg F (nI B)) 1) (a5 a ha).1 (a5 a ha).2.1 (a5 a ha).2.2.1 (by omega)
        rw [eb c1]
        try dsimp only
        rw [gb (k := 5) hb8]
        try dsimp only
        have dis : ∀ d ∈ ce (T b), d ∉ ce (T a) := fun d hd => a6 b a hb ha (Ne.symm hne) d hd
        have dis2 : ∀ d ∈ ce (T a), d ∉ ce (T b) := fun d hd => a6 a b ha hb hne d hd
        have hb1 : fo M1 (T b) (M1 5 b) := by
          rw [c6 5 b (Or.inl (by decide))]
          exact fo_fr (a5 b hb).1 (fun k' _ d hd => c6 k' d (Or.inr (dis d hd)))
        obtain ⟨z2, M2, k2, Tb, d1, d2, d3, d4, d5, d6, d7⟩ := norm_ok (F := tk (tk (tk (bg F (nI B)) 1) k1) 1) hb1 (a5 b hb).2.1 (a5 b hb).2.2.1 (by omega)
        rw [eb d1]
        try dsimp only
        have hTa2 : fo M2 Ta z1 := fo_fr c3 (fun k' _ d hd => d6 k' d (Or.inr (dis2 d (c5.mem_iff.mp hd))))
        have hpab := c5.append d5
        have hnab : (ce (T a) ++ ce (T b)).Nodup := List.nodup_append.mpr ⟨(a5 a ha).2.2.1, (a5 b hb).2.2.1, fun d hd d' hd' q => dis2 d hd (q ▸ hd')⟩
        obtain ⟨z3, M3, k3, Tc, f1, f2, f3, f4, f5, f6, f7⟩ := merge_ok (F := tk (tk (tk (tk (bg F (nI B)) 1) k1) 1) k2) hTa2 d3 c4 d4 (hpab.symm.nodup hnab) (by rw [hpab.length_eq, List.length_append]; omega)
        rw [eb f1]
        try dsimp only
        rw [sb (k := 5) ha8]
        try dsimp only
        rw [sb (k := 5) hb8]
        try dsimp only
        rw [gb (k := 6) ha8]
        try dsimp only
        rw [gb (k := 6) hb8]
        try dsimp only
        rw [sb (k := 6) ha8]
        try dsimp only
        rw [sb (k := 6) hb8]
        have hc : (ce Tc).Perm (ce (T a) ++ ce (T b)) := f5.trans hpab
        have hout : ∀ k' d, 5 ≤ k' ∨ (d ∉ ce (T a) ∧ d ∉ ce (T b)) → M3 k' d = M k' d := by
          intro k' d hq
          rw [f6 k' d (hq.imp id (fun w q => (List.mem_append.mp (hpab.mem_iff.mp q)).elim w.1 w.2)), d6 k' d (hq.imp id (fun w => w.2)), c6 k' d (hq.imp id (fun w => w.1))]
        have e6a : wm (wm M3 5 a z3) 5 b (-1) 6 a = nI (ce (T a)).length := by
          rw [wm_row _ (by decide), wm_row _ (by decide), hout 6 a (Or.inl (by decide))]
          exact (a5 a ha).2.2.2.1
        have e6b : wm (wm M3 5 a z3) 5 b (-1) 6 b = nI (ce (T b)).length := by
          rw [wm_row _ (by decide), wm_row _ (by decide), hout 6 b (Or.inl (by decide))]
          exact (a5 b hb).2.2.2.1
        rw [e6a, e6b, nI_add]
        simp only [tk_tk]
        generalize hM4 : wm (wm (wm (wm M3 5 a z3) 5 b (-1)) 6 a (nI ((ce (T a)).length + (ce (T b)).length))) 6 b 0 = M4
        have hM40 : ∀ k' d, k' < 5 → M4 k' d = M3 k' d := fun k' d hk' => by
          rw [← hM4, wm_row _ (by omega), wm_row _ (by omega), wm_row _ (by omega), wm_row _ (by omega)]
        have hK : M3 0 = M 0 := by rw [f7, d7, c7]
        refine ⟨_, (M4, tk (bg F (nI B)) (1 + k1 + 1 + k2 + k3 + 1 + 1 + 1 + 1 + 1 + 1)), (N', G), rfl, rfl, H, n, up (up T a Tc) b [], Fl, ⟨?_, a2, a3⟩, a4, fun i hi => ?_, fun i j hi hj hij d hd => ?_, fun i hi d hd => ?_, ⟨?_, a9, ?_⟩, fun k' hk' => ?_, few_tk F (by omega) (by omega)⟩
        · dsimp only
          rw [tk_low _ _ _ (by decide)]
          exact a1
        · dsimp only
          by_cases qb : i = b
          · subst qb
            rw [up_is]
            refine ⟨?_, trivial, List.Pairwise.nil, ?_, ?_⟩
            · rw [← hM4, wm_row _ (by decide), wm_row _ (by decide), wm_is]
              exact rfl
            · rw [← hM4, wm_is]
              rfl
            · rw [mk2]
              exact List.Perm.refl _
          · rw [up_ne _ _ qb]
            by_cases qa : i = a
            · subst qa
              rw [up_is]
              refine ⟨?_, inc_sh2 f4, hc.symm.nodup hnab, ?_, ?_⟩
              · rw [← hM4, wm_row _ (by decide), wm_row _ (by decide), wm_ne _ qb, wm_is, hM4]
                exact fo_fr f3 (fun k' hk' d _ => hM40 k' d hk')
              · rw [← hM4, wm_ne _ qb, wm_is, hc.length_eq, List.length_append]
              · rw [show M4 0 = M 0 from (funext (fun d => hM40 0 d (by decide))).trans hK]
                refine (hc.map _).trans ?_
                rw [List.map_append]
                exact ((a5 i ha).2.2.2.2.append (a5 b hb).2.2.2.2).trans mk1.symm
            · rw [up_ne _ _ qa]
              refine hp_fr2 (a5 i hi) (fun k' hk' d hd => ?_) ?_ ?_ ?_
              · rw [hM40 k' d hk', hout k' d (Or.inr ⟨a6 i a hi ha qa d hd, a6 i b hi hb qb d hd⟩)]
              · rw [← hM4, wm_row _ (by decide), wm_row _ (by decide), wm_ne _ qb, wm_ne _ qa, hout 5 i (Or.inl (by decide))]
              · rw [← hM4, wm_ne _ qb, wm_ne _ qa, wm_row _ (by decide), wm_row _ (by decide), hout 6 i (Or.inl (by decide))]
              · rw [mk3 (nI i) (fun w => qa (nI_inj (by omega) (by omega) w)) (fun w => qb (nI_inj (by omega) (by omega) w))]
        · by_cases ib : i = b
          · subst ib
            rw [up_is] at hd
            exact absurd hd List.not_mem_nil
          · rw [up_ne _ _ ib] at hd
            by_cases jb : j = b
            · subst jb
              rw [up_is]
              exact List.not_mem_nil
            · rw [up_ne _ _ jb]
              by_cases ia : i = a
              · subst ia
                rw [up_is] at hd
                rw [up_ne _ _ (Ne.symm hij)]
                rcases List.mem_append.mp (hc.mem_iff.mp hd) with w | w
                · exact a6 i j hi hj hij d w
                · exact a6 b j hb hj (fun q => jb q.symm) d w
              · rw [up_ne _ _ ia] at hd
                by_cases ja : j = a
                · subst ja
                  rw [up_is]
                  intro q
                  rcases List.mem_append.mp (hc.mem_iff.mp q) with w | w
                  · exact a6 i j hi hj hij d hd w
                  · exact a6 i b hi hb ib d hd w
                · rw [up_ne _ _ ja]
                  exact a6 i j hi hj hij d hd
        · by_cases ib : i = b
          · subst ib
            rw [up_is] at hd
            exact absurd hd List.not_mem_nil
          · rw [up_ne _ _ ib] at hd
            by_cases ia : i = a
            · subst ia
              rw [up_is] at hd
              rcases List.mem_append.mp (hc.mem_iff.mp hd) with w | w
              · exact a7 i hi d w
              · exact a7 b hb d w
            · rw [up_ne _ _ ia] at hd
              exact a7 i hi d hd
        · dsimp only
          rw [tk_low _ _ _ (by decide)]
          refine ch_fr a8 (fun d hd => ?_)
          rw [hM40 3 d (by decide), hout 3 d (Or.inr ⟨fun q => a7 a ha d q hd, fun q => a7 b hb d q hd⟩)]
        · dsimp only
          rw [tk_low _ _ _ (by decide)]
          exact a10
        · dsimp only
          rw [n3 k' (Nat.zero_le _) (by omega)]
          by_cases q : N 0 k' = nI b
          · rw [if_pos q]
            exact ⟨a, ha, rfl⟩
          · rw [if_neg q]
            exact a11 k' hk'
    · rw [if_pos (q3 _ _ a1), if_pos (q4 _ _ a2)]
      exact hno
  · rw [if_pos (q1 _ _ a1), if_pos (q2 _ _ a2)]
    exact hno
theorem iv_all : lw_J iv_J := ⟨op_heap, op_add, op_least, op_take, op_meld, op_size, op_key, op_sum, op_free, op_few⟩
end
section
theorem df_SM : ∀ j, j < 16 → defaultValue (t_SM j) = vp_V [.null, .null, .null, .null, .null, .int 0, .int 0, .int 0, .null, .null, .int 0, .int 0, .null, .null, .int 0, .int 0] j := fun j hj => match j, hj with
  | 0, _ => rfl
  | 1, _ => rfl
  | 2, _ => rfl
  | 3, _ => rfl
  | 4, _ => rfl
  | 5, _ => rfl
  | 6, _ => rfl
  | 7, _ => rfl
  | 8, _ => rfl
  | 9, _ => rfl
  | 10, _ => rfl
  | 11, _ => rfl
  | 12, _ => rfl
  | 13, _ => rfl
  | 14, _ => rfl
  | 15, _ => rfl
  | k + 16, hj => absurd hj (by omega)
theorem df_MD : ∀ j, j < 5 → defaultValue (t_MD j) = vp_V [.int 0, .int 0, .null, .null, .null] j := fun j hj => match j, hj with
  | 0, _ => rfl
  | 1, _ => rfl
  | 2, _ => rfl
  | 3, _ => rfl
  | 4, _ => rfl
  | k + 5, hj => absurd hj (by omega)
set_option maxHeartbeats 8000000 in
set_option maxRecDepth 100000 in
/-- THE LAW, from its entry -/
theorem whole_start {p : Program} {e : Env} {s : State} {m : MethodId} {below : List Frame} {meth : Method} {c : Code} (l : Launch) {b L : Nat} {xs : Nat → Int32} (hL : L ≤ 1536) (C0 : lw_At p s m meth c b L xs) : W p l e room_1 s m #[Value.ref b] below meth c s.heap [] 0 0 (lw_Z below #[Value.ref b] s) (entryFrame m ([Value.ref b] : List Value).toArray 4) := by
  obtain ⟨hx, hb, hr, hml, hown, hts0, hX, hbl, hlocks, hgv⟩ := id C0
  have hts : ∀ w ∈ lw_big, w.before #[Value.ref b] s = true := fun w hw => hts0 w (big_tbl hw)
  have hA : ∀ q : Nat, s.heap.size ≤ q → (fun q : Nat => s.heap.size ≤ q) q := fun _ h => h
  obtain ⟨c0, iS0, hKn0⟩ := u_known (C := R_SM) (T := F_SM) (N := 16) (n := 16) hts i_SM (hts _ mz_SM)
  obtain ⟨c1, iS1, hKn1⟩ := u_known (C := R_MD) (T := F_MD) (N := 5) (n := 5) hts i_MD (hts _ mz_MD)
  obtain ⟨D, hKc⟩ : ∃ D : va_G, ∀ (k : Nat) (q : vw_C), classes[k]? = some q → u_Kn s q.1 q.2.1 q.2.2 (D.1 k) (D.2 k) := by
    refine ⟨(fun k => if k = 0 then c0 else c1, fun k => if k = 0 then iS0 else iS1), ?_⟩
    intro k q hq
    match k, hq with
    | 0, hq => cases hq; exact hKn0
    | 1, hq => cases hq; exact hKn1
    | k + 2, hq => simp [classes] at hq
  have hS : va_S (fun q : Nat => s.heap.size ≤ q) s.heap s.heap [] := va_S.rf
  have hK : va_K D classes [] s := ⟨hKc, fun k q h => by simp at h⟩
  have hP : va_P D classes [] s.heap := fun k q h => by simp at h
  have hD : va_D (fun q : Nat => s.heap.size ≤ q) [] := ⟨fun i j p q h => by simp at h, fun k q h => by simp at h⟩
  have hl := lv_entry ([.ref b]) (n := 4) (Nat.le_of_ble_eq_true rfl)
  rw [lg_entry_eq]
  generalize (lg_sl ([.ref b]) ++ List.replicate (4 - (lg_sl ([.ref b])).length) Slot.unset).toArray = ls at hl ⊢
  have hl : lv_has ls 4 [(0, .ref b)] := hl
  obtain ⟨z, hz, hJz⟩ := iv_start
  refine va_new (ci := 0) (fs := [.null, .null, .null, .null, .null, .int 0, .int 0, .int 0, .null, .null, .int 0, .int 0, .null, .null, .int 0, .int 0]) (C := R_SM) (T := F_SM) (N := 16) hx hb hts i_SM t_SM t_SM_ok hown (hts _ mc_law_7) (hts _ mz_SM) (hts _ mi_SM) hK hP hD hS hA rfl df_SM (Nat.le_of_ble_eq_true rfl) (Nat.le_of_ble_eq_true rfl) d_law_0 (fun o H hP hD hS => ?_)
  have hP : va_P D classes [(o, .inr (0, [.null, .null, .null, .null, .null, .int 0, .int 0, .int 0, .null, .null, .int 0, .int 0, .null, .null, .int 0, .int 0]))] H := hP
  have hD : va_D (fun q : Nat => s.heap.size ≤ q) [(o, .inr (0, [.null, .null, .null, .null, .null, .int 0, .int 0, .int 0, .null, .null, .int 0, .int 0, .null, .null, .int 0, .int 0]))] := hD
  refine W.widen (k := 1) (n := 16) (Nat.le_of_ble_eq_true rfl) (Nat.le_of_ble_eq_true rfl) ?_
  refine lv_dup hx hb d_law_3 rfl ?_
  have hFc := va_free (wc := [(o, .inr (0, [.null, .null, .null, .null, .null, .int 0, .int 0, .int 0, .null, .null, .int 0, .int 0, .null, .null, .int 0, .int 0]))]) hD hS hA [0] rfl
  refine va_callv (va_runI (As := []) (rest := [.ref o]) ⟨hx, hb, hml, hown, hts⟩ (c_SM_init (D := D) (o := o) (sz := H.size) hz) (cwI 0 hts g_law_SM_init e_SM_init rfl rfl (hts _ mi_SM) (hts _ ml_law_9) (hts _ mm_SM_init) rfl (by decide +kernel) ⟨Nat.le_of_ble_eq_true rfl, Nat.le_of_ble_eq_true rfl⟩) ⟨fun a U g mk q => by obtain ⟨q0, q1, qP, qK, qD⟩ := q; exact ⟨q0, q1, qP, va_K.moved (u := U) (U := U.calling g mk a) (Vm.Alike.refl U.vm) qK, qD⟩, fun U hU hW => ⟨rfl, by rw [hU], by rw [hU]; exact hP, va_K.moved hW.alike hK, hD.weaken (fun _ _ _ _ => trivial)⟩⟩ rfl rfl hl.1 rfl (lv_room (Nat.le_of_ble_eq_true rfl)) d_law_4 ⟨Nat.le_of_ble_eq_true rfl, Nat.le_of_ble_eq_true rfl⟩) hS (fun q _ h => hFc q h) hFc (fun x t H1 locs ht hvm hw hB hz1 hk1 hS => ?_)
  obtain ⟨q, cA⟩ := x
  obtain ⟨⟨hP1, hD1⟩, hK1⟩ := hB
  rw [ht] at hP1
  have hK1 := va_K.moved hvm.symm hK1
  have hD2 := hD1.weaken (B := fun q : Nat => s.heap.size ≤ q) (fun k x _ h => hFc x.1 h)
  generalize H1 = H at hP1 hS ⊢
  have hP : va_P D classes (sk_ws o q cA z) H := hP1
  have hD : va_D (fun q : Nat => s.heap.size ≤ q) (sk_ws o q cA z) := hD2
  refine W.widen (k := 10) (n := 1432) (Nat.le_of_ble_eq_true rfl) (Nat.le_of_ble_eq_true rfl) ?_
  refine lv_astore_n (lv' := [(1, .ref o), (0, .ref b)]) hx hb d_law_7 rfl hl (by decide) rfl (fun ls hl => ?_)
  refine va_new (ci := 1) (fs := [.int 0, .int 0, .null, .null, .null]) (C := R_MD) (T := F_MD) (N := 5) hx hb hts i_MD t_MD t_MD_ok hown (hts _ mc_law_10) (hts _ mz_MD) (hts _ mi_MD) hK hP hD hS hA rfl df_MD (Nat.le_of_ble_eq_true rfl) (Nat.le_of_ble_eq_true rfl) d_law_8 (fun o2 H hP hD hS => ?_)
  refine W.widen (k := 11) (n := 1437) (Nat.le_of_ble_eq_true rfl) (Nat.le_of_ble_eq_true rfl) ?_
  refine lv_dup hx hb d_law_11 rfl ?_
  have hPc := hP.sub (ws' := [(o2, .inr (1, [.int 0, .int 0, .null, .null, .null]))]) [10] rfl
  have hDc := hD.sub (ws' := [(o2, .inr (1, [.int 0, .int 0, .null, .null, .null]))]) [10] (by decide) rfl
  have hFc := va_free (wc := [(o2, .inr (1, [.int 0, .int 0, .null, .null, .null]))]) hD hS hA [10] rfl
  refine va_callv (va_runI (As := []) (rest := [.ref o2]) ⟨hx, hb, hml, hown, hts⟩ (c_MD_init (D := D) (o := o2) (sz := H.size)) (cwI 0 hts g_law_MD_init e_MD_init rfl rfl (hts _ mi_MD) (hts _ ml_law_12) (hts _ mm_MD_init) rfl (by decide +kernel) ⟨Nat.le_of_ble_eq_true rfl, Nat.le_of_ble_eq_true rfl⟩) ⟨fun a U g mk q => by obtain ⟨q0, q1, qP, qK, qD⟩ := q; exact ⟨q0, q1, qP, va_K.moved (u := U) (U := U.calling g mk a) (Vm.Alike.refl U.vm) qK, qD⟩, fun U hU hW => ⟨rfl, by rw [hU], by rw [hU]; exact hPc, va_K.moved hW.alike hK, hDc.weaken (fun _ _ _ _ => trivial)⟩⟩ rfl rfl hl.1 rfl (lv_room (Nat.le_of_ble_eq_true rfl)) d_law_12 ⟨Nat.le_of_ble_eq_true rfl, Nat.le_of_ble_eq_true rfl⟩) hS (fun q _ h => hFc q h) hFc (fun x t H1 locs ht hvm hw hB hz1 hk1 hS => ?_)
  obtain ⟨q2, c2, cB⟩ := x
  obtain ⟨⟨hP1, hD1⟩, hK2⟩ := hB
  rw [ht] at hP1
  have hK2 := va_K.moved hvm.symm hK2
  obtain ⟨hP, hD⟩ := va_join (wr := sk_ws o q cA z) (w1 := md_ws o2 q2 c2 cB md_z0) hP hD [10] [0, 1, 2, 3, 4, 5, 6, 7, 8, 9] rfl rfl (by decide) (by decide) hk1 hFc hP1 hD1
  refine W.widen (k := 14) (n := 2037) (Nat.le_of_ble_eq_true rfl) (Nat.le_of_ble_eq_true rfl) ?_
  refine lv_astore_n (lv' := [(2, .ref o2), (1, .ref o), (0, .ref b)]) hx hb d_law_15 rfl hl (by decide) rfl (fun ls hl => ?_)
  refine lv_iconst (v := 0) hx hb d_law_16 (by decide) ?_
  refine lv_istore_n (lv' := [(3, .int (nI 0)), (2, .ref o2), (1, .ref o), (0, .ref b)]) hx hb d_law_17 rfl hl (by decide) (by rw [nI_0]; rfl) (fun ls hl => ?_)
  have X : lw_X p m c s #[Value.ref b] D cA c2 cB (fun q : Nat => s.heap.size ≤ q) := ⟨⟨hx, hb, hml, hown, hts⟩, hK1, hK2, hA⟩
  exact lw_loop hL C0 X iv_all (L + 1) 0 (Nat.zero_le L) (by omega) z md_z0 _ _ ls hJz ⟨hP, hD, hS⟩ (lv_sub hl [3, 2, 1, 0] rfl)
set_option maxHeartbeats 4000000 in
theorem lw_walk (l : Launch) (b : Addr) (xs : List Int32) : MetFree l x (headSpec (Jvm.Cond.code x code maxLocals ret :: tables_1) room_1) (lw_P b xs) (fun _ _ _ _ _ => True) lw_Q := by
  refine MetFree.of_bodyS (code := code) (maxLocals := maxLocals) (ret := ret) (by decide) ?_ ?_
  · intro args s m h hn
    obtain ⟨meth, c, h1, h2, h3, h4, h5, h6, -, -⟩ := Cond.code_spec hn (atoms_spec (ws := Jvm.Cond.code x code maxLocals ret :: tables_1) h _ List.mem_cons_self)
    exact ⟨meth, c, h1, h2, h3, h4, h5, h6⟩
  · intro p e s m args below meth c s₁ B hml0 hP _
    obtain ⟨rfl, hx, hbd, hgv⟩ := hP
    obtain ⟨scr, harrAt, hlist, hof, hsmall⟩ := hx
    obtain ⟨hcb, hkn, -, -⟩ := State.arrayAt?_spec harrAt
    have hown : s.vm.findClass R_law = some m.cls := findClass_of_methodNamed B.named
    have hts0 : ∀ c ∈ (Jvm.Cond.code x code maxLocals ret :: tables_1), c.before #[Value.ref b] s = true := atoms_spec (ws := Jvm.Cond.code x code maxLocals ret :: tables_1) B.pre
    have hts : ∀ w ∈ lw_tbl, w.before #[Value.ref b] s = true := k2_hts_sels lw_privs (fun w hw => hts0 w (List.mem_cons_of_mem _ hw)) lw_privs_ok
    have hml : c.maxLocals = 4 := B.maxLocals_eq (hts0 _ List.mem_cons_self)
    have X₀ : Stand p l e room_1 s m #[Value.ref b] below meth c s₁ [] 0 0 := Stand.of_body B
    have hh0 : s₁.heap = s.heap := by rw [B.state]; rfl
    have hsz : scr.slots.size = xs.length := by rw [← Array.length_toList, hlist, List.length_map]
    have hval : ∀ j : Nat, j < xs.length → scr.slots[j]? = some (.int (xs.getD j 0)) := fun j hj => by
      rw [← Array.getElem?_toList, hlist]
      simp [hj]
    have hbl : b < s.heap.size := (Array.getElem?_eq_some_iff.mp hcb).1
    have hX : va_X b xs.length (fun j => xs.getD j 0) s s.heap := ⟨scr, hcb, hof, hkn, hsz, hval⟩
    have K : W p l e room_1 s m #[Value.ref b] below meth c s₁.heap [] 0 0 (lw_Z below #[Value.ref b] s) (entryFrame m ([Value.ref b] : List Value).toArray 4) := by
      rw [hh0]
      exact whole_start l hbd ⟨B.exec, B.bytes, B.returns, hml, hown, hts, hX, hbl, B.notSynchronized, hgv⟩
    obtain ⟨t, a1, o, b1, b2, b3⟩ := K s₁ rfl X₀
    exact ⟨t, o, a1, b1, b2, b3⟩
theorem lw_pre_spec {args : Array Value} {s : State} (h : (Jvm.Cond.and given_1 narrow_1).before args s = true) (hr : rest_1_c.before args s = true) : ∃ (b : Addr) (xs : List Int32), lw_P b xs args s := by
  have hs := flat_of_before _ h
  have hq := flat_of_before _ hr
  have hc : (Cond.count 1).before args s = true := hs _ (by decide +kernel)
  have harr : (Cond.arrayOf (.arg 0) .int).before args s = true := hs _ (by decide +kernel)
  have hle : (Cond.le (.length (.arg 0)) (.int 1536)).before args s = true := hs _ (by decide +kernel)
  have hlen : (Cond.isInt (.length (.arg 0))).before args s = true := hq _ (by decide +kernel)
  have hall : (Cond.all (.arg 0) (.isInt (.elem (.arg 0) (.index 0)))).before args s = true := hq _ (by decide +kernel)
  obtain ⟨b, xs, hb, hx⟩ := State.ints_of_pre rfl harr hlen hall
  have hsm : xs.length < 2 ^ 31 := hx.choose_spec.2.2.2
  have hev : (Term.length (.arg 0)).eval args s none [] s = some (.int xs.length.toInt32) := hx.length_eval hb
  have hv := Cond.le_ints hev (show (Term.int 1536).eval args s none [] s = some (.int 1536) from rfl)
  have hd : xs.length.toInt32 ≤ 1536 := by
    simpa [Cond.before, Cond.holds, hv] using hle
  have hN : xs.length ≤ 1536 := (Int32.ofNat_le_ofNat hsm (by decide)).mp (show Int32.ofNat xs.length ≤ Int32.ofNat 1536 from hd)
  exact ⟨b, xs, Cond.one_arg hc (show args[0]? = some (.ref b) from hb), hx, hN, h⟩
theorem lw_comes (l : Launch) : Comes l x (Jvm.Cond.code x code maxLocals ret :: tables_1) room_1 (fun tb e args s => Calls_1 tb e args s ∧ rest_1 tb e args s ∧ Pre_1 tb e args s)
    (fun _ _ args s o t => lw_Q args s o t) := by
  intro p e ha hc hk s m args below hf hfit hheap happ hpre
  obtain ⟨b, xs, hP⟩ := lw_pre_spec hpre.2.2 hpre.2.1
  obtain ⟨k, o, h1, h2, h3, hQ⟩ := lw_walk l b xs p e ha hc hk s m args below hf ((Spec.applies_iff_loose hf).mp happ).1 hP trivial
  exact ⟨k, o, h1, h2, h3, hQ⟩
theorem lw_frame {s t : State} {o : Outcome} {args : Array Value} (h : Framed s o t [] 14 2037) :
    Framed s o t (fieldLocs frame_1_writes args s ++ arrayLocs frame_1_arrays args s ++ staticLocs frame_1_statics s) 14 2037 := h
theorem lw_limb (L : Cond) (hL : ∀ (args : Array Value) (s t : State), L.after args s (.returned (some (.int 1))) t = true) :
    ArmFor flags0 classFile x code maxLocals ret World_1 tables_1 room_1 Calls_1 rest_1 Pre_1
      (fun tb e a s o t => postC L tb e a s o t ∧ Framed s o t (fieldLocs frame_1_writes a s ++ arrayLocs frame_1_arrays a s ++ staticLocs frame_1_statics s) 14 2037) := by
  intro l _ _ _ p e ha hc hk s m args below hf hfit hheap happ hpre
  obtain ⟨k, o, h1, h2, h3, rfl, hF⟩ := lw_comes l p e ha hc hk s m args below hf hfit hheap happ hpre
  exact ⟨k, _, h1, h2, h3, hL args s _, lw_frame hF⟩
theorem i_vc : Claimed_1_1 ∧ Claimed_1_2 := ⟨lw_limb limb_1_1 (fun args s t => by simp [limb_1_1, Cond.after, Cond.holds, Cond.value]), lw_limb limb_1_2 (fun args s t => Cond.after_iff.mpr (by
  first | (rw [show limb_1_2 = Cond.eq .result (.int 1) from rfl, Cond.eq_ints (x := 1) (y := 1) rfl rfl]; simp; done) | (simp [limb_1_2, Cond.value, Term.eval]; done)))⟩
end
